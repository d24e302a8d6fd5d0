section
-- ===== PART A: goes FIRST, ahead of the names: the tables' words, and 'selects' of the private methods out of them =====
/-- a private method of a class that the tables say can be made, by its rows of tables_1 -/
def lw_okq (q : MethodName × Nat) : Prop := (q.1.cls ≠ "java/lang/invoke/MethodHandle" ∧ q.1.cls ≠ "java/lang/invoke/VarHandle") ∧ Cond.instantiable q.1.cls q.2 ∈ tables_1 ∧ Cond.privateMethod q.1 ∈ tables_1 ∧ Cond.instanceMethod q.1 ∈ tables_1
set_option maxRecDepth 100000
theorem lw_t1 {w : Cond} (h : w ∈ tables_1_1) : w ∈ tables_1 := List.mem_append_left _ h
theorem lw_t2 {w : Cond} (h : w ∈ tables_1_2) : w ∈ tables_1 := List.mem_append_right _ h
theorem lw_p0 : lw_okq (⟨"StackScheduler", "compile", "()V"⟩, 21) := ⟨⟨by decide +kernel, by decide +kernel⟩, lw_t1 (List.mem_of_getElem? (i := 4) rfl), lw_t1 (List.mem_of_getElem? (i := 91) rfl), lw_t1 (List.mem_of_getElem? (i := 92) rfl)⟩
theorem lw_p1 : lw_okq (⟨"StackScheduler", "blocksFit", "()Z"⟩, 21) := ⟨⟨by decide +kernel, by decide +kernel⟩, lw_t1 (List.mem_of_getElem? (i := 4) rfl), lw_t1 (List.mem_of_getElem? (i := 95) rfl), lw_t1 (List.mem_of_getElem? (i := 96) rfl)⟩
theorem lw_p2 : lw_okq (⟨"StackScheduler", "pushLayout", "(I)V"⟩, 21) := ⟨⟨by decide +kernel, by decide +kernel⟩, lw_t1 (List.mem_of_getElem? (i := 4) rfl), lw_t1 (List.mem_of_getElem? (i := 99) rfl), lw_t1 (List.mem_of_getElem? (i := 100) rfl)⟩
theorem lw_p3 : lw_okq (⟨"StackScheduler", "isBoundary", "(I)Z"⟩, 21) := ⟨⟨by decide +kernel, by decide +kernel⟩, lw_t1 (List.mem_of_getElem? (i := 4) rfl), lw_t1 (List.mem_of_getElem? (i := 103) rfl), lw_t1 (List.mem_of_getElem? (i := 104) rfl)⟩
theorem lw_p4 : lw_okq (⟨"StackScheduler", "compileBoundary", "(I)V"⟩, 21) := ⟨⟨by decide +kernel, by decide +kernel⟩, lw_t1 (List.mem_of_getElem? (i := 4) rfl), lw_t1 (List.mem_of_getElem? (i := 107) rfl), lw_t1 (List.mem_of_getElem? (i := 108) rfl)⟩
theorem lw_p5 : lw_okq (⟨"StackScheduler", "arrange", "()V"⟩, 21) := ⟨⟨by decide +kernel, by decide +kernel⟩, lw_t1 (List.mem_of_getElem? (i := 4) rfl), lw_t1 (List.mem_of_getElem? (i := 111) rfl), lw_t1 (List.mem_of_getElem? (i := 112) rfl)⟩
theorem lw_p6 : lw_okq (⟨"StackScheduler", "pullUp", "(I)V"⟩, 21) := ⟨⟨by decide +kernel, by decide +kernel⟩, lw_t1 (List.mem_of_getElem? (i := 4) rfl), lw_t1 (List.mem_of_getElem? (i := 115) rfl), lw_t1 (List.mem_of_getElem? (i := 116) rfl)⟩
theorem lw_p7 : lw_okq (⟨"StackScheduler", "distance", "(I)I"⟩, 21) := ⟨⟨by decide +kernel, by decide +kernel⟩, lw_t1 (List.mem_of_getElem? (i := 4) rfl), lw_t1 (List.mem_of_getElem? (i := 119) rfl), lw_t1 (List.mem_of_getElem? (i := 120) rfl)⟩
theorem lw_p8 : lw_okq (⟨"StackScheduler", "write", "(II)V"⟩, 21) := ⟨⟨by decide +kernel, by decide +kernel⟩, lw_t1 (List.mem_of_getElem? (i := 4) rfl), lw_t1 (List.mem_of_getElem? (i := 123) rfl), lw_t1 (List.mem_of_getElem? (i := 124) rfl)⟩
theorem lw_p9 : lw_okq (⟨"StackScheduler", "openBlock", "(I)V"⟩, 21) := ⟨⟨by decide +kernel, by decide +kernel⟩, lw_t1 (List.mem_of_getElem? (i := 4) rfl), lw_t1 (List.mem_of_getElem? (i := 127) rfl), lw_t1 (List.mem_of_getElem? (i := 128) rfl)⟩
theorem lw_p10 : lw_okq (⟨"StackScheduler", "closeBlock", "()V"⟩, 21) := ⟨⟨by decide +kernel, by decide +kernel⟩, lw_t1 (List.mem_of_getElem? (i := 4) rfl), lw_t1 (List.mem_of_getElem? (i := 131) rfl), lw_t1 (List.mem_of_getElem? (i := 132) rfl)⟩
theorem lw_p11 : lw_okq (⟨"StackScheduler", "compileStraight", "(I)V"⟩, 21) := ⟨⟨by decide +kernel, by decide +kernel⟩, lw_t1 (List.mem_of_getElem? (i := 4) rfl), lw_t1 (List.mem_of_getElem? (i := 135) rfl), lw_t1 (List.mem_of_getElem? (i := 136) rfl)⟩
theorem lw_p12 : lw_okq (⟨"StackScheduler", "fetch", "(IIZ)V"⟩, 21) := ⟨⟨by decide +kernel, by decide +kernel⟩, lw_t1 (List.mem_of_getElem? (i := 4) rfl), lw_t1 (List.mem_of_getElem? (i := 139) rfl), lw_t1 (List.mem_of_getElem? (i := 140) rfl)⟩
theorem lw_p13 : lw_okq (⟨"StackScheduler", "writes", "(I)I"⟩, 21) := ⟨⟨by decide +kernel, by decide +kernel⟩, lw_t1 (List.mem_of_getElem? (i := 4) rfl), lw_t1 (List.mem_of_getElem? (i := 143) rfl), lw_t1 (List.mem_of_getElem? (i := 144) rfl)⟩
theorem lw_p14 : lw_okq (⟨"StackScheduler", "wantedAfter", "(II)Z"⟩, 21) := ⟨⟨by decide +kernel, by decide +kernel⟩, lw_t1 (List.mem_of_getElem? (i := 4) rfl), lw_t1 (List.mem_of_getElem? (i := 147) rfl), lw_t1 (List.mem_of_getElem? (i := 148) rfl)⟩
theorem lw_p15 : lw_okq (⟨"StackScheduler", "reads", "(II)Z"⟩, 21) := ⟨⟨by decide +kernel, by decide +kernel⟩, lw_t1 (List.mem_of_getElem? (i := 4) rfl), lw_t1 (List.mem_of_getElem? (i := 151) rfl), lw_t1 (List.mem_of_getElem? (i := 152) rfl)⟩
def lw_privs_1 : List (MethodName × Nat) := [(⟨"StackScheduler", "compile", "()V"⟩, 21), (⟨"StackScheduler", "blocksFit", "()Z"⟩, 21), (⟨"StackScheduler", "pushLayout", "(I)V"⟩, 21), (⟨"StackScheduler", "isBoundary", "(I)Z"⟩, 21), (⟨"StackScheduler", "compileBoundary", "(I)V"⟩, 21), (⟨"StackScheduler", "arrange", "()V"⟩, 21), (⟨"StackScheduler", "pullUp", "(I)V"⟩, 21), (⟨"StackScheduler", "distance", "(I)I"⟩, 21), (⟨"StackScheduler", "write", "(II)V"⟩, 21), (⟨"StackScheduler", "openBlock", "(I)V"⟩, 21), (⟨"StackScheduler", "closeBlock", "()V"⟩, 21), (⟨"StackScheduler", "compileStraight", "(I)V"⟩, 21), (⟨"StackScheduler", "fetch", "(IIZ)V"⟩, 21), (⟨"StackScheduler", "writes", "(I)I"⟩, 21), (⟨"StackScheduler", "wantedAfter", "(II)Z"⟩, 21), (⟨"StackScheduler", "reads", "(II)Z"⟩, 21)]
theorem lw_r1 : ∀ q ∈ lw_privs_1, lw_okq q := List.forall_mem_cons.mpr ⟨lw_p0, List.forall_mem_cons.mpr ⟨lw_p1, List.forall_mem_cons.mpr ⟨lw_p2, List.forall_mem_cons.mpr ⟨lw_p3, List.forall_mem_cons.mpr ⟨lw_p4, List.forall_mem_cons.mpr ⟨lw_p5, List.forall_mem_cons.mpr ⟨lw_p6, List.forall_mem_cons.mpr ⟨lw_p7, List.forall_mem_cons.mpr ⟨lw_p8, List.forall_mem_cons.mpr ⟨lw_p9, List.forall_mem_cons.mpr ⟨lw_p10, List.forall_mem_cons.mpr ⟨lw_p11, List.forall_mem_cons.mpr ⟨lw_p12, List.forall_mem_cons.mpr ⟨lw_p13, List.forall_mem_cons.mpr ⟨lw_p14, List.forall_mem_cons.mpr ⟨lw_p15, fun _ h => absurd h List.not_mem_nil⟩⟩⟩⟩⟩⟩⟩⟩⟩⟩⟩⟩⟩⟩⟩⟩
theorem lw_p16 : lw_okq (⟨"StackScheduler", "compileArithmetic", "(I)V"⟩, 21) := ⟨⟨by decide +kernel, by decide +kernel⟩, lw_t1 (List.mem_of_getElem? (i := 4) rfl), lw_t1 (List.mem_of_getElem? (i := 155) rfl), lw_t1 (List.mem_of_getElem? (i := 156) rfl)⟩
theorem lw_p17 : lw_okq (⟨"StackScheduler", "settle", "(I)V"⟩, 21) := ⟨⟨by decide +kernel, by decide +kernel⟩, lw_t1 (List.mem_of_getElem? (i := 4) rfl), lw_t1 (List.mem_of_getElem? (i := 159) rfl), lw_t1 (List.mem_of_getElem? (i := 160) rfl)⟩
theorem lw_p18 : lw_okq (⟨"StackScheduler", "perform", "(I)I"⟩, 21) := ⟨⟨by decide +kernel, by decide +kernel⟩, lw_t1 (List.mem_of_getElem? (i := 4) rfl), lw_t1 (List.mem_of_getElem? (i := 172) rfl), lw_t1 (List.mem_of_getElem? (i := 173) rfl)⟩
theorem lw_p19 : lw_okq (⟨"StackScheduler", "compute", "(III)I"⟩, 21) := ⟨⟨by decide +kernel, by decide +kernel⟩, lw_t1 (List.mem_of_getElem? (i := 4) rfl), lw_t1 (List.mem_of_getElem? (i := 176) rfl), lw_t1 (List.mem_of_getElem? (i := 177) rfl)⟩
theorem lw_p20 : lw_okq (⟨"StackScheduler", "pull", "(I)V"⟩, 21) := ⟨⟨by decide +kernel, by decide +kernel⟩, lw_t1 (List.mem_of_getElem? (i := 4) rfl), lw_t1 (List.mem_of_getElem? (i := 180) rfl), lw_t1 (List.mem_of_getElem? (i := 181) rfl)⟩
theorem lw_p21 : lw_okq (⟨"StackScheduler", "print", "(I)V"⟩, 21) := ⟨⟨by decide +kernel, by decide +kernel⟩, lw_t1 (List.mem_of_getElem? (i := 4) rfl), lw_t1 (List.mem_of_getElem? (i := 184) rfl), lw_t1 (List.mem_of_getElem? (i := 185) rfl)⟩
theorem lw_p22 : lw_okq (⟨"StackSchedulerModel", "fits", "(IIII)Z"⟩, 9) := ⟨⟨by decide +kernel, by decide +kernel⟩, lw_t1 (List.mem_of_getElem? (i := 204) rfl), lw_t2 (List.mem_of_getElem? (i := 2) rfl), lw_t2 (List.mem_of_getElem? (i := 3) rfl)⟩
theorem lw_p23 : lw_okq (⟨"StackSchedulerModel", "isVariable", "(I)Z"⟩, 9) := ⟨⟨by decide +kernel, by decide +kernel⟩, lw_t1 (List.mem_of_getElem? (i := 204) rfl), lw_t2 (List.mem_of_getElem? (i := 6) rfl), lw_t2 (List.mem_of_getElem? (i := 7) rfl)⟩
theorem lw_p24 : lw_okq (⟨"StackSchedulerModel", "opens", "(I)Z"⟩, 9) := ⟨⟨by decide +kernel, by decide +kernel⟩, lw_t1 (List.mem_of_getElem? (i := 204) rfl), lw_t2 (List.mem_of_getElem? (i := 18) rfl), lw_t2 (List.mem_of_getElem? (i := 19) rfl)⟩
theorem lw_p25 : lw_okq (⟨"StackSchedulerModel", "elseFits", "(I)Z"⟩, 9) := ⟨⟨by decide +kernel, by decide +kernel⟩, lw_t1 (List.mem_of_getElem? (i := 204) rfl), lw_t2 (List.mem_of_getElem? (i := 22) rfl), lw_t2 (List.mem_of_getElem? (i := 23) rfl)⟩
theorem lw_p26 : lw_okq (⟨"StackSchedulerModel", "openerOf", "(I)I"⟩, 9) := ⟨⟨by decide +kernel, by decide +kernel⟩, lw_t1 (List.mem_of_getElem? (i := 204) rfl), lw_t2 (List.mem_of_getElem? (i := 26) rfl), lw_t2 (List.mem_of_getElem? (i := 27) rfl)⟩
theorem lw_p27 : lw_okq (⟨"StackSchedulerModel", "pass", "(I)I"⟩, 9) := ⟨⟨by decide +kernel, by decide +kernel⟩, lw_t1 (List.mem_of_getElem? (i := 204) rfl), lw_t2 (List.mem_of_getElem? (i := 39) rfl), lw_t2 (List.mem_of_getElem? (i := 40) rfl)⟩
theorem lw_p28 : lw_okq (⟨"StackSchedulerModel", "endOf", "(I)I"⟩, 9) := ⟨⟨by decide +kernel, by decide +kernel⟩, lw_t1 (List.mem_of_getElem? (i := 204) rfl), lw_t2 (List.mem_of_getElem? (i := 43) rfl), lw_t2 (List.mem_of_getElem? (i := 44) rfl)⟩
theorem lw_p29 : lw_okq (⟨"StackSchedulerModel", "elseOf", "(I)I"⟩, 9) := ⟨⟨by decide +kernel, by decide +kernel⟩, lw_t1 (List.mem_of_getElem? (i := 204) rfl), lw_t2 (List.mem_of_getElem? (i := 47) rfl), lw_t2 (List.mem_of_getElem? (i := 48) rfl)⟩
theorem lw_p30 : lw_okq (⟨"StackSchedulerModel", "plain", "(I)V"⟩, 9) := ⟨⟨by decide +kernel, by decide +kernel⟩, lw_t1 (List.mem_of_getElem? (i := 204) rfl), lw_t2 (List.mem_of_getElem? (i := 51) rfl), lw_t2 (List.mem_of_getElem? (i := 52) rfl)⟩
def lw_privs_2 : List (MethodName × Nat) := [(⟨"StackScheduler", "compileArithmetic", "(I)V"⟩, 21), (⟨"StackScheduler", "settle", "(I)V"⟩, 21), (⟨"StackScheduler", "perform", "(I)I"⟩, 21), (⟨"StackScheduler", "compute", "(III)I"⟩, 21), (⟨"StackScheduler", "pull", "(I)V"⟩, 21), (⟨"StackScheduler", "print", "(I)V"⟩, 21), (⟨"StackSchedulerModel", "fits", "(IIII)Z"⟩, 9), (⟨"StackSchedulerModel", "isVariable", "(I)Z"⟩, 9), (⟨"StackSchedulerModel", "opens", "(I)Z"⟩, 9), (⟨"StackSchedulerModel", "elseFits", "(I)Z"⟩, 9), (⟨"StackSchedulerModel", "openerOf", "(I)I"⟩, 9), (⟨"StackSchedulerModel", "pass", "(I)I"⟩, 9), (⟨"StackSchedulerModel", "endOf", "(I)I"⟩, 9), (⟨"StackSchedulerModel", "elseOf", "(I)I"⟩, 9), (⟨"StackSchedulerModel", "plain", "(I)V"⟩, 9)]
theorem lw_r2 : ∀ q ∈ lw_privs_2, lw_okq q := List.forall_mem_cons.mpr ⟨lw_p16, List.forall_mem_cons.mpr ⟨lw_p17, List.forall_mem_cons.mpr ⟨lw_p18, List.forall_mem_cons.mpr ⟨lw_p19, List.forall_mem_cons.mpr ⟨lw_p20, List.forall_mem_cons.mpr ⟨lw_p21, List.forall_mem_cons.mpr ⟨lw_p22, List.forall_mem_cons.mpr ⟨lw_p23, List.forall_mem_cons.mpr ⟨lw_p24, List.forall_mem_cons.mpr ⟨lw_p25, List.forall_mem_cons.mpr ⟨lw_p26, List.forall_mem_cons.mpr ⟨lw_p27, List.forall_mem_cons.mpr ⟨lw_p28, List.forall_mem_cons.mpr ⟨lw_p29, List.forall_mem_cons.mpr ⟨lw_p30, fun _ h => absurd h List.not_mem_nil⟩⟩⟩⟩⟩⟩⟩⟩⟩⟩⟩⟩⟩⟩⟩
def lw_privs : List (MethodName × Nat) := lw_privs_1 ++ (lw_privs_2)
def lw_tbl : List Cond := k2_sels lw_privs ++ tables_1
theorem lw_privs_ok : ∀ q ∈ lw_privs, lw_okq q := by
  show ∀ q ∈ lw_privs_1 ++ (lw_privs_2), lw_okq q
  exact List.forall_mem_append.mpr ⟨lw_r1, lw_r2⟩
-- ===== ONE list of words for every method: the tables' words that hold all through a run =====
def lw_all : List Cond := lw_tbl.filter goodWord
/-- a word of the tables by its place: claim/WORDS.tsv -/
theorem lw_w {w : Cond} (i : Nat) (h : lw_tbl[i]? = some w) (g : goodWord w = true) : w ∈ lw_all := List.mem_filter.mpr ⟨List.mem_of_getElem? h, g⟩
theorem lw_all_tbl {w : Cond} (h : w ∈ lw_all) : w ∈ lw_tbl := (List.mem_filter.mp h).1
theorem lw_self : GoodIn lw_all lw_all := fun w h => ⟨h, good_of_word (List.mem_filter.mp h).2⟩
/-- a class's field words, by their places -/
theorem lw_in (ws : List Cond) (ps : List Nat) (hp : ws = ps.filterMap (fun i => lw_tbl[i]?)) (hg : ws.all goodWord = true) : ∀ w ∈ ws, w ∈ lw_all := by
  intro w h
  have h1 := List.all_eq_true.mp hg w h
  rw [hp] at h
  obtain ⟨i, -, hi⟩ := List.mem_filterMap.mp h
  exact lw_w i hi h1
/-- the words of a contract for the method y with code b, L locals, answer r -/
abbrev ws_ (y : MethodName) (b : ByteArray) (L : Nat) (r : Option FieldType) : List Cond := Cond.code y b L r :: lw_all
theorem lw_meth {y : MethodName} {b : ByteArray} {L : Nat} {r : Option FieldType} (h : Cond.code y b L r ∈ lw_all) : GoodIn lw_all (ws_ y b L r) := by
  intro w hw
  rcases List.mem_cons.mp hw with e | e
  · rw [e]
    exact lw_self _ h
  · exact lw_self _ e
theorem lw_app {a c : List Cond} (ha : ∀ w ∈ a, w ∈ lw_all) (hc : GoodIn lw_all c) : GoodIn lw_all (a ++ c) := by
  intro w hw
  rcases List.mem_append.mp hw with e | e
  · exact lw_self w (ha w e)
  · exact hc w e
/-- what a call through an object asks: cwV n hts (lw_V ..) -/
theorem lw_V {own : String} {idx : Nat} {C : String} {y : MethodName} {b : ByteArray} {L : Nat} {r : Option FieldType} (h1 : Cond.methodLink own idx y ∈ lw_all) (h2 : Cond.instanceMethod y ∈ lw_all) (h3 : Cond.selects C y y ∈ lw_all) (h4 : Cond.initialized C ∈ lw_all) (h5 : Cond.code y b L r ∈ lw_all) : GoodIn lw_all (wsV own idx C y (ws_ y b L r)) := by
  refine lw_app ?_ (lw_meth h5)
  intro w hw
  simp only [List.mem_cons, List.not_mem_nil, or_false] at hw
  rcases hw with e | e | e | e
  · rw [e]; exact h1
  · rw [e]; exact h2
  · rw [e]; exact h3
  · rw [e]; exact h4
/-- what a static call asks: va_cwS n hts (lw_S ..) -/
theorem lw_S {own : String} {idx : Nat} {y : MethodName} {b : ByteArray} {L : Nat} {r : Option FieldType} (h1 : Cond.methodLink own idx y ∈ lw_all) (h2 : Cond.static y ∈ lw_all) (h3 : Cond.initialized y.cls ∈ lw_all) (h4 : Cond.code y b L r ∈ lw_all) : GoodIn lw_all (va_wsS own idx y (ws_ y b L r)) := by
  refine lw_app ?_ (lw_meth h4)
  intro w hw
  simp only [List.mem_cons, List.not_mem_nil, or_false] at hw
  rcases hw with e | e | e
  · rw [e]; exact h1
  · rw [e]; exact h2
  · rw [e]; exact h3
/-- the words of a contract for a method WITH HANDLERS (hh: its table) -/
abbrev wsW_ (y : MethodName) (b : ByteArray) (L : Nat) (r : Option FieldType) (hh : List (Nat × Nat × Nat × Nat)) : List Cond := Cond.codeWith y b L r hh :: lw_all
theorem lw_methW {y : MethodName} {b : ByteArray} {L : Nat} {r : Option FieldType} {hh : List (Nat × Nat × Nat × Nat)} (h : Cond.codeWith y b L r hh ∈ lw_all) : GoodIn lw_all (wsW_ y b L r hh) := by
  intro w hw
  rcases List.mem_cons.mp hw with e | e
  · rw [e]
    exact lw_self _ h
  · exact lw_self _ e
/-- any list of words by their places (lw_in), good -/
theorem lw_good {ws : List Cond} (h : ∀ w ∈ ws, w ∈ lw_all) : GoodIn lw_all ws := fun w hw => lw_self w (h w hw)
/-- what a call of a method with handlers asks: vx_cwVW n hts (lw_VW ..), vx_cwSW n hts (lw_SW ..) -/
theorem lw_VW {own : String} {idx : Nat} {C : String} {y : MethodName} {b : ByteArray} {L : Nat} {r : Option FieldType} {hh : List (Nat × Nat × Nat × Nat)} (h1 : Cond.methodLink own idx y ∈ lw_all) (h2 : Cond.instanceMethod y ∈ lw_all) (h3 : Cond.selects C y y ∈ lw_all) (h4 : Cond.initialized C ∈ lw_all) (h5 : Cond.codeWith y b L r hh ∈ lw_all) : GoodIn lw_all (wsV own idx C y (wsW_ y b L r hh)) := by
  refine lw_app ?_ (lw_methW h5)
  intro w hw
  simp only [List.mem_cons, List.not_mem_nil, or_false] at hw
  rcases hw with e | e | e | e
  · rw [e]; exact h1
  · rw [e]; exact h2
  · rw [e]; exact h3
  · rw [e]; exact h4
theorem lw_SW {own : String} {idx : Nat} {y : MethodName} {b : ByteArray} {L : Nat} {r : Option FieldType} {hh : List (Nat × Nat × Nat × Nat)} (h1 : Cond.methodLink own idx y ∈ lw_all) (h2 : Cond.static y ∈ lw_all) (h3 : Cond.initialized y.cls ∈ lw_all) (h4 : Cond.codeWith y b L r hh ∈ lw_all) : GoodIn lw_all (va_wsS own idx y (wsW_ y b L r hh)) := by
  refine lw_app ?_ (lw_methW h4)
  intro w hw
  simp only [List.mem_cons, List.not_mem_nil, or_false] at hw
  rcases hw with e | e | e
  · rw [e]; exact h1
  · rw [e]; exact h2
  · rw [e]; exact h3
/-- a word by its place in its run of the tables -/
theorem lw_at {r : List Cond} (hr : ∀ w ∈ r, w ∈ lw_tbl) {w : Cond} (i : Nat) (h : r[i]? = some w) : w ∈ lw_tbl := hr w (List.mem_of_getElem? h)
theorem lw_g {w : Cond} (h : w ∈ lw_tbl) (g : goodWord w = true) : w ∈ lw_all := List.mem_filter.mpr ⟨h, g⟩
theorem lw_ms : ∀ w ∈ k2_sels lw_privs, w ∈ lw_tbl := fun w h => show w ∈ k2_sels lw_privs ++ tables_1 from List.mem_append_left _ h
theorem lw_m1 : ∀ w ∈ tables_1_1, w ∈ lw_tbl := fun w h => show w ∈ k2_sels lw_privs ++ tables_1 from List.mem_append_right (k2_sels lw_privs) (show w ∈ tables_1 from List.mem_append_left _ h)
theorem lw_m2 : ∀ w ∈ tables_1_2, w ∈ lw_tbl := fun w h => show w ∈ k2_sels lw_privs ++ tables_1 from List.mem_append_right (k2_sels lw_privs) (show w ∈ tables_1 from List.mem_append_right _ h)
theorem qs0 : (Cond.selects "StackScheduler" ⟨"StackScheduler", "compile", "()V"⟩ ⟨"StackScheduler", "compile", "()V"⟩) ∈ lw_all := lw_g (lw_at lw_ms 0 rfl) rfl
theorem qs1 : (Cond.selects "StackScheduler" ⟨"StackScheduler", "blocksFit", "()Z"⟩ ⟨"StackScheduler", "blocksFit", "()Z"⟩) ∈ lw_all := lw_g (lw_at lw_ms 1 rfl) rfl
theorem qs2 : (Cond.selects "StackScheduler" ⟨"StackScheduler", "pushLayout", "(I)V"⟩ ⟨"StackScheduler", "pushLayout", "(I)V"⟩) ∈ lw_all := lw_g (lw_at lw_ms 2 rfl) rfl
theorem qs3 : (Cond.selects "StackScheduler" ⟨"StackScheduler", "isBoundary", "(I)Z"⟩ ⟨"StackScheduler", "isBoundary", "(I)Z"⟩) ∈ lw_all := lw_g (lw_at lw_ms 3 rfl) rfl
theorem qs4 : (Cond.selects "StackScheduler" ⟨"StackScheduler", "compileBoundary", "(I)V"⟩ ⟨"StackScheduler", "compileBoundary", "(I)V"⟩) ∈ lw_all := lw_g (lw_at lw_ms 4 rfl) rfl
theorem qs5 : (Cond.selects "StackScheduler" ⟨"StackScheduler", "arrange", "()V"⟩ ⟨"StackScheduler", "arrange", "()V"⟩) ∈ lw_all := lw_g (lw_at lw_ms 5 rfl) rfl
theorem qs6 : (Cond.selects "StackScheduler" ⟨"StackScheduler", "pullUp", "(I)V"⟩ ⟨"StackScheduler", "pullUp", "(I)V"⟩) ∈ lw_all := lw_g (lw_at lw_ms 6 rfl) rfl
theorem qs7 : (Cond.selects "StackScheduler" ⟨"StackScheduler", "distance", "(I)I"⟩ ⟨"StackScheduler", "distance", "(I)I"⟩) ∈ lw_all := lw_g (lw_at lw_ms 7 rfl) rfl
theorem qs8 : (Cond.selects "StackScheduler" ⟨"StackScheduler", "write", "(II)V"⟩ ⟨"StackScheduler", "write", "(II)V"⟩) ∈ lw_all := lw_g (lw_at lw_ms 8 rfl) rfl
theorem qs9 : (Cond.selects "StackScheduler" ⟨"StackScheduler", "openBlock", "(I)V"⟩ ⟨"StackScheduler", "openBlock", "(I)V"⟩) ∈ lw_all := lw_g (lw_at lw_ms 9 rfl) rfl
theorem qs10 : (Cond.selects "StackScheduler" ⟨"StackScheduler", "closeBlock", "()V"⟩ ⟨"StackScheduler", "closeBlock", "()V"⟩) ∈ lw_all := lw_g (lw_at lw_ms 10 rfl) rfl
theorem qs11 : (Cond.selects "StackScheduler" ⟨"StackScheduler", "compileStraight", "(I)V"⟩ ⟨"StackScheduler", "compileStraight", "(I)V"⟩) ∈ lw_all := lw_g (lw_at lw_ms 11 rfl) rfl
theorem qs12 : (Cond.selects "StackScheduler" ⟨"StackScheduler", "fetch", "(IIZ)V"⟩ ⟨"StackScheduler", "fetch", "(IIZ)V"⟩) ∈ lw_all := lw_g (lw_at lw_ms 12 rfl) rfl
theorem qs13 : (Cond.selects "StackScheduler" ⟨"StackScheduler", "writes", "(I)I"⟩ ⟨"StackScheduler", "writes", "(I)I"⟩) ∈ lw_all := lw_g (lw_at lw_ms 13 rfl) rfl
theorem qs14 : (Cond.selects "StackScheduler" ⟨"StackScheduler", "wantedAfter", "(II)Z"⟩ ⟨"StackScheduler", "wantedAfter", "(II)Z"⟩) ∈ lw_all := lw_g (lw_at lw_ms 14 rfl) rfl
theorem qs15 : (Cond.selects "StackScheduler" ⟨"StackScheduler", "reads", "(II)Z"⟩ ⟨"StackScheduler", "reads", "(II)Z"⟩) ∈ lw_all := lw_g (lw_at lw_ms 15 rfl) rfl
theorem qs16 : (Cond.selects "StackScheduler" ⟨"StackScheduler", "compileArithmetic", "(I)V"⟩ ⟨"StackScheduler", "compileArithmetic", "(I)V"⟩) ∈ lw_all := lw_g (lw_at lw_ms 16 rfl) rfl
theorem qs17 : (Cond.selects "StackScheduler" ⟨"StackScheduler", "settle", "(I)V"⟩ ⟨"StackScheduler", "settle", "(I)V"⟩) ∈ lw_all := lw_g (lw_at lw_ms 17 rfl) rfl
theorem qs18 : (Cond.selects "StackScheduler" ⟨"StackScheduler", "perform", "(I)I"⟩ ⟨"StackScheduler", "perform", "(I)I"⟩) ∈ lw_all := lw_g (lw_at lw_ms 18 rfl) rfl
theorem qs19 : (Cond.selects "StackScheduler" ⟨"StackScheduler", "compute", "(III)I"⟩ ⟨"StackScheduler", "compute", "(III)I"⟩) ∈ lw_all := lw_g (lw_at lw_ms 19 rfl) rfl
theorem qs20 : (Cond.selects "StackScheduler" ⟨"StackScheduler", "pull", "(I)V"⟩ ⟨"StackScheduler", "pull", "(I)V"⟩) ∈ lw_all := lw_g (lw_at lw_ms 20 rfl) rfl
theorem qs21 : (Cond.selects "StackScheduler" ⟨"StackScheduler", "print", "(I)V"⟩ ⟨"StackScheduler", "print", "(I)V"⟩) ∈ lw_all := lw_g (lw_at lw_ms 21 rfl) rfl
theorem qs22 : (Cond.selects "StackSchedulerModel" ⟨"StackSchedulerModel", "fits", "(IIII)Z"⟩ ⟨"StackSchedulerModel", "fits", "(IIII)Z"⟩) ∈ lw_all := lw_g (lw_at lw_ms 22 rfl) rfl
theorem qs23 : (Cond.selects "StackSchedulerModel" ⟨"StackSchedulerModel", "isVariable", "(I)Z"⟩ ⟨"StackSchedulerModel", "isVariable", "(I)Z"⟩) ∈ lw_all := lw_g (lw_at lw_ms 23 rfl) rfl
theorem qs24 : (Cond.selects "StackSchedulerModel" ⟨"StackSchedulerModel", "opens", "(I)Z"⟩ ⟨"StackSchedulerModel", "opens", "(I)Z"⟩) ∈ lw_all := lw_g (lw_at lw_ms 24 rfl) rfl
theorem qs25 : (Cond.selects "StackSchedulerModel" ⟨"StackSchedulerModel", "elseFits", "(I)Z"⟩ ⟨"StackSchedulerModel", "elseFits", "(I)Z"⟩) ∈ lw_all := lw_g (lw_at lw_ms 25 rfl) rfl
theorem qs26 : (Cond.selects "StackSchedulerModel" ⟨"StackSchedulerModel", "openerOf", "(I)I"⟩ ⟨"StackSchedulerModel", "openerOf", "(I)I"⟩) ∈ lw_all := lw_g (lw_at lw_ms 26 rfl) rfl
theorem qs27 : (Cond.selects "StackSchedulerModel" ⟨"StackSchedulerModel", "pass", "(I)I"⟩ ⟨"StackSchedulerModel", "pass", "(I)I"⟩) ∈ lw_all := lw_g (lw_at lw_ms 27 rfl) rfl
theorem qs28 : (Cond.selects "StackSchedulerModel" ⟨"StackSchedulerModel", "endOf", "(I)I"⟩ ⟨"StackSchedulerModel", "endOf", "(I)I"⟩) ∈ lw_all := lw_g (lw_at lw_ms 28 rfl) rfl
theorem qs29 : (Cond.selects "StackSchedulerModel" ⟨"StackSchedulerModel", "elseOf", "(I)I"⟩ ⟨"StackSchedulerModel", "elseOf", "(I)I"⟩) ∈ lw_all := lw_g (lw_at lw_ms 29 rfl) rfl
theorem qs30 : (Cond.selects "StackSchedulerModel" ⟨"StackSchedulerModel", "plain", "(I)V"⟩ ⟨"StackSchedulerModel", "plain", "(I)V"⟩) ∈ lw_all := lw_g (lw_at lw_ms 30 rfl) rfl
end
section
/-! StackScheduler -/
set_option maxRecDepth 100000
def RX0 : String := "StackScheduler"
def TX0 : u_T := fun k => match k with
  | 0 => ("StackScheduler", "length", "I", false)
  | 1 => ("StackScheduler", "kind", "[B", true)
  | 2 => ("StackScheduler", "first", "[I", true)
  | 3 => ("StackScheduler", "second", "[B", true)
  | 4 => ("StackScheduler", "third", "[B", true)
  | 5 => ("StackScheduler", "variables", "[I", true)
  | 6 => ("StackScheduler", "compiled", "Z", false)
  | 7 => ("StackScheduler", "isSound", "Z", false)
  | 8 => ("StackScheduler", "codeEnd", "I", false)
  | 9 => ("StackScheduler", "operation", "[B", true)
  | 10 => ("StackScheduler", "operand", "[I", true)
  | 11 => ("StackScheduler", "layout", "[B", true)
  | 12 => ("StackScheduler", "layoutDepth", "I", false)
  | 13 => ("StackScheduler", "openLoops", "I", false)
  | 14 => ("StackScheduler", "openBlocks", "I", false)
  | 15 => ("StackScheduler", "blockKind", "[B", true)
  | 16 => ("StackScheduler", "blockPatch", "[S", true)
  | 17 => ("StackScheduler", "stack", "[I", true)
  | 18 => ("StackScheduler", "depth", "I", false)
  | 19 => ("StackScheduler", "printedCount", "I", false)
  | _ => ("StackScheduler", "printedValues", "[I", true)
def tyX0 : Nat → FieldType := fun k => match k with
  | 0 => .int
  | 1 => .array .byte
  | 2 => .array .int
  | 3 => .array .byte
  | 4 => .array .byte
  | 5 => .array .int
  | 6 => .boolean
  | 7 => .boolean
  | 8 => .int
  | 9 => .array .byte
  | 10 => .array .int
  | 11 => .array .byte
  | 12 => .int
  | 13 => .int
  | 14 => .int
  | 15 => .array .byte
  | 16 => .array .short
  | 17 => .array .int
  | 18 => .int
  | 19 => .int
  | _ => .array .int
abbrev wsX00 : List Cond := u_ws RX0 TX0 21
set_option maxRecDepth 100000 in
theorem nmX0 : ∀ a, a < 21 → ∀ b, b < 21 → a ≠ b → (TX0 a).2.1 ≠ (TX0 b).2.1 := by decide +kernel
set_option maxRecDepth 100000 in
theorem tyX0_ok : ∀ k, k < 21 → parseFieldDescriptor (TX0 k).2.2.1 = some (tyX0 k) := by decide +kernel
abbrev cX0_init : ByteArray := prog_1_method_1_code
def yX0_init : MethodName := ⟨RX0, "<init>", "()V"⟩
abbrev cX0_add : ByteArray := prog_1_method_2_code
def yX0_add : MethodName := ⟨RX0, "add", "(IIII)I"⟩
abbrev cX0_retract : ByteArray := prog_1_method_3_code
def yX0_retract : MethodName := ⟨RX0, "retract", "()I"⟩
abbrev cX0_sound : ByteArray := prog_1_method_4_code
def yX0_sound : MethodName := ⟨RX0, "sound", "()Z"⟩
abbrev cX0_compile : ByteArray := prog_1_method_24_code
def yX0_compile : MethodName := ⟨RX0, "compile", "()V"⟩
abbrev cX0_blocksFit : ByteArray := prog_1_method_15_code
def yX0_blocksFit : MethodName := ⟨RX0, "blocksFit", "()Z"⟩
abbrev cX0_pushLayout : ByteArray := prog_1_method_21_code
def yX0_pushLayout : MethodName := ⟨RX0, "pushLayout", "(I)V"⟩
abbrev cX0_isBoundary : ByteArray := prog_1_method_16_code
def yX0_isBoundary : MethodName := ⟨RX0, "isBoundary", "(I)Z"⟩
abbrev cX0_compileBoundary : ByteArray := prog_1_method_30_code
def yX0_compileBoundary : MethodName := ⟨RX0, "compileBoundary", "(I)V"⟩
abbrev cX0_arrange : ByteArray := prog_1_method_29_code
def yX0_arrange : MethodName := ⟨RX0, "arrange", "()V"⟩
abbrev cX0_pullUp : ByteArray := prog_1_method_23_code
def yX0_pullUp : MethodName := ⟨RX0, "pullUp", "(I)V"⟩
abbrev cX0_distance : ByteArray := prog_1_method_22_code
def yX0_distance : MethodName := ⟨RX0, "distance", "(I)I"⟩
abbrev cX0_write : ByteArray := prog_1_method_20_code
def yX0_write : MethodName := ⟨RX0, "write", "(II)V"⟩
abbrev cX0_openBlock : ByteArray := prog_1_method_31_code
def yX0_openBlock : MethodName := ⟨RX0, "openBlock", "(I)V"⟩
abbrev cX0_closeBlock : ByteArray := prog_1_method_32_code
def yX0_closeBlock : MethodName := ⟨RX0, "closeBlock", "()V"⟩
abbrev cX0_compileStraight : ByteArray := prog_1_method_25_code
def yX0_compileStraight : MethodName := ⟨RX0, "compileStraight", "(I)V"⟩
abbrev cX0_fetch : ByteArray := prog_1_method_27_code
def yX0_fetch : MethodName := ⟨RX0, "fetch", "(IIZ)V"⟩
abbrev cX0_writes : ByteArray := prog_1_method_18_code
def yX0_writes : MethodName := ⟨RX0, "writes", "(I)I"⟩
abbrev cX0_wantedAfter : ByteArray := prog_1_method_19_code
def yX0_wantedAfter : MethodName := ⟨RX0, "wantedAfter", "(II)Z"⟩
abbrev cX0_reads : ByteArray := prog_1_method_17_code
def yX0_reads : MethodName := ⟨RX0, "reads", "(II)Z"⟩
abbrev cX0_compileArithmetic : ByteArray := prog_1_method_26_code
def yX0_compileArithmetic : MethodName := ⟨RX0, "compileArithmetic", "(I)V"⟩
abbrev cX0_settle : ByteArray := prog_1_method_28_code
def yX0_settle : MethodName := ⟨RX0, "settle", "(I)V"⟩
abbrev cX0_put : ByteArray := prog_1_method_5_code
def yX0_put : MethodName := ⟨RX0, "put", "(II)Z"⟩
abbrev cX0_run : ByteArray := prog_1_method_6_code
def yX0_run : MethodName := ⟨RX0, "run", "()I"⟩
abbrev cX0_perform : ByteArray := prog_1_method_11_code
def yX0_perform : MethodName := ⟨RX0, "perform", "(I)I"⟩
abbrev cX0_compute : ByteArray := prog_1_method_13_code
def yX0_compute : MethodName := ⟨RX0, "compute", "(III)I"⟩
abbrev cX0_pull : ByteArray := prog_1_method_12_code
def yX0_pull : MethodName := ⟨RX0, "pull", "(I)V"⟩
abbrev cX0_print : ByteArray := prog_1_method_14_code
def yX0_print : MethodName := ⟨RX0, "print", "(I)V"⟩
abbrev cX0_variable : ByteArray := prog_1_method_7_code
def yX0_variable : MethodName := ⟨RX0, "variable", "(I)I"⟩
abbrev cX0_printed : ByteArray := prog_1_method_8_code
def yX0_printed : MethodName := ⟨RX0, "printed", "()I"⟩
abbrev cX0_output : ByteArray := prog_1_method_9_code
def yX0_output : MethodName := ⟨RX0, "output", "(I)I"⟩
abbrev cX0_clear : ByteArray := prog_1_method_10_code
def yX0_clear : MethodName := ⟨RX0, "clear", "()V"⟩
theorem q32 : (Jvm.Cond.initialized "StackScheduler") ∈ lw_all := lw_g (lw_at lw_m1 1 rfl) rfl
theorem q35 : (Jvm.Cond.instantiable "StackScheduler" (21 : Nat)) ∈ lw_all := lw_g (lw_at lw_m1 4 rfl) rfl
theorem q37 : (Jvm.Cond.instanceMethod ({ cls := "StackScheduler", name := "<init>", desc := "()V" } : Jvm.MethodName)) ∈ lw_all := lw_g (lw_at lw_m1 6 rfl) rfl
theorem q38 : (Jvm.Cond.code ({ cls := "StackScheduler", name := "<init>", desc := "()V" } : Jvm.MethodName) prog_1_method_1_code (1 : Nat) (Option.none : Option Jvm.ClassFile.FieldType)) ∈ lw_all := lw_g (lw_at lw_m1 7 rfl) rfl
theorem q39 : (Jvm.Cond.methodLink "StackScheduler" (1 : Nat) ({ cls := "java/lang/Object", name := "<init>", desc := "()V" } : Jvm.MethodName)) ∈ lw_all := lw_g (lw_at lw_m1 8 rfl) rfl
theorem q42 : (Jvm.Cond.fieldLink "StackScheduler" (48 : Nat) "StackScheduler" "length" "I") ∈ lw_all := lw_g (lw_at lw_m1 11 rfl) rfl
theorem q43 : (Jvm.Cond.fieldLink "StackScheduler" (7 : Nat) "StackScheduler" "kind" "[B") ∈ lw_all := lw_g (lw_at lw_m1 12 rfl) rfl
theorem q44 : (Jvm.Cond.fieldLink "StackScheduler" (13 : Nat) "StackScheduler" "first" "[I") ∈ lw_all := lw_g (lw_at lw_m1 13 rfl) rfl
theorem q45 : (Jvm.Cond.fieldLink "StackScheduler" (17 : Nat) "StackScheduler" "second" "[B") ∈ lw_all := lw_g (lw_at lw_m1 14 rfl) rfl
theorem q46 : (Jvm.Cond.fieldLink "StackScheduler" (20 : Nat) "StackScheduler" "third" "[B") ∈ lw_all := lw_g (lw_at lw_m1 15 rfl) rfl
theorem q47 : (Jvm.Cond.fieldLink "StackScheduler" (23 : Nat) "StackScheduler" "variables" "[I") ∈ lw_all := lw_g (lw_at lw_m1 16 rfl) rfl
theorem q48 : (Jvm.Cond.fieldLink "StackScheduler" (52 : Nat) "StackScheduler" "compiled" "Z") ∈ lw_all := lw_g (lw_at lw_m1 17 rfl) rfl
theorem q49 : (Jvm.Cond.fieldLink "StackScheduler" (59 : Nat) "StackScheduler" "isSound" "Z") ∈ lw_all := lw_g (lw_at lw_m1 18 rfl) rfl
theorem q50 : (Jvm.Cond.fieldLink "StackScheduler" (69 : Nat) "StackScheduler" "codeEnd" "I") ∈ lw_all := lw_g (lw_at lw_m1 19 rfl) rfl
theorem q51 : (Jvm.Cond.fieldLink "StackScheduler" (26 : Nat) "StackScheduler" "operation" "[B") ∈ lw_all := lw_g (lw_at lw_m1 20 rfl) rfl
theorem q52 : (Jvm.Cond.fieldLink "StackScheduler" (29 : Nat) "StackScheduler" "operand" "[I") ∈ lw_all := lw_g (lw_at lw_m1 21 rfl) rfl
theorem q53 : (Jvm.Cond.fieldLink "StackScheduler" (32 : Nat) "StackScheduler" "layout" "[B") ∈ lw_all := lw_g (lw_at lw_m1 22 rfl) rfl
theorem q54 : (Jvm.Cond.fieldLink "StackScheduler" (98 : Nat) "StackScheduler" "layoutDepth" "I") ∈ lw_all := lw_g (lw_at lw_m1 23 rfl) rfl
theorem q55 : (Jvm.Cond.fieldLink "StackScheduler" (112 : Nat) "StackScheduler" "openLoops" "I") ∈ lw_all := lw_g (lw_at lw_m1 24 rfl) rfl
theorem q56 : (Jvm.Cond.fieldLink "StackScheduler" (115 : Nat) "StackScheduler" "openBlocks" "I") ∈ lw_all := lw_g (lw_at lw_m1 25 rfl) rfl
theorem q57 : (Jvm.Cond.fieldLink "StackScheduler" (35 : Nat) "StackScheduler" "blockKind" "[B") ∈ lw_all := lw_g (lw_at lw_m1 26 rfl) rfl
theorem q58 : (Jvm.Cond.fieldLink "StackScheduler" (38 : Nat) "StackScheduler" "blockPatch" "[S") ∈ lw_all := lw_g (lw_at lw_m1 27 rfl) rfl
theorem q59 : (Jvm.Cond.fieldLink "StackScheduler" (42 : Nat) "StackScheduler" "stack" "[I") ∈ lw_all := lw_g (lw_at lw_m1 28 rfl) rfl
theorem q60 : (Jvm.Cond.fieldLink "StackScheduler" (62 : Nat) "StackScheduler" "depth" "I") ∈ lw_all := lw_g (lw_at lw_m1 29 rfl) rfl
theorem q61 : (Jvm.Cond.fieldLink "StackScheduler" (65 : Nat) "StackScheduler" "printedCount" "I") ∈ lw_all := lw_g (lw_at lw_m1 30 rfl) rfl
theorem q62 : (Jvm.Cond.fieldLink "StackScheduler" (45 : Nat) "StackScheduler" "printedValues" "[I") ∈ lw_all := lw_g (lw_at lw_m1 31 rfl) rfl
theorem q63 : (Jvm.Cond.lays "StackScheduler" "StackScheduler" "length" "I") ∈ lw_all := lw_g (lw_at lw_m1 32 rfl) rfl
theorem q64 : (Jvm.Cond.soleField "StackScheduler" "length") ∈ lw_all := lw_g (lw_at lw_m1 33 rfl) rfl
theorem q65 : (Jvm.Cond.laysFinal "StackScheduler" "StackScheduler" "kind" "[B") ∈ lw_all := lw_g (lw_at lw_m1 34 rfl) rfl
theorem q66 : (Jvm.Cond.soleField "StackScheduler" "kind") ∈ lw_all := lw_g (lw_at lw_m1 35 rfl) rfl
theorem q67 : (Jvm.Cond.laysFinal "StackScheduler" "StackScheduler" "first" "[I") ∈ lw_all := lw_g (lw_at lw_m1 36 rfl) rfl
theorem q68 : (Jvm.Cond.soleField "StackScheduler" "first") ∈ lw_all := lw_g (lw_at lw_m1 37 rfl) rfl
theorem q69 : (Jvm.Cond.laysFinal "StackScheduler" "StackScheduler" "second" "[B") ∈ lw_all := lw_g (lw_at lw_m1 38 rfl) rfl
theorem q70 : (Jvm.Cond.soleField "StackScheduler" "second") ∈ lw_all := lw_g (lw_at lw_m1 39 rfl) rfl
theorem q71 : (Jvm.Cond.laysFinal "StackScheduler" "StackScheduler" "third" "[B") ∈ lw_all := lw_g (lw_at lw_m1 40 rfl) rfl
theorem q72 : (Jvm.Cond.soleField "StackScheduler" "third") ∈ lw_all := lw_g (lw_at lw_m1 41 rfl) rfl
theorem q73 : (Jvm.Cond.laysFinal "StackScheduler" "StackScheduler" "variables" "[I") ∈ lw_all := lw_g (lw_at lw_m1 42 rfl) rfl
theorem q74 : (Jvm.Cond.soleField "StackScheduler" "variables") ∈ lw_all := lw_g (lw_at lw_m1 43 rfl) rfl
theorem q75 : (Jvm.Cond.lays "StackScheduler" "StackScheduler" "compiled" "Z") ∈ lw_all := lw_g (lw_at lw_m1 44 rfl) rfl
theorem q76 : (Jvm.Cond.soleField "StackScheduler" "compiled") ∈ lw_all := lw_g (lw_at lw_m1 45 rfl) rfl
theorem q77 : (Jvm.Cond.lays "StackScheduler" "StackScheduler" "isSound" "Z") ∈ lw_all := lw_g (lw_at lw_m1 46 rfl) rfl
theorem q78 : (Jvm.Cond.soleField "StackScheduler" "isSound") ∈ lw_all := lw_g (lw_at lw_m1 47 rfl) rfl
theorem q79 : (Jvm.Cond.lays "StackScheduler" "StackScheduler" "codeEnd" "I") ∈ lw_all := lw_g (lw_at lw_m1 48 rfl) rfl
theorem q80 : (Jvm.Cond.soleField "StackScheduler" "codeEnd") ∈ lw_all := lw_g (lw_at lw_m1 49 rfl) rfl
theorem q81 : (Jvm.Cond.laysFinal "StackScheduler" "StackScheduler" "operation" "[B") ∈ lw_all := lw_g (lw_at lw_m1 50 rfl) rfl
theorem q82 : (Jvm.Cond.soleField "StackScheduler" "operation") ∈ lw_all := lw_g (lw_at lw_m1 51 rfl) rfl
theorem q83 : (Jvm.Cond.laysFinal "StackScheduler" "StackScheduler" "operand" "[I") ∈ lw_all := lw_g (lw_at lw_m1 52 rfl) rfl
theorem q84 : (Jvm.Cond.soleField "StackScheduler" "operand") ∈ lw_all := lw_g (lw_at lw_m1 53 rfl) rfl
theorem q85 : (Jvm.Cond.laysFinal "StackScheduler" "StackScheduler" "layout" "[B") ∈ lw_all := lw_g (lw_at lw_m1 54 rfl) rfl
theorem q86 : (Jvm.Cond.soleField "StackScheduler" "layout") ∈ lw_all := lw_g (lw_at lw_m1 55 rfl) rfl
theorem q87 : (Jvm.Cond.lays "StackScheduler" "StackScheduler" "layoutDepth" "I") ∈ lw_all := lw_g (lw_at lw_m1 56 rfl) rfl
theorem q88 : (Jvm.Cond.soleField "StackScheduler" "layoutDepth") ∈ lw_all := lw_g (lw_at lw_m1 57 rfl) rfl
theorem q89 : (Jvm.Cond.lays "StackScheduler" "StackScheduler" "openLoops" "I") ∈ lw_all := lw_g (lw_at lw_m1 58 rfl) rfl
theorem q90 : (Jvm.Cond.soleField "StackScheduler" "openLoops") ∈ lw_all := lw_g (lw_at lw_m1 59 rfl) rfl
theorem q91 : (Jvm.Cond.lays "StackScheduler" "StackScheduler" "openBlocks" "I") ∈ lw_all := lw_g (lw_at lw_m1 60 rfl) rfl
theorem q92 : (Jvm.Cond.soleField "StackScheduler" "openBlocks") ∈ lw_all := lw_g (lw_at lw_m1 61 rfl) rfl
theorem q93 : (Jvm.Cond.laysFinal "StackScheduler" "StackScheduler" "blockKind" "[B") ∈ lw_all := lw_g (lw_at lw_m1 62 rfl) rfl
theorem q94 : (Jvm.Cond.soleField "StackScheduler" "blockKind") ∈ lw_all := lw_g (lw_at lw_m1 63 rfl) rfl
theorem q95 : (Jvm.Cond.laysFinal "StackScheduler" "StackScheduler" "blockPatch" "[S") ∈ lw_all := lw_g (lw_at lw_m1 64 rfl) rfl
theorem q96 : (Jvm.Cond.soleField "StackScheduler" "blockPatch") ∈ lw_all := lw_g (lw_at lw_m1 65 rfl) rfl
theorem q97 : (Jvm.Cond.laysFinal "StackScheduler" "StackScheduler" "stack" "[I") ∈ lw_all := lw_g (lw_at lw_m1 66 rfl) rfl
theorem q98 : (Jvm.Cond.soleField "StackScheduler" "stack") ∈ lw_all := lw_g (lw_at lw_m1 67 rfl) rfl
theorem q99 : (Jvm.Cond.lays "StackScheduler" "StackScheduler" "depth" "I") ∈ lw_all := lw_g (lw_at lw_m1 68 rfl) rfl
theorem q100 : (Jvm.Cond.soleField "StackScheduler" "depth") ∈ lw_all := lw_g (lw_at lw_m1 69 rfl) rfl
theorem q101 : (Jvm.Cond.lays "StackScheduler" "StackScheduler" "printedCount" "I") ∈ lw_all := lw_g (lw_at lw_m1 70 rfl) rfl
theorem q102 : (Jvm.Cond.soleField "StackScheduler" "printedCount") ∈ lw_all := lw_g (lw_at lw_m1 71 rfl) rfl
theorem q103 : (Jvm.Cond.laysFinal "StackScheduler" "StackScheduler" "printedValues" "[I") ∈ lw_all := lw_g (lw_at lw_m1 72 rfl) rfl
theorem q104 : (Jvm.Cond.soleField "StackScheduler" "printedValues") ∈ lw_all := lw_g (lw_at lw_m1 73 rfl) rfl
theorem q105 : (Jvm.Cond.superclass "StackScheduler" "java/lang/Object") ∈ lw_all := lw_g (lw_at lw_m1 74 rfl) rfl
theorem q110 : (Jvm.Cond.instanceMethod ({ cls := "StackScheduler", name := "add", desc := "(IIII)I" } : Jvm.MethodName)) ∈ lw_all := lw_g (lw_at lw_m1 79 rfl) rfl
theorem q111 : (Jvm.Cond.selects "StackScheduler" ({ cls := "StackScheduler", name := "add", desc := "(IIII)I" } : Jvm.MethodName) ({ cls := "StackScheduler", name := "add", desc := "(IIII)I" } : Jvm.MethodName)) ∈ lw_all := lw_g (lw_at lw_m1 80 rfl) rfl
theorem q112 : (Jvm.Cond.code ({ cls := "StackScheduler", name := "add", desc := "(IIII)I" } : Jvm.MethodName) prog_1_method_2_code (5 : Nat) (Option.some Jvm.ClassFile.FieldType.int)) ∈ lw_all := lw_g (lw_at lw_m1 81 rfl) rfl
theorem q114 : (Jvm.Cond.instanceMethod ({ cls := "StackScheduler", name := "retract", desc := "()I" } : Jvm.MethodName)) ∈ lw_all := lw_g (lw_at lw_m1 83 rfl) rfl
theorem q115 : (Jvm.Cond.selects "StackScheduler" ({ cls := "StackScheduler", name := "retract", desc := "()I" } : Jvm.MethodName) ({ cls := "StackScheduler", name := "retract", desc := "()I" } : Jvm.MethodName)) ∈ lw_all := lw_g (lw_at lw_m1 84 rfl) rfl
theorem q116 : (Jvm.Cond.code ({ cls := "StackScheduler", name := "retract", desc := "()I" } : Jvm.MethodName) prog_1_method_3_code (1 : Nat) (Option.some Jvm.ClassFile.FieldType.int)) ∈ lw_all := lw_g (lw_at lw_m1 85 rfl) rfl
theorem q118 : (Jvm.Cond.instanceMethod ({ cls := "StackScheduler", name := "sound", desc := "()Z" } : Jvm.MethodName)) ∈ lw_all := lw_g (lw_at lw_m1 87 rfl) rfl
theorem q119 : (Jvm.Cond.selects "StackScheduler" ({ cls := "StackScheduler", name := "sound", desc := "()Z" } : Jvm.MethodName) ({ cls := "StackScheduler", name := "sound", desc := "()Z" } : Jvm.MethodName)) ∈ lw_all := lw_g (lw_at lw_m1 88 rfl) rfl
theorem q120 : (Jvm.Cond.code ({ cls := "StackScheduler", name := "sound", desc := "()Z" } : Jvm.MethodName) prog_1_method_4_code (1 : Nat) (Option.some Jvm.ClassFile.FieldType.boolean)) ∈ lw_all := lw_g (lw_at lw_m1 89 rfl) rfl
theorem q121 : (Jvm.Cond.methodLink "StackScheduler" (56 : Nat) ({ cls := "StackScheduler", name := "compile", desc := "()V" } : Jvm.MethodName)) ∈ lw_all := lw_g (lw_at lw_m1 90 rfl) rfl
theorem q122 : (Jvm.Cond.privateMethod ({ cls := "StackScheduler", name := "compile", desc := "()V" } : Jvm.MethodName)) ∈ lw_tbl := lw_at lw_m1 91 rfl
theorem q123 : (Jvm.Cond.instanceMethod ({ cls := "StackScheduler", name := "compile", desc := "()V" } : Jvm.MethodName)) ∈ lw_all := lw_g (lw_at lw_m1 92 rfl) rfl
theorem q124 : (Jvm.Cond.code ({ cls := "StackScheduler", name := "compile", desc := "()V" } : Jvm.MethodName) prog_1_method_24_code (2 : Nat) (Option.none : Option Jvm.ClassFile.FieldType)) ∈ lw_all := lw_g (lw_at lw_m1 93 rfl) rfl
theorem q125 : (Jvm.Cond.methodLink "StackScheduler" (108 : Nat) ({ cls := "StackScheduler", name := "blocksFit", desc := "()Z" } : Jvm.MethodName)) ∈ lw_all := lw_g (lw_at lw_m1 94 rfl) rfl
theorem q126 : (Jvm.Cond.privateMethod ({ cls := "StackScheduler", name := "blocksFit", desc := "()Z" } : Jvm.MethodName)) ∈ lw_tbl := lw_at lw_m1 95 rfl
theorem q127 : (Jvm.Cond.instanceMethod ({ cls := "StackScheduler", name := "blocksFit", desc := "()Z" } : Jvm.MethodName)) ∈ lw_all := lw_g (lw_at lw_m1 96 rfl) rfl
theorem q128 : (Jvm.Cond.code ({ cls := "StackScheduler", name := "blocksFit", desc := "()Z" } : Jvm.MethodName) prog_1_method_15_code (4 : Nat) (Option.some Jvm.ClassFile.FieldType.boolean)) ∈ lw_all := lw_g (lw_at lw_m1 97 rfl) rfl
theorem q129 : (Jvm.Cond.methodLink "StackScheduler" (118 : Nat) ({ cls := "StackScheduler", name := "pushLayout", desc := "(I)V" } : Jvm.MethodName)) ∈ lw_all := lw_g (lw_at lw_m1 98 rfl) rfl
theorem q130 : (Jvm.Cond.privateMethod ({ cls := "StackScheduler", name := "pushLayout", desc := "(I)V" } : Jvm.MethodName)) ∈ lw_tbl := lw_at lw_m1 99 rfl
theorem q131 : (Jvm.Cond.instanceMethod ({ cls := "StackScheduler", name := "pushLayout", desc := "(I)V" } : Jvm.MethodName)) ∈ lw_all := lw_g (lw_at lw_m1 100 rfl) rfl
theorem q132 : (Jvm.Cond.code ({ cls := "StackScheduler", name := "pushLayout", desc := "(I)V" } : Jvm.MethodName) prog_1_method_21_code (2 : Nat) (Option.none : Option Jvm.ClassFile.FieldType)) ∈ lw_all := lw_g (lw_at lw_m1 101 rfl) rfl
theorem q133 : (Jvm.Cond.methodLink "StackScheduler" (87 : Nat) ({ cls := "StackScheduler", name := "isBoundary", desc := "(I)Z" } : Jvm.MethodName)) ∈ lw_all := lw_g (lw_at lw_m1 102 rfl) rfl
theorem q134 : (Jvm.Cond.privateMethod ({ cls := "StackScheduler", name := "isBoundary", desc := "(I)Z" } : Jvm.MethodName)) ∈ lw_tbl := lw_at lw_m1 103 rfl
theorem q135 : (Jvm.Cond.instanceMethod ({ cls := "StackScheduler", name := "isBoundary", desc := "(I)Z" } : Jvm.MethodName)) ∈ lw_all := lw_g (lw_at lw_m1 104 rfl) rfl
theorem q136 : (Jvm.Cond.code ({ cls := "StackScheduler", name := "isBoundary", desc := "(I)Z" } : Jvm.MethodName) prog_1_method_16_code (2 : Nat) (Option.some Jvm.ClassFile.FieldType.boolean)) ∈ lw_all := lw_g (lw_at lw_m1 105 rfl) rfl
theorem q137 : (Jvm.Cond.methodLink "StackScheduler" (121 : Nat) ({ cls := "StackScheduler", name := "compileBoundary", desc := "(I)V" } : Jvm.MethodName)) ∈ lw_all := lw_g (lw_at lw_m1 106 rfl) rfl
theorem q138 : (Jvm.Cond.privateMethod ({ cls := "StackScheduler", name := "compileBoundary", desc := "(I)V" } : Jvm.MethodName)) ∈ lw_tbl := lw_at lw_m1 107 rfl
theorem q139 : (Jvm.Cond.instanceMethod ({ cls := "StackScheduler", name := "compileBoundary", desc := "(I)V" } : Jvm.MethodName)) ∈ lw_all := lw_g (lw_at lw_m1 108 rfl) rfl
theorem q140 : (Jvm.Cond.code ({ cls := "StackScheduler", name := "compileBoundary", desc := "(I)V" } : Jvm.MethodName) prog_1_method_30_code (4 : Nat) (Option.none : Option Jvm.ClassFile.FieldType)) ∈ lw_all := lw_g (lw_at lw_m1 109 rfl) rfl
theorem q141 : (Jvm.Cond.methodLink "StackScheduler" (127 : Nat) ({ cls := "StackScheduler", name := "arrange", desc := "()V" } : Jvm.MethodName)) ∈ lw_all := lw_g (lw_at lw_m1 110 rfl) rfl
theorem q142 : (Jvm.Cond.privateMethod ({ cls := "StackScheduler", name := "arrange", desc := "()V" } : Jvm.MethodName)) ∈ lw_tbl := lw_at lw_m1 111 rfl
theorem q143 : (Jvm.Cond.instanceMethod ({ cls := "StackScheduler", name := "arrange", desc := "()V" } : Jvm.MethodName)) ∈ lw_all := lw_g (lw_at lw_m1 112 rfl) rfl
theorem q144 : (Jvm.Cond.code ({ cls := "StackScheduler", name := "arrange", desc := "()V" } : Jvm.MethodName) prog_1_method_29_code (4 : Nat) (Option.none : Option Jvm.ClassFile.FieldType)) ∈ lw_all := lw_g (lw_at lw_m1 113 rfl) rfl
theorem q145 : (Jvm.Cond.methodLink "StackScheduler" (143 : Nat) ({ cls := "StackScheduler", name := "pullUp", desc := "(I)V" } : Jvm.MethodName)) ∈ lw_all := lw_g (lw_at lw_m1 114 rfl) rfl
theorem q146 : (Jvm.Cond.privateMethod ({ cls := "StackScheduler", name := "pullUp", desc := "(I)V" } : Jvm.MethodName)) ∈ lw_tbl := lw_at lw_m1 115 rfl
theorem q147 : (Jvm.Cond.instanceMethod ({ cls := "StackScheduler", name := "pullUp", desc := "(I)V" } : Jvm.MethodName)) ∈ lw_all := lw_g (lw_at lw_m1 116 rfl) rfl
theorem q148 : (Jvm.Cond.code ({ cls := "StackScheduler", name := "pullUp", desc := "(I)V" } : Jvm.MethodName) prog_1_method_23_code (4 : Nat) (Option.none : Option Jvm.ClassFile.FieldType)) ∈ lw_all := lw_g (lw_at lw_m1 117 rfl) rfl
theorem q149 : (Jvm.Cond.methodLink "StackScheduler" (101 : Nat) ({ cls := "StackScheduler", name := "distance", desc := "(I)I" } : Jvm.MethodName)) ∈ lw_all := lw_g (lw_at lw_m1 118 rfl) rfl
theorem q150 : (Jvm.Cond.privateMethod ({ cls := "StackScheduler", name := "distance", desc := "(I)I" } : Jvm.MethodName)) ∈ lw_tbl := lw_at lw_m1 119 rfl
theorem q151 : (Jvm.Cond.instanceMethod ({ cls := "StackScheduler", name := "distance", desc := "(I)I" } : Jvm.MethodName)) ∈ lw_all := lw_g (lw_at lw_m1 120 rfl) rfl
theorem q152 : (Jvm.Cond.code ({ cls := "StackScheduler", name := "distance", desc := "(I)I" } : Jvm.MethodName) prog_1_method_22_code (3 : Nat) (Option.some Jvm.ClassFile.FieldType.int)) ∈ lw_all := lw_g (lw_at lw_m1 121 rfl) rfl
theorem q153 : (Jvm.Cond.methodLink "StackScheduler" (104 : Nat) ({ cls := "StackScheduler", name := "write", desc := "(II)V" } : Jvm.MethodName)) ∈ lw_all := lw_g (lw_at lw_m1 122 rfl) rfl
theorem q154 : (Jvm.Cond.privateMethod ({ cls := "StackScheduler", name := "write", desc := "(II)V" } : Jvm.MethodName)) ∈ lw_tbl := lw_at lw_m1 123 rfl
theorem q155 : (Jvm.Cond.instanceMethod ({ cls := "StackScheduler", name := "write", desc := "(II)V" } : Jvm.MethodName)) ∈ lw_all := lw_g (lw_at lw_m1 124 rfl) rfl
theorem q156 : (Jvm.Cond.code ({ cls := "StackScheduler", name := "write", desc := "(II)V" } : Jvm.MethodName) prog_1_method_20_code (3 : Nat) (Option.none : Option Jvm.ClassFile.FieldType)) ∈ lw_all := lw_g (lw_at lw_m1 125 rfl) rfl
theorem q157 : (Jvm.Cond.methodLink "StackScheduler" (146 : Nat) ({ cls := "StackScheduler", name := "openBlock", desc := "(I)V" } : Jvm.MethodName)) ∈ lw_all := lw_g (lw_at lw_m1 126 rfl) rfl
theorem q158 : (Jvm.Cond.privateMethod ({ cls := "StackScheduler", name := "openBlock", desc := "(I)V" } : Jvm.MethodName)) ∈ lw_tbl := lw_at lw_m1 127 rfl
theorem q159 : (Jvm.Cond.instanceMethod ({ cls := "StackScheduler", name := "openBlock", desc := "(I)V" } : Jvm.MethodName)) ∈ lw_all := lw_g (lw_at lw_m1 128 rfl) rfl
theorem q160 : (Jvm.Cond.code ({ cls := "StackScheduler", name := "openBlock", desc := "(I)V" } : Jvm.MethodName) prog_1_method_31_code (2 : Nat) (Option.none : Option Jvm.ClassFile.FieldType)) ∈ lw_all := lw_g (lw_at lw_m1 129 rfl) rfl
theorem q161 : (Jvm.Cond.methodLink "StackScheduler" (149 : Nat) ({ cls := "StackScheduler", name := "closeBlock", desc := "()V" } : Jvm.MethodName)) ∈ lw_all := lw_g (lw_at lw_m1 130 rfl) rfl
theorem q162 : (Jvm.Cond.privateMethod ({ cls := "StackScheduler", name := "closeBlock", desc := "()V" } : Jvm.MethodName)) ∈ lw_tbl := lw_at lw_m1 131 rfl
theorem q163 : (Jvm.Cond.instanceMethod ({ cls := "StackScheduler", name := "closeBlock", desc := "()V" } : Jvm.MethodName)) ∈ lw_all := lw_g (lw_at lw_m1 132 rfl) rfl
theorem q164 : (Jvm.Cond.code ({ cls := "StackScheduler", name := "closeBlock", desc := "()V" } : Jvm.MethodName) prog_1_method_32_code (2 : Nat) (Option.none : Option Jvm.ClassFile.FieldType)) ∈ lw_all := lw_g (lw_at lw_m1 133 rfl) rfl
theorem q165 : (Jvm.Cond.methodLink "StackScheduler" (124 : Nat) ({ cls := "StackScheduler", name := "compileStraight", desc := "(I)V" } : Jvm.MethodName)) ∈ lw_all := lw_g (lw_at lw_m1 134 rfl) rfl
theorem q166 : (Jvm.Cond.privateMethod ({ cls := "StackScheduler", name := "compileStraight", desc := "(I)V" } : Jvm.MethodName)) ∈ lw_tbl := lw_at lw_m1 135 rfl
theorem q167 : (Jvm.Cond.instanceMethod ({ cls := "StackScheduler", name := "compileStraight", desc := "(I)V" } : Jvm.MethodName)) ∈ lw_all := lw_g (lw_at lw_m1 136 rfl) rfl
theorem q168 : (Jvm.Cond.code ({ cls := "StackScheduler", name := "compileStraight", desc := "(I)V" } : Jvm.MethodName) prog_1_method_25_code (4 : Nat) (Option.none : Option Jvm.ClassFile.FieldType)) ∈ lw_all := lw_g (lw_at lw_m1 137 rfl) rfl
theorem q169 : (Jvm.Cond.methodLink "StackScheduler" (130 : Nat) ({ cls := "StackScheduler", name := "fetch", desc := "(IIZ)V" } : Jvm.MethodName)) ∈ lw_all := lw_g (lw_at lw_m1 138 rfl) rfl
theorem q170 : (Jvm.Cond.privateMethod ({ cls := "StackScheduler", name := "fetch", desc := "(IIZ)V" } : Jvm.MethodName)) ∈ lw_tbl := lw_at lw_m1 139 rfl
theorem q171 : (Jvm.Cond.instanceMethod ({ cls := "StackScheduler", name := "fetch", desc := "(IIZ)V" } : Jvm.MethodName)) ∈ lw_all := lw_g (lw_at lw_m1 140 rfl) rfl
theorem q172 : (Jvm.Cond.code ({ cls := "StackScheduler", name := "fetch", desc := "(IIZ)V" } : Jvm.MethodName) prog_1_method_27_code (6 : Nat) (Option.none : Option Jvm.ClassFile.FieldType)) ∈ lw_all := lw_g (lw_at lw_m1 141 rfl) rfl
theorem q173 : (Jvm.Cond.methodLink "StackScheduler" (95 : Nat) ({ cls := "StackScheduler", name := "writes", desc := "(I)I" } : Jvm.MethodName)) ∈ lw_all := lw_g (lw_at lw_m1 142 rfl) rfl
theorem q174 : (Jvm.Cond.privateMethod ({ cls := "StackScheduler", name := "writes", desc := "(I)I" } : Jvm.MethodName)) ∈ lw_tbl := lw_at lw_m1 143 rfl
theorem q175 : (Jvm.Cond.instanceMethod ({ cls := "StackScheduler", name := "writes", desc := "(I)I" } : Jvm.MethodName)) ∈ lw_all := lw_g (lw_at lw_m1 144 rfl) rfl
theorem q176 : (Jvm.Cond.code ({ cls := "StackScheduler", name := "writes", desc := "(I)I" } : Jvm.MethodName) prog_1_method_18_code (3 : Nat) (Option.some Jvm.ClassFile.FieldType.int)) ∈ lw_all := lw_g (lw_at lw_m1 145 rfl) rfl
theorem q177 : (Jvm.Cond.methodLink "StackScheduler" (140 : Nat) ({ cls := "StackScheduler", name := "wantedAfter", desc := "(II)Z" } : Jvm.MethodName)) ∈ lw_all := lw_g (lw_at lw_m1 146 rfl) rfl
theorem q178 : (Jvm.Cond.privateMethod ({ cls := "StackScheduler", name := "wantedAfter", desc := "(II)Z" } : Jvm.MethodName)) ∈ lw_tbl := lw_at lw_m1 147 rfl
theorem q179 : (Jvm.Cond.instanceMethod ({ cls := "StackScheduler", name := "wantedAfter", desc := "(II)Z" } : Jvm.MethodName)) ∈ lw_all := lw_g (lw_at lw_m1 148 rfl) rfl
theorem q180 : (Jvm.Cond.code ({ cls := "StackScheduler", name := "wantedAfter", desc := "(II)Z" } : Jvm.MethodName) prog_1_method_19_code (4 : Nat) (Option.some Jvm.ClassFile.FieldType.boolean)) ∈ lw_all := lw_g (lw_at lw_m1 149 rfl) rfl
theorem q181 : (Jvm.Cond.methodLink "StackScheduler" (91 : Nat) ({ cls := "StackScheduler", name := "reads", desc := "(II)Z" } : Jvm.MethodName)) ∈ lw_all := lw_g (lw_at lw_m1 150 rfl) rfl
theorem q182 : (Jvm.Cond.privateMethod ({ cls := "StackScheduler", name := "reads", desc := "(II)Z" } : Jvm.MethodName)) ∈ lw_tbl := lw_at lw_m1 151 rfl
theorem q183 : (Jvm.Cond.instanceMethod ({ cls := "StackScheduler", name := "reads", desc := "(II)Z" } : Jvm.MethodName)) ∈ lw_all := lw_g (lw_at lw_m1 152 rfl) rfl
theorem q184 : (Jvm.Cond.code ({ cls := "StackScheduler", name := "reads", desc := "(II)Z" } : Jvm.MethodName) prog_1_method_17_code (4 : Nat) (Option.some Jvm.ClassFile.FieldType.boolean)) ∈ lw_all := lw_g (lw_at lw_m1 153 rfl) rfl
theorem q185 : (Jvm.Cond.methodLink "StackScheduler" (134 : Nat) ({ cls := "StackScheduler", name := "compileArithmetic", desc := "(I)V" } : Jvm.MethodName)) ∈ lw_all := lw_g (lw_at lw_m1 154 rfl) rfl
theorem q186 : (Jvm.Cond.privateMethod ({ cls := "StackScheduler", name := "compileArithmetic", desc := "(I)V" } : Jvm.MethodName)) ∈ lw_tbl := lw_at lw_m1 155 rfl
theorem q187 : (Jvm.Cond.instanceMethod ({ cls := "StackScheduler", name := "compileArithmetic", desc := "(I)V" } : Jvm.MethodName)) ∈ lw_all := lw_g (lw_at lw_m1 156 rfl) rfl
theorem q188 : (Jvm.Cond.code ({ cls := "StackScheduler", name := "compileArithmetic", desc := "(I)V" } : Jvm.MethodName) prog_1_method_26_code (5 : Nat) (Option.none : Option Jvm.ClassFile.FieldType)) ∈ lw_all := lw_g (lw_at lw_m1 157 rfl) rfl
theorem q189 : (Jvm.Cond.methodLink "StackScheduler" (137 : Nat) ({ cls := "StackScheduler", name := "settle", desc := "(I)V" } : Jvm.MethodName)) ∈ lw_all := lw_g (lw_at lw_m1 158 rfl) rfl
theorem q190 : (Jvm.Cond.privateMethod ({ cls := "StackScheduler", name := "settle", desc := "(I)V" } : Jvm.MethodName)) ∈ lw_tbl := lw_at lw_m1 159 rfl
theorem q191 : (Jvm.Cond.instanceMethod ({ cls := "StackScheduler", name := "settle", desc := "(I)V" } : Jvm.MethodName)) ∈ lw_all := lw_g (lw_at lw_m1 160 rfl) rfl
theorem q192 : (Jvm.Cond.code ({ cls := "StackScheduler", name := "settle", desc := "(I)V" } : Jvm.MethodName) prog_1_method_28_code (2 : Nat) (Option.none : Option Jvm.ClassFile.FieldType)) ∈ lw_all := lw_g (lw_at lw_m1 161 rfl) rfl
theorem q194 : (Jvm.Cond.instanceMethod ({ cls := "StackScheduler", name := "put", desc := "(II)Z" } : Jvm.MethodName)) ∈ lw_all := lw_g (lw_at lw_m1 163 rfl) rfl
theorem q195 : (Jvm.Cond.selects "StackScheduler" ({ cls := "StackScheduler", name := "put", desc := "(II)Z" } : Jvm.MethodName) ({ cls := "StackScheduler", name := "put", desc := "(II)Z" } : Jvm.MethodName)) ∈ lw_all := lw_g (lw_at lw_m1 164 rfl) rfl
theorem q196 : (Jvm.Cond.code ({ cls := "StackScheduler", name := "put", desc := "(II)Z" } : Jvm.MethodName) prog_1_method_5_code (3 : Nat) (Option.some Jvm.ClassFile.FieldType.boolean)) ∈ lw_all := lw_g (lw_at lw_m1 165 rfl) rfl
theorem q198 : (Jvm.Cond.instanceMethod ({ cls := "StackScheduler", name := "run", desc := "()I" } : Jvm.MethodName)) ∈ lw_all := lw_g (lw_at lw_m1 167 rfl) rfl
theorem q199 : (Jvm.Cond.selects "StackScheduler" ({ cls := "StackScheduler", name := "run", desc := "()I" } : Jvm.MethodName) ({ cls := "StackScheduler", name := "run", desc := "()I" } : Jvm.MethodName)) ∈ lw_all := lw_g (lw_at lw_m1 168 rfl) rfl
theorem q200 : (Jvm.Cond.code ({ cls := "StackScheduler", name := "run", desc := "()I" } : Jvm.MethodName) prog_1_method_6_code (3 : Nat) (Option.some Jvm.ClassFile.FieldType.int)) ∈ lw_all := lw_g (lw_at lw_m1 169 rfl) rfl
theorem q201 : (Jvm.Cond.constant "StackScheduler" (68 : Nat) (90000 : Int32)) ∈ lw_all := lw_g (lw_at lw_m1 170 rfl) rfl
theorem q202 : (Jvm.Cond.methodLink "StackScheduler" (72 : Nat) ({ cls := "StackScheduler", name := "perform", desc := "(I)I" } : Jvm.MethodName)) ∈ lw_all := lw_g (lw_at lw_m1 171 rfl) rfl
theorem q203 : (Jvm.Cond.privateMethod ({ cls := "StackScheduler", name := "perform", desc := "(I)I" } : Jvm.MethodName)) ∈ lw_tbl := lw_at lw_m1 172 rfl
theorem q204 : (Jvm.Cond.instanceMethod ({ cls := "StackScheduler", name := "perform", desc := "(I)I" } : Jvm.MethodName)) ∈ lw_all := lw_g (lw_at lw_m1 173 rfl) rfl
theorem q205 : (Jvm.Cond.code ({ cls := "StackScheduler", name := "perform", desc := "(I)I" } : Jvm.MethodName) prog_1_method_11_code (5 : Nat) (Option.some Jvm.ClassFile.FieldType.int)) ∈ lw_all := lw_g (lw_at lw_m1 174 rfl) rfl
theorem q206 : (Jvm.Cond.methodLink "StackScheduler" (76 : Nat) ({ cls := "StackScheduler", name := "compute", desc := "(III)I" } : Jvm.MethodName)) ∈ lw_all := lw_g (lw_at lw_m1 175 rfl) rfl
theorem q207 : (Jvm.Cond.privateMethod ({ cls := "StackScheduler", name := "compute", desc := "(III)I" } : Jvm.MethodName)) ∈ lw_tbl := lw_at lw_m1 176 rfl
theorem q208 : (Jvm.Cond.instanceMethod ({ cls := "StackScheduler", name := "compute", desc := "(III)I" } : Jvm.MethodName)) ∈ lw_all := lw_g (lw_at lw_m1 177 rfl) rfl
theorem q209 : (Jvm.Cond.code ({ cls := "StackScheduler", name := "compute", desc := "(III)I" } : Jvm.MethodName) prog_1_method_13_code (4 : Nat) (Option.some Jvm.ClassFile.FieldType.int)) ∈ lw_all := lw_g (lw_at lw_m1 178 rfl) rfl
theorem q210 : (Jvm.Cond.methodLink "StackScheduler" (80 : Nat) ({ cls := "StackScheduler", name := "pull", desc := "(I)V" } : Jvm.MethodName)) ∈ lw_all := lw_g (lw_at lw_m1 179 rfl) rfl
theorem q211 : (Jvm.Cond.privateMethod ({ cls := "StackScheduler", name := "pull", desc := "(I)V" } : Jvm.MethodName)) ∈ lw_tbl := lw_at lw_m1 180 rfl
theorem q212 : (Jvm.Cond.instanceMethod ({ cls := "StackScheduler", name := "pull", desc := "(I)V" } : Jvm.MethodName)) ∈ lw_all := lw_g (lw_at lw_m1 181 rfl) rfl
theorem q213 : (Jvm.Cond.code ({ cls := "StackScheduler", name := "pull", desc := "(I)V" } : Jvm.MethodName) prog_1_method_12_code (4 : Nat) (Option.none : Option Jvm.ClassFile.FieldType)) ∈ lw_all := lw_g (lw_at lw_m1 182 rfl) rfl
theorem q214 : (Jvm.Cond.methodLink "StackScheduler" (84 : Nat) ({ cls := "StackScheduler", name := "print", desc := "(I)V" } : Jvm.MethodName)) ∈ lw_all := lw_g (lw_at lw_m1 183 rfl) rfl
theorem q215 : (Jvm.Cond.privateMethod ({ cls := "StackScheduler", name := "print", desc := "(I)V" } : Jvm.MethodName)) ∈ lw_tbl := lw_at lw_m1 184 rfl
theorem q216 : (Jvm.Cond.instanceMethod ({ cls := "StackScheduler", name := "print", desc := "(I)V" } : Jvm.MethodName)) ∈ lw_all := lw_g (lw_at lw_m1 185 rfl) rfl
theorem q217 : (Jvm.Cond.code ({ cls := "StackScheduler", name := "print", desc := "(I)V" } : Jvm.MethodName) prog_1_method_14_code (2 : Nat) (Option.none : Option Jvm.ClassFile.FieldType)) ∈ lw_all := lw_g (lw_at lw_m1 186 rfl) rfl
theorem q219 : (Jvm.Cond.instanceMethod ({ cls := "StackScheduler", name := "variable", desc := "(I)I" } : Jvm.MethodName)) ∈ lw_all := lw_g (lw_at lw_m1 188 rfl) rfl
theorem q220 : (Jvm.Cond.selects "StackScheduler" ({ cls := "StackScheduler", name := "variable", desc := "(I)I" } : Jvm.MethodName) ({ cls := "StackScheduler", name := "variable", desc := "(I)I" } : Jvm.MethodName)) ∈ lw_all := lw_g (lw_at lw_m1 189 rfl) rfl
theorem q221 : (Jvm.Cond.code ({ cls := "StackScheduler", name := "variable", desc := "(I)I" } : Jvm.MethodName) prog_1_method_7_code (2 : Nat) (Option.some Jvm.ClassFile.FieldType.int)) ∈ lw_all := lw_g (lw_at lw_m1 190 rfl) rfl
theorem q223 : (Jvm.Cond.instanceMethod ({ cls := "StackScheduler", name := "printed", desc := "()I" } : Jvm.MethodName)) ∈ lw_all := lw_g (lw_at lw_m1 192 rfl) rfl
theorem q224 : (Jvm.Cond.selects "StackScheduler" ({ cls := "StackScheduler", name := "printed", desc := "()I" } : Jvm.MethodName) ({ cls := "StackScheduler", name := "printed", desc := "()I" } : Jvm.MethodName)) ∈ lw_all := lw_g (lw_at lw_m1 193 rfl) rfl
theorem q225 : (Jvm.Cond.code ({ cls := "StackScheduler", name := "printed", desc := "()I" } : Jvm.MethodName) prog_1_method_8_code (1 : Nat) (Option.some Jvm.ClassFile.FieldType.int)) ∈ lw_all := lw_g (lw_at lw_m1 194 rfl) rfl
theorem q227 : (Jvm.Cond.instanceMethod ({ cls := "StackScheduler", name := "output", desc := "(I)I" } : Jvm.MethodName)) ∈ lw_all := lw_g (lw_at lw_m1 196 rfl) rfl
theorem q228 : (Jvm.Cond.selects "StackScheduler" ({ cls := "StackScheduler", name := "output", desc := "(I)I" } : Jvm.MethodName) ({ cls := "StackScheduler", name := "output", desc := "(I)I" } : Jvm.MethodName)) ∈ lw_all := lw_g (lw_at lw_m1 197 rfl) rfl
theorem q229 : (Jvm.Cond.code ({ cls := "StackScheduler", name := "output", desc := "(I)I" } : Jvm.MethodName) prog_1_method_9_code (2 : Nat) (Option.some Jvm.ClassFile.FieldType.int)) ∈ lw_all := lw_g (lw_at lw_m1 198 rfl) rfl
theorem q231 : (Jvm.Cond.instanceMethod ({ cls := "StackScheduler", name := "clear", desc := "()V" } : Jvm.MethodName)) ∈ lw_all := lw_g (lw_at lw_m1 200 rfl) rfl
theorem q232 : (Jvm.Cond.selects "StackScheduler" ({ cls := "StackScheduler", name := "clear", desc := "()V" } : Jvm.MethodName) ({ cls := "StackScheduler", name := "clear", desc := "()V" } : Jvm.MethodName)) ∈ lw_all := lw_g (lw_at lw_m1 201 rfl) rfl
theorem q233 : (Jvm.Cond.code ({ cls := "StackScheduler", name := "clear", desc := "()V" } : Jvm.MethodName) prog_1_method_10_code (2 : Nat) (Option.none : Option Jvm.ClassFile.FieldType)) ∈ lw_all := lw_g (lw_at lw_m1 202 rfl) rfl
theorem in_X0 : ∀ w ∈ wsX00, w ∈ lw_all := lw_in wsX00 [63, 65, 67, 69, 71, 73, 75, 77, 79, 81, 83, 85, 87, 89, 91, 93, 95, 97, 99, 101, 103] (by decide +kernel) (by decide +kernel)

/-! StackSchedulerModel -/
set_option maxRecDepth 100000
def RX1 : String := "StackSchedulerModel"
def TX1 : u_T := fun k => match k with
  | 0 => ("StackSchedulerModel", "n", "I", false)
  | 1 => ("StackSchedulerModel", "kind", "[I", false)
  | 2 => ("StackSchedulerModel", "a", "[I", false)
  | 3 => ("StackSchedulerModel", "b", "[I", false)
  | 4 => ("StackSchedulerModel", "c", "[I", false)
  | 5 => ("StackSchedulerModel", "var", "[I", false)
  | 6 => ("StackSchedulerModel", "out", "[I", false)
  | 7 => ("StackSchedulerModel", "printed", "I", false)
  | _ => ("StackSchedulerModel", "left", "[I", false)
def tyX1 : Nat → FieldType := fun k => match k with
  | 0 => .int
  | 1 => .array .int
  | 2 => .array .int
  | 3 => .array .int
  | 4 => .array .int
  | 5 => .array .int
  | 6 => .array .int
  | 7 => .int
  | _ => .array .int
abbrev wsX10 : List Cond := u_ws RX1 TX1 9
theorem nmX1 : ∀ a, a < 9 → ∀ b, b < 9 → a ≠ b → (TX1 a).2.1 ≠ (TX1 b).2.1 := by decide +kernel
theorem tyX1_ok : ∀ k, k < 9 → parseFieldDescriptor (TX1 k).2.2.1 = some (tyX1 k) := by decide +kernel
abbrev cX1_init : ByteArray := prog_3_method_1_code
def yX1_init : MethodName := ⟨RX1, "<init>", "()V"⟩
abbrev cX1_add : ByteArray := prog_3_method_4_code
def yX1_add : MethodName := ⟨RX1, "add", "(IIII)I"⟩
abbrev cX1_fits : ByteArray := prog_3_method_3_code
def yX1_fits : MethodName := ⟨RX1, "fits", "(IIII)Z"⟩
abbrev cX1_isVariable : ByteArray := prog_3_method_2_code
def yX1_isVariable : MethodName := ⟨RX1, "isVariable", "(I)Z"⟩
abbrev cX1_retract : ByteArray := prog_3_method_5_code
def yX1_retract : MethodName := ⟨RX1, "retract", "()I"⟩
abbrev cX1_sound : ByteArray := prog_3_method_11_code
def yX1_sound : MethodName := ⟨RX1, "sound", "()Z"⟩
abbrev cX1_opens : ByteArray := prog_3_method_6_code
def yX1_opens : MethodName := ⟨RX1, "opens", "(I)Z"⟩
abbrev cX1_elseFits : ByteArray := prog_3_method_10_code
def yX1_elseFits : MethodName := ⟨RX1, "elseFits", "(I)Z"⟩
abbrev cX1_openerOf : ByteArray := prog_3_method_8_code
def yX1_openerOf : MethodName := ⟨RX1, "openerOf", "(I)I"⟩
abbrev cX1_put : ByteArray := prog_3_method_12_code
def yX1_put : MethodName := ⟨RX1, "put", "(II)Z"⟩
abbrev cX1_run : ByteArray := prog_3_method_15_code
def yX1_run : MethodName := ⟨RX1, "run", "()I"⟩
abbrev cX1_pass : ByteArray := prog_3_method_14_code
def yX1_pass : MethodName := ⟨RX1, "pass", "(I)I"⟩
abbrev cX1_endOf : ByteArray := prog_3_method_7_code
def yX1_endOf : MethodName := ⟨RX1, "endOf", "(I)I"⟩
abbrev cX1_elseOf : ByteArray := prog_3_method_9_code
def yX1_elseOf : MethodName := ⟨RX1, "elseOf", "(I)I"⟩
abbrev cX1_plain : ByteArray := prog_3_method_13_code
def yX1_plain : MethodName := ⟨RX1, "plain", "(I)V"⟩
abbrev cX1_variable : ByteArray := prog_3_method_16_code
def yX1_variable : MethodName := ⟨RX1, "variable", "(I)I"⟩
abbrev cX1_printed : ByteArray := prog_3_method_17_code
def yX1_printed : MethodName := ⟨RX1, "printed", "()I"⟩
abbrev cX1_output : ByteArray := prog_3_method_18_code
def yX1_output : MethodName := ⟨RX1, "output", "(I)I"⟩
abbrev cX1_clear : ByteArray := prog_3_method_19_code
def yX1_clear : MethodName := ⟨RX1, "clear", "()V"⟩
theorem q33 : (Jvm.Cond.initialized "StackSchedulerModel") ∈ lw_all := lw_g (lw_at lw_m1 2 rfl) rfl
theorem q235 : (Jvm.Cond.instantiable "StackSchedulerModel" (9 : Nat)) ∈ lw_all := lw_g (lw_at lw_m1 204 rfl) rfl
theorem q237 : (Jvm.Cond.instanceMethod ({ cls := "StackSchedulerModel", name := "<init>", desc := "()V" } : Jvm.MethodName)) ∈ lw_all := lw_g (lw_at lw_m1 206 rfl) rfl
theorem q238 : (Jvm.Cond.code ({ cls := "StackSchedulerModel", name := "<init>", desc := "()V" } : Jvm.MethodName) prog_3_method_1_code (1 : Nat) (Option.none : Option Jvm.ClassFile.FieldType)) ∈ lw_all := lw_g (lw_at lw_m1 207 rfl) rfl
theorem q239 : (Jvm.Cond.methodLink "StackSchedulerModel" (1 : Nat) ({ cls := "java/lang/Object", name := "<init>", desc := "()V" } : Jvm.MethodName)) ∈ lw_all := lw_g (lw_at lw_m1 208 rfl) rfl
theorem q240 : (Jvm.Cond.fieldLink "StackSchedulerModel" (7 : Nat) "StackSchedulerModel" "n" "I") ∈ lw_all := lw_g (lw_at lw_m1 209 rfl) rfl
theorem q241 : (Jvm.Cond.fieldLink "StackSchedulerModel" (13 : Nat) "StackSchedulerModel" "kind" "[I") ∈ lw_all := lw_g (lw_at lw_m1 210 rfl) rfl
theorem q242 : (Jvm.Cond.fieldLink "StackSchedulerModel" (17 : Nat) "StackSchedulerModel" "a" "[I") ∈ lw_all := lw_g (lw_at lw_m1 211 rfl) rfl
theorem q243 : (Jvm.Cond.fieldLink "StackSchedulerModel" (20 : Nat) "StackSchedulerModel" "b" "[I") ∈ lw_all := lw_g (lw_at lw_m1 212 rfl) rfl
theorem q244 : (Jvm.Cond.fieldLink "StackSchedulerModel" (23 : Nat) "StackSchedulerModel" "c" "[I") ∈ lw_all := lw_g (lw_at lw_m1 213 rfl) rfl
theorem q245 : (Jvm.Cond.fieldLink "StackSchedulerModel" (26 : Nat) "StackSchedulerModel" "var" "[I") ∈ lw_all := lw_g (lw_at lw_m1 214 rfl) rfl
theorem q246 : (Jvm.Cond.fieldLink "StackSchedulerModel" (29 : Nat) "StackSchedulerModel" "out" "[I") ∈ lw_all := lw_g (lw_at lw_m1 215 rfl) rfl
theorem q247 : (Jvm.Cond.fieldLink "StackSchedulerModel" (32 : Nat) "StackSchedulerModel" "printed" "I") ∈ lw_all := lw_g (lw_at lw_m1 216 rfl) rfl
theorem q248 : (Jvm.Cond.fieldLink "StackSchedulerModel" (35 : Nat) "StackSchedulerModel" "left" "[I") ∈ lw_all := lw_g (lw_at lw_m1 217 rfl) rfl
theorem q249 : (Jvm.Cond.lays "StackSchedulerModel" "StackSchedulerModel" "n" "I") ∈ lw_all := lw_g (lw_at lw_m1 218 rfl) rfl
theorem q250 : (Jvm.Cond.soleField "StackSchedulerModel" "n") ∈ lw_all := lw_g (lw_at lw_m1 219 rfl) rfl
theorem q251 : (Jvm.Cond.lays "StackSchedulerModel" "StackSchedulerModel" "kind" "[I") ∈ lw_all := lw_g (lw_at lw_m1 220 rfl) rfl
theorem q252 : (Jvm.Cond.soleField "StackSchedulerModel" "kind") ∈ lw_all := lw_g (lw_at lw_m1 221 rfl) rfl
theorem q253 : (Jvm.Cond.lays "StackSchedulerModel" "StackSchedulerModel" "a" "[I") ∈ lw_all := lw_g (lw_at lw_m1 222 rfl) rfl
theorem q254 : (Jvm.Cond.soleField "StackSchedulerModel" "a") ∈ lw_all := lw_g (lw_at lw_m1 223 rfl) rfl
theorem q255 : (Jvm.Cond.lays "StackSchedulerModel" "StackSchedulerModel" "b" "[I") ∈ lw_all := lw_g (lw_at lw_m1 224 rfl) rfl
theorem q256 : (Jvm.Cond.soleField "StackSchedulerModel" "b") ∈ lw_all := lw_g (lw_at lw_m1 225 rfl) rfl
theorem q257 : (Jvm.Cond.lays "StackSchedulerModel" "StackSchedulerModel" "c" "[I") ∈ lw_all := lw_g (lw_at lw_m1 226 rfl) rfl
theorem q258 : (Jvm.Cond.soleField "StackSchedulerModel" "c") ∈ lw_all := lw_g (lw_at lw_m1 227 rfl) rfl
theorem q259 : (Jvm.Cond.lays "StackSchedulerModel" "StackSchedulerModel" "var" "[I") ∈ lw_all := lw_g (lw_at lw_m1 228 rfl) rfl
theorem q260 : (Jvm.Cond.soleField "StackSchedulerModel" "var") ∈ lw_all := lw_g (lw_at lw_m1 229 rfl) rfl
theorem q261 : (Jvm.Cond.lays "StackSchedulerModel" "StackSchedulerModel" "out" "[I") ∈ lw_all := lw_g (lw_at lw_m1 230 rfl) rfl
theorem q262 : (Jvm.Cond.soleField "StackSchedulerModel" "out") ∈ lw_all := lw_g (lw_at lw_m1 231 rfl) rfl
theorem q263 : (Jvm.Cond.lays "StackSchedulerModel" "StackSchedulerModel" "printed" "I") ∈ lw_all := lw_g (lw_at lw_m1 232 rfl) rfl
theorem q264 : (Jvm.Cond.soleField "StackSchedulerModel" "printed") ∈ lw_all := lw_g (lw_at lw_m1 233 rfl) rfl
theorem q265 : (Jvm.Cond.lays "StackSchedulerModel" "StackSchedulerModel" "left" "[I") ∈ lw_all := lw_g (lw_at lw_m1 234 rfl) rfl
theorem q266 : (Jvm.Cond.soleField "StackSchedulerModel" "left") ∈ lw_all := lw_g (lw_at lw_m1 235 rfl) rfl
theorem q267 : (Jvm.Cond.superclass "StackSchedulerModel" "java/lang/Object") ∈ lw_all := lw_g (lw_at lw_m1 236 rfl) rfl
theorem q269 : (Jvm.Cond.instanceMethod ({ cls := "StackSchedulerModel", name := "add", desc := "(IIII)I" } : Jvm.MethodName)) ∈ lw_all := lw_g (lw_at lw_m1 238 rfl) rfl
theorem q270 : (Jvm.Cond.selects "StackSchedulerModel" ({ cls := "StackSchedulerModel", name := "add", desc := "(IIII)I" } : Jvm.MethodName) ({ cls := "StackSchedulerModel", name := "add", desc := "(IIII)I" } : Jvm.MethodName)) ∈ lw_all := lw_g (lw_at lw_m1 239 rfl) rfl
theorem q271 : (Jvm.Cond.code ({ cls := "StackSchedulerModel", name := "add", desc := "(IIII)I" } : Jvm.MethodName) prog_3_method_4_code (5 : Nat) (Option.some Jvm.ClassFile.FieldType.int)) ∈ lw_all := lw_g (lw_at lw_m2 0 rfl) rfl
theorem q272 : (Jvm.Cond.methodLink "StackSchedulerModel" (42 : Nat) ({ cls := "StackSchedulerModel", name := "fits", desc := "(IIII)Z" } : Jvm.MethodName)) ∈ lw_all := lw_g (lw_at lw_m2 1 rfl) rfl
theorem q273 : (Jvm.Cond.privateMethod ({ cls := "StackSchedulerModel", name := "fits", desc := "(IIII)Z" } : Jvm.MethodName)) ∈ lw_tbl := lw_at lw_m2 2 rfl
theorem q274 : (Jvm.Cond.instanceMethod ({ cls := "StackSchedulerModel", name := "fits", desc := "(IIII)Z" } : Jvm.MethodName)) ∈ lw_all := lw_g (lw_at lw_m2 3 rfl) rfl
theorem q275 : (Jvm.Cond.code ({ cls := "StackSchedulerModel", name := "fits", desc := "(IIII)Z" } : Jvm.MethodName) prog_3_method_3_code (5 : Nat) (Option.some Jvm.ClassFile.FieldType.boolean)) ∈ lw_all := lw_g (lw_at lw_m2 4 rfl) rfl
theorem q276 : (Jvm.Cond.methodLink "StackSchedulerModel" (38 : Nat) ({ cls := "StackSchedulerModel", name := "isVariable", desc := "(I)Z" } : Jvm.MethodName)) ∈ lw_all := lw_g (lw_at lw_m2 5 rfl) rfl
theorem q277 : (Jvm.Cond.privateMethod ({ cls := "StackSchedulerModel", name := "isVariable", desc := "(I)Z" } : Jvm.MethodName)) ∈ lw_tbl := lw_at lw_m2 6 rfl
theorem q278 : (Jvm.Cond.instanceMethod ({ cls := "StackSchedulerModel", name := "isVariable", desc := "(I)Z" } : Jvm.MethodName)) ∈ lw_all := lw_g (lw_at lw_m2 7 rfl) rfl
theorem q279 : (Jvm.Cond.code ({ cls := "StackSchedulerModel", name := "isVariable", desc := "(I)Z" } : Jvm.MethodName) prog_3_method_2_code (2 : Nat) (Option.some Jvm.ClassFile.FieldType.boolean)) ∈ lw_all := lw_g (lw_at lw_m2 8 rfl) rfl
theorem q281 : (Jvm.Cond.instanceMethod ({ cls := "StackSchedulerModel", name := "retract", desc := "()I" } : Jvm.MethodName)) ∈ lw_all := lw_g (lw_at lw_m2 10 rfl) rfl
theorem q282 : (Jvm.Cond.selects "StackSchedulerModel" ({ cls := "StackSchedulerModel", name := "retract", desc := "()I" } : Jvm.MethodName) ({ cls := "StackSchedulerModel", name := "retract", desc := "()I" } : Jvm.MethodName)) ∈ lw_all := lw_g (lw_at lw_m2 11 rfl) rfl
theorem q283 : (Jvm.Cond.code ({ cls := "StackSchedulerModel", name := "retract", desc := "()I" } : Jvm.MethodName) prog_3_method_5_code (1 : Nat) (Option.some Jvm.ClassFile.FieldType.int)) ∈ lw_all := lw_g (lw_at lw_m2 12 rfl) rfl
theorem q285 : (Jvm.Cond.instanceMethod ({ cls := "StackSchedulerModel", name := "sound", desc := "()Z" } : Jvm.MethodName)) ∈ lw_all := lw_g (lw_at lw_m2 14 rfl) rfl
theorem q286 : (Jvm.Cond.selects "StackSchedulerModel" ({ cls := "StackSchedulerModel", name := "sound", desc := "()Z" } : Jvm.MethodName) ({ cls := "StackSchedulerModel", name := "sound", desc := "()Z" } : Jvm.MethodName)) ∈ lw_all := lw_g (lw_at lw_m2 15 rfl) rfl
theorem q287 : (Jvm.Cond.code ({ cls := "StackSchedulerModel", name := "sound", desc := "()Z" } : Jvm.MethodName) prog_3_method_11_code (3 : Nat) (Option.some Jvm.ClassFile.FieldType.boolean)) ∈ lw_all := lw_g (lw_at lw_m2 16 rfl) rfl
theorem q288 : (Jvm.Cond.methodLink "StackSchedulerModel" (46 : Nat) ({ cls := "StackSchedulerModel", name := "opens", desc := "(I)Z" } : Jvm.MethodName)) ∈ lw_all := lw_g (lw_at lw_m2 17 rfl) rfl
theorem q289 : (Jvm.Cond.privateMethod ({ cls := "StackSchedulerModel", name := "opens", desc := "(I)Z" } : Jvm.MethodName)) ∈ lw_tbl := lw_at lw_m2 18 rfl
theorem q290 : (Jvm.Cond.instanceMethod ({ cls := "StackSchedulerModel", name := "opens", desc := "(I)Z" } : Jvm.MethodName)) ∈ lw_all := lw_g (lw_at lw_m2 19 rfl) rfl
theorem q291 : (Jvm.Cond.code ({ cls := "StackSchedulerModel", name := "opens", desc := "(I)Z" } : Jvm.MethodName) prog_3_method_6_code (2 : Nat) (Option.some Jvm.ClassFile.FieldType.boolean)) ∈ lw_all := lw_g (lw_at lw_m2 20 rfl) rfl
theorem q292 : (Jvm.Cond.methodLink "StackSchedulerModel" (56 : Nat) ({ cls := "StackSchedulerModel", name := "elseFits", desc := "(I)Z" } : Jvm.MethodName)) ∈ lw_all := lw_g (lw_at lw_m2 21 rfl) rfl
theorem q293 : (Jvm.Cond.privateMethod ({ cls := "StackSchedulerModel", name := "elseFits", desc := "(I)Z" } : Jvm.MethodName)) ∈ lw_tbl := lw_at lw_m2 22 rfl
theorem q294 : (Jvm.Cond.instanceMethod ({ cls := "StackSchedulerModel", name := "elseFits", desc := "(I)Z" } : Jvm.MethodName)) ∈ lw_all := lw_g (lw_at lw_m2 23 rfl) rfl
theorem q295 : (Jvm.Cond.code ({ cls := "StackSchedulerModel", name := "elseFits", desc := "(I)Z" } : Jvm.MethodName) prog_3_method_10_code (5 : Nat) (Option.some Jvm.ClassFile.FieldType.boolean)) ∈ lw_all := lw_g (lw_at lw_m2 24 rfl) rfl
theorem q296 : (Jvm.Cond.methodLink "StackSchedulerModel" (53 : Nat) ({ cls := "StackSchedulerModel", name := "openerOf", desc := "(I)I" } : Jvm.MethodName)) ∈ lw_all := lw_g (lw_at lw_m2 25 rfl) rfl
theorem q297 : (Jvm.Cond.privateMethod ({ cls := "StackSchedulerModel", name := "openerOf", desc := "(I)I" } : Jvm.MethodName)) ∈ lw_tbl := lw_at lw_m2 26 rfl
theorem q298 : (Jvm.Cond.instanceMethod ({ cls := "StackSchedulerModel", name := "openerOf", desc := "(I)I" } : Jvm.MethodName)) ∈ lw_all := lw_g (lw_at lw_m2 27 rfl) rfl
theorem q299 : (Jvm.Cond.code ({ cls := "StackSchedulerModel", name := "openerOf", desc := "(I)I" } : Jvm.MethodName) prog_3_method_8_code (4 : Nat) (Option.some Jvm.ClassFile.FieldType.int)) ∈ lw_all := lw_g (lw_at lw_m2 28 rfl) rfl
theorem q301 : (Jvm.Cond.instanceMethod ({ cls := "StackSchedulerModel", name := "put", desc := "(II)Z" } : Jvm.MethodName)) ∈ lw_all := lw_g (lw_at lw_m2 30 rfl) rfl
theorem q302 : (Jvm.Cond.selects "StackSchedulerModel" ({ cls := "StackSchedulerModel", name := "put", desc := "(II)Z" } : Jvm.MethodName) ({ cls := "StackSchedulerModel", name := "put", desc := "(II)Z" } : Jvm.MethodName)) ∈ lw_all := lw_g (lw_at lw_m2 31 rfl) rfl
theorem q303 : (Jvm.Cond.code ({ cls := "StackSchedulerModel", name := "put", desc := "(II)Z" } : Jvm.MethodName) prog_3_method_12_code (3 : Nat) (Option.some Jvm.ClassFile.FieldType.boolean)) ∈ lw_all := lw_g (lw_at lw_m2 32 rfl) rfl
theorem q305 : (Jvm.Cond.instanceMethod ({ cls := "StackSchedulerModel", name := "run", desc := "()I" } : Jvm.MethodName)) ∈ lw_all := lw_g (lw_at lw_m2 34 rfl) rfl
theorem q306 : (Jvm.Cond.selects "StackSchedulerModel" ({ cls := "StackSchedulerModel", name := "run", desc := "()I" } : Jvm.MethodName) ({ cls := "StackSchedulerModel", name := "run", desc := "()I" } : Jvm.MethodName)) ∈ lw_all := lw_g (lw_at lw_m2 35 rfl) rfl
theorem q307 : (Jvm.Cond.code ({ cls := "StackSchedulerModel", name := "run", desc := "()I" } : Jvm.MethodName) prog_3_method_15_code (3 : Nat) (Option.some Jvm.ClassFile.FieldType.int)) ∈ lw_all := lw_g (lw_at lw_m2 36 rfl) rfl
theorem q308 : (Jvm.Cond.methodLink "StackSchedulerModel" (66 : Nat) ({ cls := "StackSchedulerModel", name := "sound", desc := "()Z" } : Jvm.MethodName)) ∈ lw_all := lw_g (lw_at lw_m2 37 rfl) rfl
theorem q309 : (Jvm.Cond.methodLink "StackSchedulerModel" (70 : Nat) ({ cls := "StackSchedulerModel", name := "pass", desc := "(I)I" } : Jvm.MethodName)) ∈ lw_all := lw_g (lw_at lw_m2 38 rfl) rfl
theorem q310 : (Jvm.Cond.privateMethod ({ cls := "StackSchedulerModel", name := "pass", desc := "(I)I" } : Jvm.MethodName)) ∈ lw_tbl := lw_at lw_m2 39 rfl
theorem q311 : (Jvm.Cond.instanceMethod ({ cls := "StackSchedulerModel", name := "pass", desc := "(I)I" } : Jvm.MethodName)) ∈ lw_all := lw_g (lw_at lw_m2 40 rfl) rfl
theorem q312 : (Jvm.Cond.code ({ cls := "StackSchedulerModel", name := "pass", desc := "(I)I" } : Jvm.MethodName) prog_3_method_14_code (4 : Nat) (Option.some Jvm.ClassFile.FieldType.int)) ∈ lw_all := lw_g (lw_at lw_m2 41 rfl) rfl
theorem q313 : (Jvm.Cond.methodLink "StackSchedulerModel" (49 : Nat) ({ cls := "StackSchedulerModel", name := "endOf", desc := "(I)I" } : Jvm.MethodName)) ∈ lw_all := lw_g (lw_at lw_m2 42 rfl) rfl
theorem q314 : (Jvm.Cond.privateMethod ({ cls := "StackSchedulerModel", name := "endOf", desc := "(I)I" } : Jvm.MethodName)) ∈ lw_tbl := lw_at lw_m2 43 rfl
theorem q315 : (Jvm.Cond.instanceMethod ({ cls := "StackSchedulerModel", name := "endOf", desc := "(I)I" } : Jvm.MethodName)) ∈ lw_all := lw_g (lw_at lw_m2 44 rfl) rfl
theorem q316 : (Jvm.Cond.code ({ cls := "StackSchedulerModel", name := "endOf", desc := "(I)I" } : Jvm.MethodName) prog_3_method_7_code (4 : Nat) (Option.some Jvm.ClassFile.FieldType.int)) ∈ lw_all := lw_g (lw_at lw_m2 45 rfl) rfl
theorem q317 : (Jvm.Cond.methodLink "StackSchedulerModel" (59 : Nat) ({ cls := "StackSchedulerModel", name := "elseOf", desc := "(I)I" } : Jvm.MethodName)) ∈ lw_all := lw_g (lw_at lw_m2 46 rfl) rfl
theorem q318 : (Jvm.Cond.privateMethod ({ cls := "StackSchedulerModel", name := "elseOf", desc := "(I)I" } : Jvm.MethodName)) ∈ lw_tbl := lw_at lw_m2 47 rfl
theorem q319 : (Jvm.Cond.instanceMethod ({ cls := "StackSchedulerModel", name := "elseOf", desc := "(I)I" } : Jvm.MethodName)) ∈ lw_all := lw_g (lw_at lw_m2 48 rfl) rfl
theorem q320 : (Jvm.Cond.code ({ cls := "StackSchedulerModel", name := "elseOf", desc := "(I)I" } : Jvm.MethodName) prog_3_method_9_code (5 : Nat) (Option.some Jvm.ClassFile.FieldType.int)) ∈ lw_all := lw_g (lw_at lw_m2 49 rfl) rfl
theorem q321 : (Jvm.Cond.methodLink "StackSchedulerModel" (62 : Nat) ({ cls := "StackSchedulerModel", name := "plain", desc := "(I)V" } : Jvm.MethodName)) ∈ lw_all := lw_g (lw_at lw_m2 50 rfl) rfl
theorem q322 : (Jvm.Cond.privateMethod ({ cls := "StackSchedulerModel", name := "plain", desc := "(I)V" } : Jvm.MethodName)) ∈ lw_tbl := lw_at lw_m2 51 rfl
theorem q323 : (Jvm.Cond.instanceMethod ({ cls := "StackSchedulerModel", name := "plain", desc := "(I)V" } : Jvm.MethodName)) ∈ lw_all := lw_g (lw_at lw_m2 52 rfl) rfl
theorem q324 : (Jvm.Cond.code ({ cls := "StackSchedulerModel", name := "plain", desc := "(I)V" } : Jvm.MethodName) prog_3_method_13_code (2 : Nat) (Option.none : Option Jvm.ClassFile.FieldType)) ∈ lw_all := lw_g (lw_at lw_m2 53 rfl) rfl
theorem q326 : (Jvm.Cond.instanceMethod ({ cls := "StackSchedulerModel", name := "variable", desc := "(I)I" } : Jvm.MethodName)) ∈ lw_all := lw_g (lw_at lw_m2 55 rfl) rfl
theorem q327 : (Jvm.Cond.selects "StackSchedulerModel" ({ cls := "StackSchedulerModel", name := "variable", desc := "(I)I" } : Jvm.MethodName) ({ cls := "StackSchedulerModel", name := "variable", desc := "(I)I" } : Jvm.MethodName)) ∈ lw_all := lw_g (lw_at lw_m2 56 rfl) rfl
theorem q328 : (Jvm.Cond.code ({ cls := "StackSchedulerModel", name := "variable", desc := "(I)I" } : Jvm.MethodName) prog_3_method_16_code (2 : Nat) (Option.some Jvm.ClassFile.FieldType.int)) ∈ lw_all := lw_g (lw_at lw_m2 57 rfl) rfl
theorem q330 : (Jvm.Cond.instanceMethod ({ cls := "StackSchedulerModel", name := "printed", desc := "()I" } : Jvm.MethodName)) ∈ lw_all := lw_g (lw_at lw_m2 59 rfl) rfl
theorem q331 : (Jvm.Cond.selects "StackSchedulerModel" ({ cls := "StackSchedulerModel", name := "printed", desc := "()I" } : Jvm.MethodName) ({ cls := "StackSchedulerModel", name := "printed", desc := "()I" } : Jvm.MethodName)) ∈ lw_all := lw_g (lw_at lw_m2 60 rfl) rfl
theorem q332 : (Jvm.Cond.code ({ cls := "StackSchedulerModel", name := "printed", desc := "()I" } : Jvm.MethodName) prog_3_method_17_code (1 : Nat) (Option.some Jvm.ClassFile.FieldType.int)) ∈ lw_all := lw_g (lw_at lw_m2 61 rfl) rfl
theorem q334 : (Jvm.Cond.instanceMethod ({ cls := "StackSchedulerModel", name := "output", desc := "(I)I" } : Jvm.MethodName)) ∈ lw_all := lw_g (lw_at lw_m2 63 rfl) rfl
theorem q335 : (Jvm.Cond.selects "StackSchedulerModel" ({ cls := "StackSchedulerModel", name := "output", desc := "(I)I" } : Jvm.MethodName) ({ cls := "StackSchedulerModel", name := "output", desc := "(I)I" } : Jvm.MethodName)) ∈ lw_all := lw_g (lw_at lw_m2 64 rfl) rfl
theorem q336 : (Jvm.Cond.code ({ cls := "StackSchedulerModel", name := "output", desc := "(I)I" } : Jvm.MethodName) prog_3_method_18_code (2 : Nat) (Option.some Jvm.ClassFile.FieldType.int)) ∈ lw_all := lw_g (lw_at lw_m2 65 rfl) rfl
theorem q338 : (Jvm.Cond.instanceMethod ({ cls := "StackSchedulerModel", name := "clear", desc := "()V" } : Jvm.MethodName)) ∈ lw_all := lw_g (lw_at lw_m2 67 rfl) rfl
theorem q339 : (Jvm.Cond.selects "StackSchedulerModel" ({ cls := "StackSchedulerModel", name := "clear", desc := "()V" } : Jvm.MethodName) ({ cls := "StackSchedulerModel", name := "clear", desc := "()V" } : Jvm.MethodName)) ∈ lw_all := lw_g (lw_at lw_m2 68 rfl) rfl
theorem q340 : (Jvm.Cond.code ({ cls := "StackSchedulerModel", name := "clear", desc := "()V" } : Jvm.MethodName) prog_3_method_19_code (2 : Nat) (Option.none : Option Jvm.ClassFile.FieldType)) ∈ lw_all := lw_g (lw_at lw_m2 69 rfl) rfl
theorem in_X1 : ∀ w ∈ wsX10, w ∈ lw_all := lw_in wsX10 [249, 251, 253, 255, 257, 259, 261, 263, 265] (by decide +kernel) (by decide +kernel)

/-! java/lang/Object -/
set_option maxRecDepth 100000
def RJ0 : String := "java/lang/Object"
abbrev cJ0_init : ByteArray := object_method_1_code
def yJ0_init : MethodName := ⟨RJ0, "<init>", "()V"⟩
theorem q40 : (Jvm.Cond.instanceMethod ({ cls := "java/lang/Object", name := "<init>", desc := "()V" } : Jvm.MethodName)) ∈ lw_all := lw_g (lw_at lw_m1 9 rfl) rfl
theorem q41 : (Jvm.Cond.code ({ cls := "java/lang/Object", name := "<init>", desc := "()V" } : Jvm.MethodName) object_method_1_code (1 : Nat) (Option.none : Option Jvm.ClassFile.FieldType)) ∈ lw_all := lw_g (lw_at lw_m1 10 rfl) rfl

/-! the law's own entry -/
set_option maxRecDepth 100000
abbrev cL_law : ByteArray := code

theorem q31 : (Jvm.Cond.initialized "StackSchedulerLaw") ∈ lw_all := lw_g (lw_at lw_m1 0 rfl) rfl
set_option maxRecDepth 100000
theorem q34 : (Jvm.Cond.classLink "StackSchedulerLaw" (7 : Nat) "StackScheduler") ∈ lw_all := lw_g (lw_at lw_m1 3 rfl) rfl
theorem q36 : (Jvm.Cond.methodLink "StackSchedulerLaw" (9 : Nat) ({ cls := "StackScheduler", name := "<init>", desc := "()V" } : Jvm.MethodName)) ∈ lw_all := lw_g (lw_at lw_m1 5 rfl) rfl
theorem q109 : (Jvm.Cond.methodLink "StackSchedulerLaw" (13 : Nat) ({ cls := "StackScheduler", name := "add", desc := "(IIII)I" } : Jvm.MethodName)) ∈ lw_all := lw_g (lw_at lw_m1 78 rfl) rfl
theorem q113 : (Jvm.Cond.methodLink "StackSchedulerLaw" (18 : Nat) ({ cls := "StackScheduler", name := "retract", desc := "()I" } : Jvm.MethodName)) ∈ lw_all := lw_g (lw_at lw_m1 82 rfl) rfl
theorem q117 : (Jvm.Cond.methodLink "StackSchedulerLaw" (23 : Nat) ({ cls := "StackScheduler", name := "sound", desc := "()Z" } : Jvm.MethodName)) ∈ lw_all := lw_g (lw_at lw_m1 86 rfl) rfl
theorem q193 : (Jvm.Cond.methodLink "StackSchedulerLaw" (28 : Nat) ({ cls := "StackScheduler", name := "put", desc := "(II)Z" } : Jvm.MethodName)) ∈ lw_all := lw_g (lw_at lw_m1 162 rfl) rfl
theorem q197 : (Jvm.Cond.methodLink "StackSchedulerLaw" (33 : Nat) ({ cls := "StackScheduler", name := "run", desc := "()I" } : Jvm.MethodName)) ∈ lw_all := lw_g (lw_at lw_m1 166 rfl) rfl
theorem q218 : (Jvm.Cond.methodLink "StackSchedulerLaw" (37 : Nat) ({ cls := "StackScheduler", name := "variable", desc := "(I)I" } : Jvm.MethodName)) ∈ lw_all := lw_g (lw_at lw_m1 187 rfl) rfl
theorem q222 : (Jvm.Cond.methodLink "StackSchedulerLaw" (42 : Nat) ({ cls := "StackScheduler", name := "printed", desc := "()I" } : Jvm.MethodName)) ∈ lw_all := lw_g (lw_at lw_m1 191 rfl) rfl
theorem q226 : (Jvm.Cond.methodLink "StackSchedulerLaw" (46 : Nat) ({ cls := "StackScheduler", name := "output", desc := "(I)I" } : Jvm.MethodName)) ∈ lw_all := lw_g (lw_at lw_m1 195 rfl) rfl
theorem q230 : (Jvm.Cond.methodLink "StackSchedulerLaw" (50 : Nat) ({ cls := "StackScheduler", name := "clear", desc := "()V" } : Jvm.MethodName)) ∈ lw_all := lw_g (lw_at lw_m1 199 rfl) rfl
theorem q234 : (Jvm.Cond.classLink "StackSchedulerLaw" (10 : Nat) "StackSchedulerModel") ∈ lw_all := lw_g (lw_at lw_m1 203 rfl) rfl
theorem q236 : (Jvm.Cond.methodLink "StackSchedulerLaw" (12 : Nat) ({ cls := "StackSchedulerModel", name := "<init>", desc := "()V" } : Jvm.MethodName)) ∈ lw_all := lw_g (lw_at lw_m1 205 rfl) rfl
theorem q268 : (Jvm.Cond.methodLink "StackSchedulerLaw" (17 : Nat) ({ cls := "StackSchedulerModel", name := "add", desc := "(IIII)I" } : Jvm.MethodName)) ∈ lw_all := lw_g (lw_at lw_m1 237 rfl) rfl
theorem q280 : (Jvm.Cond.methodLink "StackSchedulerLaw" (22 : Nat) ({ cls := "StackSchedulerModel", name := "retract", desc := "()I" } : Jvm.MethodName)) ∈ lw_all := lw_g (lw_at lw_m2 9 rfl) rfl
theorem q284 : (Jvm.Cond.methodLink "StackSchedulerLaw" (27 : Nat) ({ cls := "StackSchedulerModel", name := "sound", desc := "()Z" } : Jvm.MethodName)) ∈ lw_all := lw_g (lw_at lw_m2 13 rfl) rfl
theorem q300 : (Jvm.Cond.methodLink "StackSchedulerLaw" (32 : Nat) ({ cls := "StackSchedulerModel", name := "put", desc := "(II)Z" } : Jvm.MethodName)) ∈ lw_all := lw_g (lw_at lw_m2 29 rfl) rfl
theorem q304 : (Jvm.Cond.methodLink "StackSchedulerLaw" (36 : Nat) ({ cls := "StackSchedulerModel", name := "run", desc := "()I" } : Jvm.MethodName)) ∈ lw_all := lw_g (lw_at lw_m2 33 rfl) rfl
theorem q325 : (Jvm.Cond.methodLink "StackSchedulerLaw" (41 : Nat) ({ cls := "StackSchedulerModel", name := "variable", desc := "(I)I" } : Jvm.MethodName)) ∈ lw_all := lw_g (lw_at lw_m2 54 rfl) rfl
theorem q329 : (Jvm.Cond.methodLink "StackSchedulerLaw" (45 : Nat) ({ cls := "StackSchedulerModel", name := "printed", desc := "()I" } : Jvm.MethodName)) ∈ lw_all := lw_g (lw_at lw_m2 58 rfl) rfl
theorem q333 : (Jvm.Cond.methodLink "StackSchedulerLaw" (49 : Nat) ({ cls := "StackSchedulerModel", name := "output", desc := "(I)I" } : Jvm.MethodName)) ∈ lw_all := lw_g (lw_at lw_m2 62 rfl) rfl
theorem q337 : (Jvm.Cond.methodLink "StackSchedulerLaw" (53 : Nat) ({ cls := "StackSchedulerModel", name := "clear", desc := "()V" } : Jvm.MethodName)) ∈ lw_all := lw_g (lw_at lw_m2 66 rfl) rfl

theorem q106 : (Jvm.Cond.arrayClass Jvm.ClassFile.FieldType.byte) ∈ lw_all := lw_g (lw_at lw_m1 75 rfl) rfl
set_option maxRecDepth 100000
theorem q107 : (Jvm.Cond.arrayClass Jvm.ClassFile.FieldType.int) ∈ lw_all := lw_g (lw_at lw_m1 76 rfl) rfl
theorem q108 : (Jvm.Cond.arrayClass Jvm.ClassFile.FieldType.short) ∈ lw_all := lw_g (lw_at lw_m1 77 rfl) rfl

abbrev vwCl : List vw_C := [(RX0, TX0, 21), (RX1, TX1, 9)]
end
section
set_option maxRecDepth 100000
theorem dX0_init_0 : decode cX0_init 0 = .ok (.aload_n 0, 1) := by decide +kernel
theorem dX0_init_1 : decode cX0_init 1 = .ok (.invokespecial 1, 3) := by decide +kernel
theorem dX0_init_4 : decode cX0_init 4 = .ok (.aload_n 0, 1) := by decide +kernel
theorem dX0_init_5 : decode cX0_init 5 = .ok (.bipush 40, 2) := by decide +kernel
theorem dX0_init_7 : decode cX0_init 7 = .ok (.newarray .byte, 2) := by decide +kernel
theorem dX0_init_9 : decode cX0_init 9 = .ok (.putfield 7, 3) := by decide +kernel
theorem dX0_init_12 : decode cX0_init 12 = .ok (.aload_n 0, 1) := by decide +kernel
theorem dX0_init_13 : decode cX0_init 13 = .ok (.bipush 40, 2) := by decide +kernel
theorem dX0_init_15 : decode cX0_init 15 = .ok (.newarray .int, 2) := by decide +kernel
theorem dX0_init_17 : decode cX0_init 17 = .ok (.putfield 13, 3) := by decide +kernel
theorem dX0_init_20 : decode cX0_init 20 = .ok (.aload_n 0, 1) := by decide +kernel
theorem dX0_init_21 : decode cX0_init 21 = .ok (.bipush 40, 2) := by decide +kernel
theorem dX0_init_23 : decode cX0_init 23 = .ok (.newarray .byte, 2) := by decide +kernel
theorem dX0_init_25 : decode cX0_init 25 = .ok (.putfield 17, 3) := by decide +kernel
theorem dX0_init_28 : decode cX0_init 28 = .ok (.aload_n 0, 1) := by decide +kernel
theorem dX0_init_29 : decode cX0_init 29 = .ok (.bipush 40, 2) := by decide +kernel
theorem dX0_init_31 : decode cX0_init 31 = .ok (.newarray .byte, 2) := by decide +kernel
theorem dX0_init_33 : decode cX0_init 33 = .ok (.putfield 20, 3) := by decide +kernel
theorem dX0_init_36 : decode cX0_init 36 = .ok (.aload_n 0, 1) := by decide +kernel
theorem dX0_init_37 : decode cX0_init 37 = .ok (.bipush 6, 2) := by decide +kernel
theorem dX0_init_39 : decode cX0_init 39 = .ok (.newarray .int, 2) := by decide +kernel
theorem dX0_init_41 : decode cX0_init 41 = .ok (.putfield 23, 3) := by decide +kernel
theorem dX0_init_44 : decode cX0_init 44 = .ok (.aload_n 0, 1) := by decide +kernel
theorem dX0_init_45 : decode cX0_init 45 = .ok (.sipush 560, 3) := by decide +kernel
theorem dX0_init_48 : decode cX0_init 48 = .ok (.newarray .byte, 2) := by decide +kernel
theorem dX0_init_50 : decode cX0_init 50 = .ok (.putfield 26, 3) := by decide +kernel
theorem dX0_init_53 : decode cX0_init 53 = .ok (.aload_n 0, 1) := by decide +kernel
theorem dX0_init_54 : decode cX0_init 54 = .ok (.sipush 560, 3) := by decide +kernel
theorem dX0_init_57 : decode cX0_init 57 = .ok (.newarray .int, 2) := by decide +kernel
theorem dX0_init_59 : decode cX0_init 59 = .ok (.putfield 29, 3) := by decide +kernel
theorem dX0_init_62 : decode cX0_init 62 = .ok (.aload_n 0, 1) := by decide +kernel
theorem dX0_init_63 : decode cX0_init 63 = .ok (.bipush 16, 2) := by decide +kernel
theorem dX0_init_65 : decode cX0_init 65 = .ok (.newarray .byte, 2) := by decide +kernel
theorem dX0_init_67 : decode cX0_init 67 = .ok (.putfield 32, 3) := by decide +kernel
theorem dX0_init_70 : decode cX0_init 70 = .ok (.aload_n 0, 1) := by decide +kernel
theorem dX0_init_71 : decode cX0_init 71 = .ok (.iconst 4, 1) := by decide +kernel
theorem dX0_init_72 : decode cX0_init 72 = .ok (.newarray .byte, 2) := by decide +kernel
theorem dX0_init_74 : decode cX0_init 74 = .ok (.putfield 35, 3) := by decide +kernel
theorem dX0_init_77 : decode cX0_init 77 = .ok (.aload_n 0, 1) := by decide +kernel
theorem dX0_init_78 : decode cX0_init 78 = .ok (.iconst 4, 1) := by decide +kernel
theorem dX0_init_79 : decode cX0_init 79 = .ok (.newarray .short, 2) := by decide +kernel
theorem dX0_init_81 : decode cX0_init 81 = .ok (.putfield 38, 3) := by decide +kernel
theorem dX0_init_84 : decode cX0_init 84 = .ok (.aload_n 0, 1) := by decide +kernel
theorem dX0_init_85 : decode cX0_init 85 = .ok (.bipush 16, 2) := by decide +kernel
theorem dX0_init_87 : decode cX0_init 87 = .ok (.newarray .int, 2) := by decide +kernel
theorem dX0_init_89 : decode cX0_init 89 = .ok (.putfield 42, 3) := by decide +kernel
theorem dX0_init_92 : decode cX0_init 92 = .ok (.aload_n 0, 1) := by decide +kernel
theorem dX0_init_93 : decode cX0_init 93 = .ok (.bipush 64, 2) := by decide +kernel
theorem dX0_init_95 : decode cX0_init 95 = .ok (.newarray .int, 2) := by decide +kernel
theorem dX0_init_97 : decode cX0_init 97 = .ok (.putfield 45, 3) := by decide +kernel
theorem dX0_init_100 : decode cX0_init 100 = .ok (.return_, 1) := by decide +kernel
theorem dX0_add_0 : decode cX0_add 0 = .ok (.aload_n 0, 1) := by decide +kernel
theorem dX0_add_1 : decode cX0_add 1 = .ok (.getfield 48, 3) := by decide +kernel
theorem dX0_add_4 : decode cX0_add 4 = .ok (.bipush 40, 2) := by decide +kernel
theorem dX0_add_6 : decode cX0_add 6 = .ok (.if_icmp .lt 6, 3) := by decide +kernel
theorem dX0_add_9 : decode cX0_add 9 = .ok (.bipush (-2), 2) := by decide +kernel
theorem dX0_add_11 : decode cX0_add 11 = .ok (.ireturn, 1) := by decide +kernel
theorem dX0_add_12 : decode cX0_add 12 = .ok (.iload_n 1, 1) := by decide +kernel
theorem dX0_add_13 : decode cX0_add 13 = .ok (.ifCond .lt 9, 3) := by decide +kernel
theorem dX0_add_16 : decode cX0_add 16 = .ok (.iload_n 1, 1) := by decide +kernel
theorem dX0_add_17 : decode cX0_add 17 = .ok (.bipush 11, 2) := by decide +kernel
theorem dX0_add_19 : decode cX0_add 19 = .ok (.if_icmp .le 5, 3) := by decide +kernel
theorem dX0_add_22 : decode cX0_add 22 = .ok (.iconst (-1), 1) := by decide +kernel
theorem dX0_add_23 : decode cX0_add 23 = .ok (.ireturn, 1) := by decide +kernel
theorem dX0_add_24 : decode cX0_add 24 = .ok (.iload_n 1, 1) := by decide +kernel
theorem dX0_add_25 : decode cX0_add 25 = .ok (.bipush 9, 2) := by decide +kernel
theorem dX0_add_27 : decode cX0_add 27 = .ok (.if_icmp .eq 20, 3) := by decide +kernel
theorem dX0_add_30 : decode cX0_add 30 = .ok (.iload_n 1, 1) := by decide +kernel
theorem dX0_add_31 : decode cX0_add 31 = .ok (.bipush 11, 2) := by decide +kernel
theorem dX0_add_33 : decode cX0_add 33 = .ok (.if_icmp .eq 14, 3) := by decide +kernel
theorem dX0_add_36 : decode cX0_add 36 = .ok (.iload_n 2, 1) := by decide +kernel
theorem dX0_add_37 : decode cX0_add 37 = .ok (.ifCond .lt 8, 3) := by decide +kernel
theorem dX0_add_40 : decode cX0_add 40 = .ok (.iload_n 2, 1) := by decide +kernel
theorem dX0_add_41 : decode cX0_add 41 = .ok (.iconst 5, 1) := by decide +kernel
theorem dX0_add_42 : decode cX0_add 42 = .ok (.if_icmp .le 5, 3) := by decide +kernel
theorem dX0_add_45 : decode cX0_add 45 = .ok (.iconst (-1), 1) := by decide +kernel
theorem dX0_add_46 : decode cX0_add 46 = .ok (.ireturn, 1) := by decide +kernel
theorem dX0_add_47 : decode cX0_add 47 = .ok (.iload_n 1, 1) := by decide +kernel
theorem dX0_add_48 : decode cX0_add 48 = .ok (.iconst 1, 1) := by decide +kernel
theorem dX0_add_49 : decode cX0_add 49 = .ok (.if_icmp .lt 20, 3) := by decide +kernel
theorem dX0_add_52 : decode cX0_add 52 = .ok (.iload_n 1, 1) := by decide +kernel
theorem dX0_add_53 : decode cX0_add 53 = .ok (.bipush 6, 2) := by decide +kernel
theorem dX0_add_55 : decode cX0_add 55 = .ok (.if_icmp .gt 14, 3) := by decide +kernel
theorem dX0_add_58 : decode cX0_add 58 = .ok (.iload_n 3, 1) := by decide +kernel
theorem dX0_add_59 : decode cX0_add 59 = .ok (.ifCond .lt 8, 3) := by decide +kernel
theorem dX0_add_62 : decode cX0_add 62 = .ok (.iload_n 3, 1) := by decide +kernel
theorem dX0_add_63 : decode cX0_add 63 = .ok (.iconst 5, 1) := by decide +kernel
theorem dX0_add_64 : decode cX0_add 64 = .ok (.if_icmp .le 5, 3) := by decide +kernel
theorem dX0_add_67 : decode cX0_add 67 = .ok (.iconst (-1), 1) := by decide +kernel
theorem dX0_add_68 : decode cX0_add 68 = .ok (.ireturn, 1) := by decide +kernel
theorem dX0_add_69 : decode cX0_add 69 = .ok (.iload_n 1, 1) := by decide +kernel
theorem dX0_add_70 : decode cX0_add 70 = .ok (.iconst 2, 1) := by decide +kernel
theorem dX0_add_71 : decode cX0_add 71 = .ok (.if_icmp .lt 22, 3) := by decide +kernel
theorem dX0_add_74 : decode cX0_add 74 = .ok (.iload_n 1, 1) := by decide +kernel
theorem dX0_add_75 : decode cX0_add 75 = .ok (.bipush 6, 2) := by decide +kernel
theorem dX0_add_77 : decode cX0_add 77 = .ok (.if_icmp .gt 16, 3) := by decide +kernel
theorem dX0_add_80 : decode cX0_add 80 = .ok (.iload 4, 2) := by decide +kernel
theorem dX0_add_82 : decode cX0_add 82 = .ok (.ifCond .lt 9, 3) := by decide +kernel
theorem dX0_add_85 : decode cX0_add 85 = .ok (.iload 4, 2) := by decide +kernel
theorem dX0_add_87 : decode cX0_add 87 = .ok (.iconst 5, 1) := by decide +kernel
theorem dX0_add_88 : decode cX0_add 88 = .ok (.if_icmp .le 5, 3) := by decide +kernel
theorem dX0_add_91 : decode cX0_add 91 = .ok (.iconst (-1), 1) := by decide +kernel
theorem dX0_add_92 : decode cX0_add 92 = .ok (.ireturn, 1) := by decide +kernel
theorem dX0_add_93 : decode cX0_add 93 = .ok (.aload_n 0, 1) := by decide +kernel
theorem dX0_add_94 : decode cX0_add 94 = .ok (.getfield 7, 3) := by decide +kernel
theorem dX0_add_97 : decode cX0_add 97 = .ok (.aload_n 0, 1) := by decide +kernel
theorem dX0_add_98 : decode cX0_add 98 = .ok (.getfield 48, 3) := by decide +kernel
theorem dX0_add_101 : decode cX0_add 101 = .ok (.iload_n 1, 1) := by decide +kernel
theorem dX0_add_102 : decode cX0_add 102 = .ok (.i2b, 1) := by decide +kernel
theorem dX0_add_103 : decode cX0_add 103 = .ok (.bastore, 1) := by decide +kernel
theorem dX0_add_104 : decode cX0_add 104 = .ok (.aload_n 0, 1) := by decide +kernel
theorem dX0_add_105 : decode cX0_add 105 = .ok (.getfield 13, 3) := by decide +kernel
theorem dX0_add_108 : decode cX0_add 108 = .ok (.aload_n 0, 1) := by decide +kernel
theorem dX0_add_109 : decode cX0_add 109 = .ok (.getfield 48, 3) := by decide +kernel
theorem dX0_add_112 : decode cX0_add 112 = .ok (.iload_n 1, 1) := by decide +kernel
theorem dX0_add_113 : decode cX0_add 113 = .ok (.ifCond .ne 7, 3) := by decide +kernel
theorem dX0_add_116 : decode cX0_add 116 = .ok (.iload_n 3, 1) := by decide +kernel
theorem dX0_add_117 : decode cX0_add 117 = .ok (.goto 4, 3) := by decide +kernel
theorem dX0_add_120 : decode cX0_add 120 = .ok (.iload_n 2, 1) := by decide +kernel
theorem dX0_add_121 : decode cX0_add 121 = .ok (.iastore, 1) := by decide +kernel
theorem dX0_add_122 : decode cX0_add 122 = .ok (.aload_n 0, 1) := by decide +kernel
theorem dX0_add_123 : decode cX0_add 123 = .ok (.getfield 17, 3) := by decide +kernel
theorem dX0_add_126 : decode cX0_add 126 = .ok (.aload_n 0, 1) := by decide +kernel
theorem dX0_add_127 : decode cX0_add 127 = .ok (.getfield 48, 3) := by decide +kernel
theorem dX0_add_130 : decode cX0_add 130 = .ok (.iload_n 1, 1) := by decide +kernel
theorem dX0_add_131 : decode cX0_add 131 = .ok (.ifCond .ne 7, 3) := by decide +kernel
theorem dX0_add_134 : decode cX0_add 134 = .ok (.iload_n 2, 1) := by decide +kernel
theorem dX0_add_135 : decode cX0_add 135 = .ok (.goto 4, 3) := by decide +kernel
theorem dX0_add_138 : decode cX0_add 138 = .ok (.iload_n 3, 1) := by decide +kernel
theorem dX0_add_139 : decode cX0_add 139 = .ok (.i2b, 1) := by decide +kernel
theorem dX0_add_140 : decode cX0_add 140 = .ok (.bastore, 1) := by decide +kernel
theorem dX0_add_141 : decode cX0_add 141 = .ok (.aload_n 0, 1) := by decide +kernel
theorem dX0_add_142 : decode cX0_add 142 = .ok (.getfield 20, 3) := by decide +kernel
theorem dX0_add_145 : decode cX0_add 145 = .ok (.aload_n 0, 1) := by decide +kernel
theorem dX0_add_146 : decode cX0_add 146 = .ok (.getfield 48, 3) := by decide +kernel
theorem dX0_add_149 : decode cX0_add 149 = .ok (.iload 4, 2) := by decide +kernel
theorem dX0_add_151 : decode cX0_add 151 = .ok (.i2b, 1) := by decide +kernel
theorem dX0_add_152 : decode cX0_add 152 = .ok (.bastore, 1) := by decide +kernel
theorem dX0_add_153 : decode cX0_add 153 = .ok (.aload_n 0, 1) := by decide +kernel
theorem dX0_add_154 : decode cX0_add 154 = .ok (.dup, 1) := by decide +kernel
theorem dX0_add_155 : decode cX0_add 155 = .ok (.getfield 48, 3) := by decide +kernel
theorem dX0_add_158 : decode cX0_add 158 = .ok (.iconst 1, 1) := by decide +kernel
theorem dX0_add_159 : decode cX0_add 159 = .ok (.iadd, 1) := by decide +kernel
theorem dX0_add_160 : decode cX0_add 160 = .ok (.putfield 48, 3) := by decide +kernel
theorem dX0_add_163 : decode cX0_add 163 = .ok (.aload_n 0, 1) := by decide +kernel
theorem dX0_add_164 : decode cX0_add 164 = .ok (.iconst 0, 1) := by decide +kernel
theorem dX0_add_165 : decode cX0_add 165 = .ok (.putfield 52, 3) := by decide +kernel
theorem dX0_add_168 : decode cX0_add 168 = .ok (.aload_n 0, 1) := by decide +kernel
theorem dX0_add_169 : decode cX0_add 169 = .ok (.getfield 48, 3) := by decide +kernel
theorem dX0_add_172 : decode cX0_add 172 = .ok (.ireturn, 1) := by decide +kernel
theorem dX0_retract_0 : decode cX0_retract 0 = .ok (.aload_n 0, 1) := by decide +kernel
theorem dX0_retract_1 : decode cX0_retract 1 = .ok (.getfield 48, 3) := by decide +kernel
theorem dX0_retract_4 : decode cX0_retract 4 = .ok (.ifCond .ne 5, 3) := by decide +kernel
theorem dX0_retract_7 : decode cX0_retract 7 = .ok (.iconst (-1), 1) := by decide +kernel
theorem dX0_retract_8 : decode cX0_retract 8 = .ok (.ireturn, 1) := by decide +kernel
theorem dX0_retract_9 : decode cX0_retract 9 = .ok (.aload_n 0, 1) := by decide +kernel
theorem dX0_retract_10 : decode cX0_retract 10 = .ok (.dup, 1) := by decide +kernel
theorem dX0_retract_11 : decode cX0_retract 11 = .ok (.getfield 48, 3) := by decide +kernel
theorem dX0_retract_14 : decode cX0_retract 14 = .ok (.iconst 1, 1) := by decide +kernel
theorem dX0_retract_15 : decode cX0_retract 15 = .ok (.isub, 1) := by decide +kernel
theorem dX0_retract_16 : decode cX0_retract 16 = .ok (.putfield 48, 3) := by decide +kernel
theorem dX0_retract_19 : decode cX0_retract 19 = .ok (.aload_n 0, 1) := by decide +kernel
theorem dX0_retract_20 : decode cX0_retract 20 = .ok (.iconst 0, 1) := by decide +kernel
theorem dX0_retract_21 : decode cX0_retract 21 = .ok (.putfield 52, 3) := by decide +kernel
theorem dX0_retract_24 : decode cX0_retract 24 = .ok (.aload_n 0, 1) := by decide +kernel
theorem dX0_retract_25 : decode cX0_retract 25 = .ok (.getfield 48, 3) := by decide +kernel
theorem dX0_retract_28 : decode cX0_retract 28 = .ok (.ireturn, 1) := by decide +kernel
theorem dX0_sound_0 : decode cX0_sound 0 = .ok (.aload_n 0, 1) := by decide +kernel
theorem dX0_sound_1 : decode cX0_sound 1 = .ok (.invokevirtual 56, 3) := by decide +kernel
theorem dX0_sound_4 : decode cX0_sound 4 = .ok (.aload_n 0, 1) := by decide +kernel
theorem dX0_sound_5 : decode cX0_sound 5 = .ok (.getfield 59, 3) := by decide +kernel
theorem dX0_sound_8 : decode cX0_sound 8 = .ok (.ireturn, 1) := by decide +kernel
theorem dX0_compile_0 : decode cX0_compile 0 = .ok (.aload_n 0, 1) := by decide +kernel
theorem dX0_compile_1 : decode cX0_compile 1 = .ok (.getfield 52, 3) := by decide +kernel
theorem dX0_compile_4 : decode cX0_compile 4 = .ok (.ifCond .eq 4, 3) := by decide +kernel
theorem dX0_compile_7 : decode cX0_compile 7 = .ok (.return_, 1) := by decide +kernel
theorem dX0_compile_8 : decode cX0_compile 8 = .ok (.aload_n 0, 1) := by decide +kernel
theorem dX0_compile_9 : decode cX0_compile 9 = .ok (.iconst 1, 1) := by decide +kernel
theorem dX0_compile_10 : decode cX0_compile 10 = .ok (.putfield 52, 3) := by decide +kernel
theorem dX0_compile_13 : decode cX0_compile 13 = .ok (.aload_n 0, 1) := by decide +kernel
theorem dX0_compile_14 : decode cX0_compile 14 = .ok (.aload_n 0, 1) := by decide +kernel
theorem dX0_compile_15 : decode cX0_compile 15 = .ok (.invokevirtual 108, 3) := by decide +kernel
theorem dX0_compile_18 : decode cX0_compile 18 = .ok (.putfield 59, 3) := by decide +kernel
theorem dX0_compile_21 : decode cX0_compile 21 = .ok (.aload_n 0, 1) := by decide +kernel
theorem dX0_compile_22 : decode cX0_compile 22 = .ok (.getfield 59, 3) := by decide +kernel
theorem dX0_compile_25 : decode cX0_compile 25 = .ok (.ifCond .ne 4, 3) := by decide +kernel
theorem dX0_compile_28 : decode cX0_compile 28 = .ok (.return_, 1) := by decide +kernel
theorem dX0_compile_29 : decode cX0_compile 29 = .ok (.aload_n 0, 1) := by decide +kernel
theorem dX0_compile_30 : decode cX0_compile 30 = .ok (.iconst 0, 1) := by decide +kernel
theorem dX0_compile_31 : decode cX0_compile 31 = .ok (.putfield 69, 3) := by decide +kernel
theorem dX0_compile_34 : decode cX0_compile 34 = .ok (.aload_n 0, 1) := by decide +kernel
theorem dX0_compile_35 : decode cX0_compile 35 = .ok (.iconst 0, 1) := by decide +kernel
theorem dX0_compile_36 : decode cX0_compile 36 = .ok (.putfield 98, 3) := by decide +kernel
theorem dX0_compile_39 : decode cX0_compile 39 = .ok (.aload_n 0, 1) := by decide +kernel
theorem dX0_compile_40 : decode cX0_compile 40 = .ok (.iconst 0, 1) := by decide +kernel
theorem dX0_compile_41 : decode cX0_compile 41 = .ok (.putfield 112, 3) := by decide +kernel
theorem dX0_compile_44 : decode cX0_compile 44 = .ok (.aload_n 0, 1) := by decide +kernel
theorem dX0_compile_45 : decode cX0_compile 45 = .ok (.iconst 0, 1) := by decide +kernel
theorem dX0_compile_46 : decode cX0_compile 46 = .ok (.putfield 115, 3) := by decide +kernel
theorem dX0_compile_49 : decode cX0_compile 49 = .ok (.iconst 0, 1) := by decide +kernel
theorem dX0_compile_50 : decode cX0_compile 50 = .ok (.istore_n 1, 1) := by decide +kernel
theorem dX0_compile_51 : decode cX0_compile 51 = .ok (.iload_n 1, 1) := by decide +kernel
theorem dX0_compile_52 : decode cX0_compile 52 = .ok (.bipush 6, 2) := by decide +kernel
theorem dX0_compile_54 : decode cX0_compile 54 = .ok (.if_icmp .ge 14, 3) := by decide +kernel
theorem dX0_compile_57 : decode cX0_compile 57 = .ok (.aload_n 0, 1) := by decide +kernel
theorem dX0_compile_58 : decode cX0_compile 58 = .ok (.iload_n 1, 1) := by decide +kernel
theorem dX0_compile_59 : decode cX0_compile 59 = .ok (.invokevirtual 118, 3) := by decide +kernel
theorem dX0_compile_62 : decode cX0_compile 62 = .ok (.iinc 1 1, 3) := by decide +kernel
theorem dX0_compile_65 : decode cX0_compile 65 = .ok (.goto (-14), 3) := by decide +kernel
theorem dX0_compile_68 : decode cX0_compile 68 = .ok (.iconst 0, 1) := by decide +kernel
theorem dX0_compile_69 : decode cX0_compile 69 = .ok (.istore_n 1, 1) := by decide +kernel
theorem dX0_compile_70 : decode cX0_compile 70 = .ok (.iload_n 1, 1) := by decide +kernel
theorem dX0_compile_71 : decode cX0_compile 71 = .ok (.aload_n 0, 1) := by decide +kernel
theorem dX0_compile_72 : decode cX0_compile 72 = .ok (.getfield 48, 3) := by decide +kernel
theorem dX0_compile_75 : decode cX0_compile 75 = .ok (.if_icmp .ge 30, 3) := by decide +kernel
theorem dX0_compile_78 : decode cX0_compile 78 = .ok (.aload_n 0, 1) := by decide +kernel
theorem dX0_compile_79 : decode cX0_compile 79 = .ok (.iload_n 1, 1) := by decide +kernel
theorem dX0_compile_80 : decode cX0_compile 80 = .ok (.invokevirtual 87, 3) := by decide +kernel
theorem dX0_compile_83 : decode cX0_compile 83 = .ok (.ifCond .eq 11, 3) := by decide +kernel
theorem dX0_compile_86 : decode cX0_compile 86 = .ok (.aload_n 0, 1) := by decide +kernel
theorem dX0_compile_87 : decode cX0_compile 87 = .ok (.iload_n 1, 1) := by decide +kernel
theorem dX0_compile_88 : decode cX0_compile 88 = .ok (.invokevirtual 121, 3) := by decide +kernel
theorem dX0_compile_91 : decode cX0_compile 91 = .ok (.goto 8, 3) := by decide +kernel
theorem dX0_compile_94 : decode cX0_compile 94 = .ok (.aload_n 0, 1) := by decide +kernel
theorem dX0_compile_95 : decode cX0_compile 95 = .ok (.iload_n 1, 1) := by decide +kernel
theorem dX0_compile_96 : decode cX0_compile 96 = .ok (.invokevirtual 124, 3) := by decide +kernel
theorem dX0_compile_99 : decode cX0_compile 99 = .ok (.iinc 1 1, 3) := by decide +kernel
theorem dX0_compile_102 : decode cX0_compile 102 = .ok (.goto (-32), 3) := by decide +kernel
theorem dX0_compile_105 : decode cX0_compile 105 = .ok (.aload_n 0, 1) := by decide +kernel
theorem dX0_compile_106 : decode cX0_compile 106 = .ok (.invokevirtual 127, 3) := by decide +kernel
theorem dX0_compile_109 : decode cX0_compile 109 = .ok (.return_, 1) := by decide +kernel
theorem dX0_blocksFit_0 : decode cX0_blocksFit 0 = .ok (.iconst 0, 1) := by decide +kernel
theorem dX0_blocksFit_1 : decode cX0_blocksFit 1 = .ok (.istore_n 1, 1) := by decide +kernel
theorem dX0_blocksFit_2 : decode cX0_blocksFit 2 = .ok (.iconst 0, 1) := by decide +kernel
theorem dX0_blocksFit_3 : decode cX0_blocksFit 3 = .ok (.istore_n 2, 1) := by decide +kernel
theorem dX0_blocksFit_4 : decode cX0_blocksFit 4 = .ok (.iload_n 2, 1) := by decide +kernel
theorem dX0_blocksFit_5 : decode cX0_blocksFit 5 = .ok (.aload_n 0, 1) := by decide +kernel
theorem dX0_blocksFit_6 : decode cX0_blocksFit 6 = .ok (.getfield 48, 3) := by decide +kernel
theorem dX0_blocksFit_9 : decode cX0_blocksFit 9 = .ok (.if_icmp .ge 102, 3) := by decide +kernel
theorem dX0_blocksFit_12 : decode cX0_blocksFit 12 = .ok (.aload_n 0, 1) := by decide +kernel
theorem dX0_blocksFit_13 : decode cX0_blocksFit 13 = .ok (.getfield 7, 3) := by decide +kernel
theorem dX0_blocksFit_16 : decode cX0_blocksFit 16 = .ok (.iload_n 2, 1) := by decide +kernel
theorem dX0_blocksFit_17 : decode cX0_blocksFit 17 = .ok (.baload, 1) := by decide +kernel
theorem dX0_blocksFit_18 : decode cX0_blocksFit 18 = .ok (.istore_n 3, 1) := by decide +kernel
theorem dX0_blocksFit_19 : decode cX0_blocksFit 19 = .ok (.iload_n 3, 1) := by decide +kernel
theorem dX0_blocksFit_20 : decode cX0_blocksFit 20 = .ok (.bipush 8, 2) := by decide +kernel
theorem dX0_blocksFit_22 : decode cX0_blocksFit 22 = .ok (.if_icmp .eq 9, 3) := by decide +kernel
theorem dX0_blocksFit_25 : decode cX0_blocksFit 25 = .ok (.iload_n 3, 1) := by decide +kernel
theorem dX0_blocksFit_26 : decode cX0_blocksFit 26 = .ok (.bipush 10, 2) := by decide +kernel
theorem dX0_blocksFit_28 : decode cX0_blocksFit 28 = .ok (.if_icmp .ne 24, 3) := by decide +kernel
theorem dX0_blocksFit_31 : decode cX0_blocksFit 31 = .ok (.iload_n 1, 1) := by decide +kernel
theorem dX0_blocksFit_32 : decode cX0_blocksFit 32 = .ok (.iconst 3, 1) := by decide +kernel
theorem dX0_blocksFit_33 : decode cX0_blocksFit 33 = .ok (.if_icmp .ne 5, 3) := by decide +kernel
theorem dX0_blocksFit_36 : decode cX0_blocksFit 36 = .ok (.iconst 0, 1) := by decide +kernel
theorem dX0_blocksFit_37 : decode cX0_blocksFit 37 = .ok (.ireturn, 1) := by decide +kernel
theorem dX0_blocksFit_38 : decode cX0_blocksFit 38 = .ok (.aload_n 0, 1) := by decide +kernel
theorem dX0_blocksFit_39 : decode cX0_blocksFit 39 = .ok (.getfield 35, 3) := by decide +kernel
theorem dX0_blocksFit_42 : decode cX0_blocksFit 42 = .ok (.iload_n 1, 1) := by decide +kernel
theorem dX0_blocksFit_43 : decode cX0_blocksFit 43 = .ok (.iload_n 3, 1) := by decide +kernel
theorem dX0_blocksFit_44 : decode cX0_blocksFit 44 = .ok (.i2b, 1) := by decide +kernel
theorem dX0_blocksFit_45 : decode cX0_blocksFit 45 = .ok (.bastore, 1) := by decide +kernel
theorem dX0_blocksFit_46 : decode cX0_blocksFit 46 = .ok (.iinc 1 1, 3) := by decide +kernel
theorem dX0_blocksFit_49 : decode cX0_blocksFit 49 = .ok (.goto 56, 3) := by decide +kernel
theorem dX0_blocksFit_52 : decode cX0_blocksFit 52 = .ok (.iload_n 3, 1) := by decide +kernel
theorem dX0_blocksFit_53 : decode cX0_blocksFit 53 = .ok (.bipush 9, 2) := by decide +kernel
theorem dX0_blocksFit_55 : decode cX0_blocksFit 55 = .ok (.if_icmp .ne 35, 3) := by decide +kernel
theorem dX0_blocksFit_58 : decode cX0_blocksFit 58 = .ok (.iload_n 1, 1) := by decide +kernel
theorem dX0_blocksFit_59 : decode cX0_blocksFit 59 = .ok (.ifCond .eq 16, 3) := by decide +kernel
theorem dX0_blocksFit_62 : decode cX0_blocksFit 62 = .ok (.aload_n 0, 1) := by decide +kernel
theorem dX0_blocksFit_63 : decode cX0_blocksFit 63 = .ok (.getfield 35, 3) := by decide +kernel
theorem dX0_blocksFit_66 : decode cX0_blocksFit 66 = .ok (.iload_n 1, 1) := by decide +kernel
theorem dX0_blocksFit_67 : decode cX0_blocksFit 67 = .ok (.iconst 1, 1) := by decide +kernel
theorem dX0_blocksFit_68 : decode cX0_blocksFit 68 = .ok (.isub, 1) := by decide +kernel
theorem dX0_blocksFit_69 : decode cX0_blocksFit 69 = .ok (.baload, 1) := by decide +kernel
theorem dX0_blocksFit_70 : decode cX0_blocksFit 70 = .ok (.bipush 8, 2) := by decide +kernel
theorem dX0_blocksFit_72 : decode cX0_blocksFit 72 = .ok (.if_icmp .eq 5, 3) := by decide +kernel
theorem dX0_blocksFit_75 : decode cX0_blocksFit 75 = .ok (.iconst 0, 1) := by decide +kernel
theorem dX0_blocksFit_76 : decode cX0_blocksFit 76 = .ok (.ireturn, 1) := by decide +kernel
theorem dX0_blocksFit_77 : decode cX0_blocksFit 77 = .ok (.aload_n 0, 1) := by decide +kernel
theorem dX0_blocksFit_78 : decode cX0_blocksFit 78 = .ok (.getfield 35, 3) := by decide +kernel
theorem dX0_blocksFit_81 : decode cX0_blocksFit 81 = .ok (.iload_n 1, 1) := by decide +kernel
theorem dX0_blocksFit_82 : decode cX0_blocksFit 82 = .ok (.iconst 1, 1) := by decide +kernel
theorem dX0_blocksFit_83 : decode cX0_blocksFit 83 = .ok (.isub, 1) := by decide +kernel
theorem dX0_blocksFit_84 : decode cX0_blocksFit 84 = .ok (.bipush 9, 2) := by decide +kernel
theorem dX0_blocksFit_86 : decode cX0_blocksFit 86 = .ok (.bastore, 1) := by decide +kernel
theorem dX0_blocksFit_87 : decode cX0_blocksFit 87 = .ok (.goto 18, 3) := by decide +kernel
theorem dX0_blocksFit_90 : decode cX0_blocksFit 90 = .ok (.iload_n 3, 1) := by decide +kernel
theorem dX0_blocksFit_91 : decode cX0_blocksFit 91 = .ok (.bipush 11, 2) := by decide +kernel
theorem dX0_blocksFit_93 : decode cX0_blocksFit 93 = .ok (.if_icmp .ne 12, 3) := by decide +kernel
theorem dX0_blocksFit_96 : decode cX0_blocksFit 96 = .ok (.iload_n 1, 1) := by decide +kernel
theorem dX0_blocksFit_97 : decode cX0_blocksFit 97 = .ok (.ifCond .ne 5, 3) := by decide +kernel
theorem dX0_blocksFit_100 : decode cX0_blocksFit 100 = .ok (.iconst 0, 1) := by decide +kernel
theorem dX0_blocksFit_101 : decode cX0_blocksFit 101 = .ok (.ireturn, 1) := by decide +kernel
theorem dX0_blocksFit_102 : decode cX0_blocksFit 102 = .ok (.iinc 1 (-1), 3) := by decide +kernel
theorem dX0_blocksFit_105 : decode cX0_blocksFit 105 = .ok (.iinc 2 1, 3) := by decide +kernel
theorem dX0_blocksFit_108 : decode cX0_blocksFit 108 = .ok (.goto (-104), 3) := by decide +kernel
theorem dX0_blocksFit_111 : decode cX0_blocksFit 111 = .ok (.iload_n 1, 1) := by decide +kernel
theorem dX0_blocksFit_112 : decode cX0_blocksFit 112 = .ok (.ifCond .ne 7, 3) := by decide +kernel
theorem dX0_blocksFit_115 : decode cX0_blocksFit 115 = .ok (.iconst 1, 1) := by decide +kernel
theorem dX0_blocksFit_116 : decode cX0_blocksFit 116 = .ok (.goto 4, 3) := by decide +kernel
theorem dX0_blocksFit_119 : decode cX0_blocksFit 119 = .ok (.iconst 0, 1) := by decide +kernel
theorem dX0_blocksFit_120 : decode cX0_blocksFit 120 = .ok (.ireturn, 1) := by decide +kernel
theorem dX0_pushLayout_0 : decode cX0_pushLayout 0 = .ok (.aload_n 0, 1) := by decide +kernel
theorem dX0_pushLayout_1 : decode cX0_pushLayout 1 = .ok (.getfield 32, 3) := by decide +kernel
theorem dX0_pushLayout_4 : decode cX0_pushLayout 4 = .ok (.aload_n 0, 1) := by decide +kernel
theorem dX0_pushLayout_5 : decode cX0_pushLayout 5 = .ok (.getfield 98, 3) := by decide +kernel
theorem dX0_pushLayout_8 : decode cX0_pushLayout 8 = .ok (.iload_n 1, 1) := by decide +kernel
theorem dX0_pushLayout_9 : decode cX0_pushLayout 9 = .ok (.i2b, 1) := by decide +kernel
theorem dX0_pushLayout_10 : decode cX0_pushLayout 10 = .ok (.bastore, 1) := by decide +kernel
theorem dX0_pushLayout_11 : decode cX0_pushLayout 11 = .ok (.aload_n 0, 1) := by decide +kernel
theorem dX0_pushLayout_12 : decode cX0_pushLayout 12 = .ok (.dup, 1) := by decide +kernel
theorem dX0_pushLayout_13 : decode cX0_pushLayout 13 = .ok (.getfield 98, 3) := by decide +kernel
theorem dX0_pushLayout_16 : decode cX0_pushLayout 16 = .ok (.iconst 1, 1) := by decide +kernel
theorem dX0_pushLayout_17 : decode cX0_pushLayout 17 = .ok (.iadd, 1) := by decide +kernel
theorem dX0_pushLayout_18 : decode cX0_pushLayout 18 = .ok (.putfield 98, 3) := by decide +kernel
theorem dX0_pushLayout_21 : decode cX0_pushLayout 21 = .ok (.return_, 1) := by decide +kernel
theorem dX0_isBoundary_0 : decode cX0_isBoundary 0 = .ok (.iload_n 1, 1) := by decide +kernel
theorem dX0_isBoundary_1 : decode cX0_isBoundary 1 = .ok (.aload_n 0, 1) := by decide +kernel
theorem dX0_isBoundary_2 : decode cX0_isBoundary 2 = .ok (.getfield 48, 3) := by decide +kernel
theorem dX0_isBoundary_5 : decode cX0_isBoundary 5 = .ok (.if_icmp .ge 14, 3) := by decide +kernel
theorem dX0_isBoundary_8 : decode cX0_isBoundary 8 = .ok (.aload_n 0, 1) := by decide +kernel
theorem dX0_isBoundary_9 : decode cX0_isBoundary 9 = .ok (.getfield 7, 3) := by decide +kernel
theorem dX0_isBoundary_12 : decode cX0_isBoundary 12 = .ok (.iload_n 1, 1) := by decide +kernel
theorem dX0_isBoundary_13 : decode cX0_isBoundary 13 = .ok (.baload, 1) := by decide +kernel
theorem dX0_isBoundary_14 : decode cX0_isBoundary 14 = .ok (.bipush 8, 2) := by decide +kernel
theorem dX0_isBoundary_16 : decode cX0_isBoundary 16 = .ok (.if_icmp .lt 7, 3) := by decide +kernel
theorem dX0_isBoundary_19 : decode cX0_isBoundary 19 = .ok (.iconst 1, 1) := by decide +kernel
theorem dX0_isBoundary_20 : decode cX0_isBoundary 20 = .ok (.goto 4, 3) := by decide +kernel
theorem dX0_isBoundary_23 : decode cX0_isBoundary 23 = .ok (.iconst 0, 1) := by decide +kernel
theorem dX0_isBoundary_24 : decode cX0_isBoundary 24 = .ok (.ireturn, 1) := by decide +kernel
end
section
set_option maxRecDepth 100000
theorem dX0_compileBoundary_0 : decode cX0_compileBoundary 0 = .ok (.aload_n 0, 1) := by decide +kernel
theorem dX0_compileBoundary_1 : decode cX0_compileBoundary 1 = .ok (.getfield 7, 3) := by decide +kernel
theorem dX0_compileBoundary_4 : decode cX0_compileBoundary 4 = .ok (.iload_n 1, 1) := by decide +kernel
theorem dX0_compileBoundary_5 : decode cX0_compileBoundary 5 = .ok (.baload, 1) := by decide +kernel
theorem dX0_compileBoundary_6 : decode cX0_compileBoundary 6 = .ok (.istore_n 2, 1) := by decide +kernel
theorem dX0_compileBoundary_7 : decode cX0_compileBoundary 7 = .ok (.aload_n 0, 1) := by decide +kernel
theorem dX0_compileBoundary_8 : decode cX0_compileBoundary 8 = .ok (.invokevirtual 127, 3) := by decide +kernel
theorem dX0_compileBoundary_11 : decode cX0_compileBoundary 11 = .ok (.iload_n 2, 1) := by decide +kernel
theorem dX0_compileBoundary_12 : decode cX0_compileBoundary 12 = .ok (.bipush 8, 2) := by decide +kernel
theorem dX0_compileBoundary_14 : decode cX0_compileBoundary 14 = .ok (.if_icmp .ne 36, 3) := by decide +kernel
theorem dX0_compileBoundary_17 : decode cX0_compileBoundary 17 = .ok (.aload_n 0, 1) := by decide +kernel
theorem dX0_compileBoundary_18 : decode cX0_compileBoundary 18 = .ok (.aload_n 0, 1) := by decide +kernel
theorem dX0_compileBoundary_19 : decode cX0_compileBoundary 19 = .ok (.getfield 13, 3) := by decide +kernel
theorem dX0_compileBoundary_22 : decode cX0_compileBoundary 22 = .ok (.iload_n 1, 1) := by decide +kernel
theorem dX0_compileBoundary_23 : decode cX0_compileBoundary 23 = .ok (.iaload, 1) := by decide +kernel
theorem dX0_compileBoundary_24 : decode cX0_compileBoundary 24 = .ok (.invokevirtual 101, 3) := by decide +kernel
theorem dX0_compileBoundary_27 : decode cX0_compileBoundary 27 = .ok (.istore_n 3, 1) := by decide +kernel
theorem dX0_compileBoundary_28 : decode cX0_compileBoundary 28 = .ok (.aload_n 0, 1) := by decide +kernel
theorem dX0_compileBoundary_29 : decode cX0_compileBoundary 29 = .ok (.iconst 1, 1) := by decide +kernel
theorem dX0_compileBoundary_30 : decode cX0_compileBoundary 30 = .ok (.iload_n 3, 1) := by decide +kernel
theorem dX0_compileBoundary_31 : decode cX0_compileBoundary 31 = .ok (.invokevirtual 104, 3) := by decide +kernel
theorem dX0_compileBoundary_34 : decode cX0_compileBoundary 34 = .ok (.aload_n 0, 1) := by decide +kernel
theorem dX0_compileBoundary_35 : decode cX0_compileBoundary 35 = .ok (.bipush 8, 2) := by decide +kernel
theorem dX0_compileBoundary_37 : decode cX0_compileBoundary 37 = .ok (.invokevirtual 146, 3) := by decide +kernel
theorem dX0_compileBoundary_40 : decode cX0_compileBoundary 40 = .ok (.aload_n 0, 1) := by decide +kernel
theorem dX0_compileBoundary_41 : decode cX0_compileBoundary 41 = .ok (.bipush 10, 2) := by decide +kernel
theorem dX0_compileBoundary_43 : decode cX0_compileBoundary 43 = .ok (.iconst 0, 1) := by decide +kernel
theorem dX0_compileBoundary_44 : decode cX0_compileBoundary 44 = .ok (.invokevirtual 104, 3) := by decide +kernel
theorem dX0_compileBoundary_47 : decode cX0_compileBoundary 47 = .ok (.goto 121, 3) := by decide +kernel
theorem dX0_compileBoundary_50 : decode cX0_compileBoundary 50 = .ok (.iload_n 2, 1) := by decide +kernel
theorem dX0_compileBoundary_51 : decode cX0_compileBoundary 51 = .ok (.bipush 10, 2) := by decide +kernel
theorem dX0_compileBoundary_53 : decode cX0_compileBoundary 53 = .ok (.if_icmp .ne 57, 3) := by decide +kernel
theorem dX0_compileBoundary_56 : decode cX0_compileBoundary 56 = .ok (.aload_n 0, 1) := by decide +kernel
theorem dX0_compileBoundary_57 : decode cX0_compileBoundary 57 = .ok (.iconst 0, 1) := by decide +kernel
theorem dX0_compileBoundary_58 : decode cX0_compileBoundary 58 = .ok (.aload_n 0, 1) := by decide +kernel
theorem dX0_compileBoundary_59 : decode cX0_compileBoundary 59 = .ok (.getfield 13, 3) := by decide +kernel
theorem dX0_compileBoundary_62 : decode cX0_compileBoundary 62 = .ok (.iload_n 1, 1) := by decide +kernel
theorem dX0_compileBoundary_63 : decode cX0_compileBoundary 63 = .ok (.iaload, 1) := by decide +kernel
theorem dX0_compileBoundary_64 : decode cX0_compileBoundary 64 = .ok (.invokevirtual 104, 3) := by decide +kernel
theorem dX0_compileBoundary_67 : decode cX0_compileBoundary 67 = .ok (.aload_n 0, 1) := by decide +kernel
theorem dX0_compileBoundary_68 : decode cX0_compileBoundary 68 = .ok (.bipush 6, 2) := by decide +kernel
theorem dX0_compileBoundary_70 : decode cX0_compileBoundary 70 = .ok (.aload_n 0, 1) := by decide +kernel
theorem dX0_compileBoundary_71 : decode cX0_compileBoundary 71 = .ok (.getfield 112, 3) := by decide +kernel
theorem dX0_compileBoundary_74 : decode cX0_compileBoundary 74 = .ok (.iadd, 1) := by decide +kernel
theorem dX0_compileBoundary_75 : decode cX0_compileBoundary 75 = .ok (.invokevirtual 118, 3) := by decide +kernel
theorem dX0_compileBoundary_78 : decode cX0_compileBoundary 78 = .ok (.aload_n 0, 1) := by decide +kernel
theorem dX0_compileBoundary_79 : decode cX0_compileBoundary 79 = .ok (.dup, 1) := by decide +kernel
theorem dX0_compileBoundary_80 : decode cX0_compileBoundary 80 = .ok (.getfield 112, 3) := by decide +kernel
theorem dX0_compileBoundary_83 : decode cX0_compileBoundary 83 = .ok (.iconst 1, 1) := by decide +kernel
theorem dX0_compileBoundary_84 : decode cX0_compileBoundary 84 = .ok (.iadd, 1) := by decide +kernel
theorem dX0_compileBoundary_85 : decode cX0_compileBoundary 85 = .ok (.putfield 112, 3) := by decide +kernel
theorem dX0_compileBoundary_88 : decode cX0_compileBoundary 88 = .ok (.aload_n 0, 1) := by decide +kernel
theorem dX0_compileBoundary_89 : decode cX0_compileBoundary 89 = .ok (.iconst 1, 1) := by decide +kernel
theorem dX0_compileBoundary_90 : decode cX0_compileBoundary 90 = .ok (.iconst 0, 1) := by decide +kernel
theorem dX0_compileBoundary_91 : decode cX0_compileBoundary 91 = .ok (.invokevirtual 104, 3) := by decide +kernel
theorem dX0_compileBoundary_94 : decode cX0_compileBoundary 94 = .ok (.aload_n 0, 1) := by decide +kernel
theorem dX0_compileBoundary_95 : decode cX0_compileBoundary 95 = .ok (.bipush 10, 2) := by decide +kernel
theorem dX0_compileBoundary_97 : decode cX0_compileBoundary 97 = .ok (.invokevirtual 146, 3) := by decide +kernel
theorem dX0_compileBoundary_100 : decode cX0_compileBoundary 100 = .ok (.aload_n 0, 1) := by decide +kernel
theorem dX0_compileBoundary_101 : decode cX0_compileBoundary 101 = .ok (.bipush 10, 2) := by decide +kernel
theorem dX0_compileBoundary_103 : decode cX0_compileBoundary 103 = .ok (.iconst 0, 1) := by decide +kernel
theorem dX0_compileBoundary_104 : decode cX0_compileBoundary 104 = .ok (.invokevirtual 104, 3) := by decide +kernel
theorem dX0_compileBoundary_107 : decode cX0_compileBoundary 107 = .ok (.goto 61, 3) := by decide +kernel
theorem dX0_compileBoundary_110 : decode cX0_compileBoundary 110 = .ok (.iload_n 2, 1) := by decide +kernel
theorem dX0_compileBoundary_111 : decode cX0_compileBoundary 111 = .ok (.bipush 9, 2) := by decide +kernel
theorem dX0_compileBoundary_113 : decode cX0_compileBoundary 113 = .ok (.if_icmp .ne 51, 3) := by decide +kernel
theorem dX0_compileBoundary_116 : decode cX0_compileBoundary 116 = .ok (.aload_n 0, 1) := by decide +kernel
theorem dX0_compileBoundary_117 : decode cX0_compileBoundary 117 = .ok (.getfield 38, 3) := by decide +kernel
theorem dX0_compileBoundary_120 : decode cX0_compileBoundary 120 = .ok (.aload_n 0, 1) := by decide +kernel
theorem dX0_compileBoundary_121 : decode cX0_compileBoundary 121 = .ok (.getfield 115, 3) := by decide +kernel
theorem dX0_compileBoundary_124 : decode cX0_compileBoundary 124 = .ok (.iconst 1, 1) := by decide +kernel
theorem dX0_compileBoundary_125 : decode cX0_compileBoundary 125 = .ok (.isub, 1) := by decide +kernel
theorem dX0_compileBoundary_126 : decode cX0_compileBoundary 126 = .ok (.saload, 1) := by decide +kernel
theorem dX0_compileBoundary_127 : decode cX0_compileBoundary 127 = .ok (.istore_n 3, 1) := by decide +kernel
theorem dX0_compileBoundary_128 : decode cX0_compileBoundary 128 = .ok (.aload_n 0, 1) := by decide +kernel
theorem dX0_compileBoundary_129 : decode cX0_compileBoundary 129 = .ok (.getfield 38, 3) := by decide +kernel
theorem dX0_compileBoundary_132 : decode cX0_compileBoundary 132 = .ok (.aload_n 0, 1) := by decide +kernel
theorem dX0_compileBoundary_133 : decode cX0_compileBoundary 133 = .ok (.getfield 115, 3) := by decide +kernel
theorem dX0_compileBoundary_136 : decode cX0_compileBoundary 136 = .ok (.iconst 1, 1) := by decide +kernel
theorem dX0_compileBoundary_137 : decode cX0_compileBoundary 137 = .ok (.isub, 1) := by decide +kernel
theorem dX0_compileBoundary_138 : decode cX0_compileBoundary 138 = .ok (.aload_n 0, 1) := by decide +kernel
theorem dX0_compileBoundary_139 : decode cX0_compileBoundary 139 = .ok (.getfield 69, 3) := by decide +kernel
theorem dX0_compileBoundary_142 : decode cX0_compileBoundary 142 = .ok (.i2s, 1) := by decide +kernel
theorem dX0_compileBoundary_143 : decode cX0_compileBoundary 143 = .ok (.sastore, 1) := by decide +kernel
theorem dX0_compileBoundary_144 : decode cX0_compileBoundary 144 = .ok (.aload_n 0, 1) := by decide +kernel
theorem dX0_compileBoundary_145 : decode cX0_compileBoundary 145 = .ok (.bipush 11, 2) := by decide +kernel
theorem dX0_compileBoundary_147 : decode cX0_compileBoundary 147 = .ok (.iconst 0, 1) := by decide +kernel
theorem dX0_compileBoundary_148 : decode cX0_compileBoundary 148 = .ok (.invokevirtual 104, 3) := by decide +kernel
theorem dX0_compileBoundary_151 : decode cX0_compileBoundary 151 = .ok (.aload_n 0, 1) := by decide +kernel
theorem dX0_compileBoundary_152 : decode cX0_compileBoundary 152 = .ok (.getfield 29, 3) := by decide +kernel
theorem dX0_compileBoundary_155 : decode cX0_compileBoundary 155 = .ok (.iload_n 3, 1) := by decide +kernel
theorem dX0_compileBoundary_156 : decode cX0_compileBoundary 156 = .ok (.aload_n 0, 1) := by decide +kernel
theorem dX0_compileBoundary_157 : decode cX0_compileBoundary 157 = .ok (.getfield 69, 3) := by decide +kernel
theorem dX0_compileBoundary_160 : decode cX0_compileBoundary 160 = .ok (.iastore, 1) := by decide +kernel
theorem dX0_compileBoundary_161 : decode cX0_compileBoundary 161 = .ok (.goto 7, 3) := by decide +kernel
theorem dX0_compileBoundary_164 : decode cX0_compileBoundary 164 = .ok (.aload_n 0, 1) := by decide +kernel
theorem dX0_compileBoundary_165 : decode cX0_compileBoundary 165 = .ok (.invokevirtual 149, 3) := by decide +kernel
theorem dX0_compileBoundary_168 : decode cX0_compileBoundary 168 = .ok (.return_, 1) := by decide +kernel
theorem dX0_arrange_0 : decode cX0_arrange 0 = .ok (.bipush 6, 2) := by decide +kernel
theorem dX0_arrange_2 : decode cX0_arrange 2 = .ok (.aload_n 0, 1) := by decide +kernel
theorem dX0_arrange_3 : decode cX0_arrange 3 = .ok (.getfield 112, 3) := by decide +kernel
theorem dX0_arrange_6 : decode cX0_arrange 6 = .ok (.iadd, 1) := by decide +kernel
theorem dX0_arrange_7 : decode cX0_arrange 7 = .ok (.istore_n 1, 1) := by decide +kernel
theorem dX0_arrange_8 : decode cX0_arrange 8 = .ok (.iconst 0, 1) := by decide +kernel
theorem dX0_arrange_9 : decode cX0_arrange 9 = .ok (.istore_n 2, 1) := by decide +kernel
theorem dX0_arrange_10 : decode cX0_arrange 10 = .ok (.iload_n 2, 1) := by decide +kernel
theorem dX0_arrange_11 : decode cX0_arrange 11 = .ok (.iload_n 1, 1) := by decide +kernel
theorem dX0_arrange_12 : decode cX0_arrange 12 = .ok (.if_icmp .ge 19, 3) := by decide +kernel
theorem dX0_arrange_15 : decode cX0_arrange 15 = .ok (.aload_n 0, 1) := by decide +kernel
theorem dX0_arrange_16 : decode cX0_arrange 16 = .ok (.getfield 32, 3) := by decide +kernel
theorem dX0_arrange_19 : decode cX0_arrange 19 = .ok (.iload_n 2, 1) := by decide +kernel
theorem dX0_arrange_20 : decode cX0_arrange 20 = .ok (.baload, 1) := by decide +kernel
theorem dX0_arrange_21 : decode cX0_arrange 21 = .ok (.iload_n 2, 1) := by decide +kernel
theorem dX0_arrange_22 : decode cX0_arrange 22 = .ok (.if_icmp .ne 9, 3) := by decide +kernel
theorem dX0_arrange_25 : decode cX0_arrange 25 = .ok (.iinc 2 1, 3) := by decide +kernel
theorem dX0_arrange_28 : decode cX0_arrange 28 = .ok (.goto (-18), 3) := by decide +kernel
theorem dX0_arrange_31 : decode cX0_arrange 31 = .ok (.iload_n 2, 1) := by decide +kernel
theorem dX0_arrange_32 : decode cX0_arrange 32 = .ok (.istore_n 3, 1) := by decide +kernel
theorem dX0_arrange_33 : decode cX0_arrange 33 = .ok (.iload_n 3, 1) := by decide +kernel
theorem dX0_arrange_34 : decode cX0_arrange 34 = .ok (.iload_n 1, 1) := by decide +kernel
theorem dX0_arrange_35 : decode cX0_arrange 35 = .ok (.if_icmp .ge 14, 3) := by decide +kernel
theorem dX0_arrange_38 : decode cX0_arrange 38 = .ok (.aload_n 0, 1) := by decide +kernel
theorem dX0_arrange_39 : decode cX0_arrange 39 = .ok (.iload_n 3, 1) := by decide +kernel
theorem dX0_arrange_40 : decode cX0_arrange 40 = .ok (.invokevirtual 143, 3) := by decide +kernel
theorem dX0_arrange_43 : decode cX0_arrange 43 = .ok (.iinc 3 1, 3) := by decide +kernel
theorem dX0_arrange_46 : decode cX0_arrange 46 = .ok (.goto (-13), 3) := by decide +kernel
theorem dX0_arrange_49 : decode cX0_arrange 49 = .ok (.return_, 1) := by decide +kernel
theorem dX0_pullUp_0 : decode cX0_pullUp 0 = .ok (.aload_n 0, 1) := by decide +kernel
theorem dX0_pullUp_1 : decode cX0_pullUp 1 = .ok (.iload_n 1, 1) := by decide +kernel
theorem dX0_pullUp_2 : decode cX0_pullUp 2 = .ok (.invokevirtual 101, 3) := by decide +kernel
theorem dX0_pullUp_5 : decode cX0_pullUp 5 = .ok (.istore_n 2, 1) := by decide +kernel
theorem dX0_pullUp_6 : decode cX0_pullUp 6 = .ok (.iload_n 2, 1) := by decide +kernel
theorem dX0_pullUp_7 : decode cX0_pullUp 7 = .ok (.ifCond .le 10, 3) := by decide +kernel
theorem dX0_pullUp_10 : decode cX0_pullUp 10 = .ok (.aload_n 0, 1) := by decide +kernel
theorem dX0_pullUp_11 : decode cX0_pullUp 11 = .ok (.bipush 7, 2) := by decide +kernel
theorem dX0_pullUp_13 : decode cX0_pullUp 13 = .ok (.iload_n 2, 1) := by decide +kernel
theorem dX0_pullUp_14 : decode cX0_pullUp 14 = .ok (.invokevirtual 104, 3) := by decide +kernel
theorem dX0_pullUp_17 : decode cX0_pullUp 17 = .ok (.aload_n 0, 1) := by decide +kernel
theorem dX0_pullUp_18 : decode cX0_pullUp 18 = .ok (.getfield 98, 3) := by decide +kernel
theorem dX0_pullUp_21 : decode cX0_pullUp 21 = .ok (.iconst 1, 1) := by decide +kernel
theorem dX0_pullUp_22 : decode cX0_pullUp 22 = .ok (.isub, 1) := by decide +kernel
theorem dX0_pullUp_23 : decode cX0_pullUp 23 = .ok (.iload_n 2, 1) := by decide +kernel
theorem dX0_pullUp_24 : decode cX0_pullUp 24 = .ok (.isub, 1) := by decide +kernel
theorem dX0_pullUp_25 : decode cX0_pullUp 25 = .ok (.istore_n 3, 1) := by decide +kernel
theorem dX0_pullUp_26 : decode cX0_pullUp 26 = .ok (.iload_n 3, 1) := by decide +kernel
theorem dX0_pullUp_27 : decode cX0_pullUp 27 = .ok (.aload_n 0, 1) := by decide +kernel
theorem dX0_pullUp_28 : decode cX0_pullUp 28 = .ok (.getfield 98, 3) := by decide +kernel
theorem dX0_pullUp_31 : decode cX0_pullUp 31 = .ok (.iconst 1, 1) := by decide +kernel
theorem dX0_pullUp_32 : decode cX0_pullUp 32 = .ok (.isub, 1) := by decide +kernel
theorem dX0_pullUp_33 : decode cX0_pullUp 33 = .ok (.if_icmp .ge 23, 3) := by decide +kernel
theorem dX0_pullUp_36 : decode cX0_pullUp 36 = .ok (.aload_n 0, 1) := by decide +kernel
theorem dX0_pullUp_37 : decode cX0_pullUp 37 = .ok (.getfield 32, 3) := by decide +kernel
theorem dX0_pullUp_40 : decode cX0_pullUp 40 = .ok (.iload_n 3, 1) := by decide +kernel
theorem dX0_pullUp_41 : decode cX0_pullUp 41 = .ok (.aload_n 0, 1) := by decide +kernel
theorem dX0_pullUp_42 : decode cX0_pullUp 42 = .ok (.getfield 32, 3) := by decide +kernel
theorem dX0_pullUp_45 : decode cX0_pullUp 45 = .ok (.iload_n 3, 1) := by decide +kernel
theorem dX0_pullUp_46 : decode cX0_pullUp 46 = .ok (.iconst 1, 1) := by decide +kernel
theorem dX0_pullUp_47 : decode cX0_pullUp 47 = .ok (.iadd, 1) := by decide +kernel
theorem dX0_pullUp_48 : decode cX0_pullUp 48 = .ok (.baload, 1) := by decide +kernel
theorem dX0_pullUp_49 : decode cX0_pullUp 49 = .ok (.bastore, 1) := by decide +kernel
theorem dX0_pullUp_50 : decode cX0_pullUp 50 = .ok (.iinc 3 1, 3) := by decide +kernel
theorem dX0_pullUp_53 : decode cX0_pullUp 53 = .ok (.goto (-27), 3) := by decide +kernel
theorem dX0_pullUp_56 : decode cX0_pullUp 56 = .ok (.aload_n 0, 1) := by decide +kernel
theorem dX0_pullUp_57 : decode cX0_pullUp 57 = .ok (.getfield 32, 3) := by decide +kernel
theorem dX0_pullUp_60 : decode cX0_pullUp 60 = .ok (.aload_n 0, 1) := by decide +kernel
theorem dX0_pullUp_61 : decode cX0_pullUp 61 = .ok (.getfield 98, 3) := by decide +kernel
theorem dX0_pullUp_64 : decode cX0_pullUp 64 = .ok (.iconst 1, 1) := by decide +kernel
theorem dX0_pullUp_65 : decode cX0_pullUp 65 = .ok (.isub, 1) := by decide +kernel
theorem dX0_pullUp_66 : decode cX0_pullUp 66 = .ok (.iload_n 1, 1) := by decide +kernel
theorem dX0_pullUp_67 : decode cX0_pullUp 67 = .ok (.i2b, 1) := by decide +kernel
theorem dX0_pullUp_68 : decode cX0_pullUp 68 = .ok (.bastore, 1) := by decide +kernel
theorem dX0_pullUp_69 : decode cX0_pullUp 69 = .ok (.return_, 1) := by decide +kernel
theorem dX0_distance_0 : decode cX0_distance 0 = .ok (.iconst 0, 1) := by decide +kernel
theorem dX0_distance_1 : decode cX0_distance 1 = .ok (.istore_n 2, 1) := by decide +kernel
theorem dX0_distance_2 : decode cX0_distance 2 = .ok (.iload_n 2, 1) := by decide +kernel
theorem dX0_distance_3 : decode cX0_distance 3 = .ok (.aload_n 0, 1) := by decide +kernel
theorem dX0_distance_4 : decode cX0_distance 4 = .ok (.getfield 98, 3) := by decide +kernel
theorem dX0_distance_7 : decode cX0_distance 7 = .ok (.if_icmp .ge 28, 3) := by decide +kernel
theorem dX0_distance_10 : decode cX0_distance 10 = .ok (.aload_n 0, 1) := by decide +kernel
theorem dX0_distance_11 : decode cX0_distance 11 = .ok (.getfield 32, 3) := by decide +kernel
theorem dX0_distance_14 : decode cX0_distance 14 = .ok (.aload_n 0, 1) := by decide +kernel
theorem dX0_distance_15 : decode cX0_distance 15 = .ok (.getfield 98, 3) := by decide +kernel
theorem dX0_distance_18 : decode cX0_distance 18 = .ok (.iconst 1, 1) := by decide +kernel
theorem dX0_distance_19 : decode cX0_distance 19 = .ok (.isub, 1) := by decide +kernel
theorem dX0_distance_20 : decode cX0_distance 20 = .ok (.iload_n 2, 1) := by decide +kernel
theorem dX0_distance_21 : decode cX0_distance 21 = .ok (.isub, 1) := by decide +kernel
theorem dX0_distance_22 : decode cX0_distance 22 = .ok (.baload, 1) := by decide +kernel
theorem dX0_distance_23 : decode cX0_distance 23 = .ok (.iload_n 1, 1) := by decide +kernel
theorem dX0_distance_24 : decode cX0_distance 24 = .ok (.if_icmp .ne 5, 3) := by decide +kernel
theorem dX0_distance_27 : decode cX0_distance 27 = .ok (.iload_n 2, 1) := by decide +kernel
theorem dX0_distance_28 : decode cX0_distance 28 = .ok (.ireturn, 1) := by decide +kernel
theorem dX0_distance_29 : decode cX0_distance 29 = .ok (.iinc 2 1, 3) := by decide +kernel
theorem dX0_distance_32 : decode cX0_distance 32 = .ok (.goto (-30), 3) := by decide +kernel
theorem dX0_distance_35 : decode cX0_distance 35 = .ok (.iconst (-1), 1) := by decide +kernel
theorem dX0_distance_36 : decode cX0_distance 36 = .ok (.ireturn, 1) := by decide +kernel
theorem dX0_write_0 : decode cX0_write 0 = .ok (.aload_n 0, 1) := by decide +kernel
theorem dX0_write_1 : decode cX0_write 1 = .ok (.getfield 26, 3) := by decide +kernel
theorem dX0_write_4 : decode cX0_write 4 = .ok (.aload_n 0, 1) := by decide +kernel
theorem dX0_write_5 : decode cX0_write 5 = .ok (.getfield 69, 3) := by decide +kernel
theorem dX0_write_8 : decode cX0_write 8 = .ok (.iload_n 1, 1) := by decide +kernel
theorem dX0_write_9 : decode cX0_write 9 = .ok (.i2b, 1) := by decide +kernel
theorem dX0_write_10 : decode cX0_write 10 = .ok (.bastore, 1) := by decide +kernel
theorem dX0_write_11 : decode cX0_write 11 = .ok (.aload_n 0, 1) := by decide +kernel
theorem dX0_write_12 : decode cX0_write 12 = .ok (.getfield 29, 3) := by decide +kernel
theorem dX0_write_15 : decode cX0_write 15 = .ok (.aload_n 0, 1) := by decide +kernel
theorem dX0_write_16 : decode cX0_write 16 = .ok (.getfield 69, 3) := by decide +kernel
theorem dX0_write_19 : decode cX0_write 19 = .ok (.iload_n 2, 1) := by decide +kernel
theorem dX0_write_20 : decode cX0_write 20 = .ok (.iastore, 1) := by decide +kernel
theorem dX0_write_21 : decode cX0_write 21 = .ok (.aload_n 0, 1) := by decide +kernel
theorem dX0_write_22 : decode cX0_write 22 = .ok (.dup, 1) := by decide +kernel
theorem dX0_write_23 : decode cX0_write 23 = .ok (.getfield 69, 3) := by decide +kernel
theorem dX0_write_26 : decode cX0_write 26 = .ok (.iconst 1, 1) := by decide +kernel
theorem dX0_write_27 : decode cX0_write 27 = .ok (.iadd, 1) := by decide +kernel
theorem dX0_write_28 : decode cX0_write 28 = .ok (.putfield 69, 3) := by decide +kernel
theorem dX0_write_31 : decode cX0_write 31 = .ok (.return_, 1) := by decide +kernel
theorem dX0_openBlock_0 : decode cX0_openBlock 0 = .ok (.aload_n 0, 1) := by decide +kernel
theorem dX0_openBlock_1 : decode cX0_openBlock 1 = .ok (.getfield 35, 3) := by decide +kernel
theorem dX0_openBlock_4 : decode cX0_openBlock 4 = .ok (.aload_n 0, 1) := by decide +kernel
theorem dX0_openBlock_5 : decode cX0_openBlock 5 = .ok (.getfield 115, 3) := by decide +kernel
theorem dX0_openBlock_8 : decode cX0_openBlock 8 = .ok (.iload_n 1, 1) := by decide +kernel
theorem dX0_openBlock_9 : decode cX0_openBlock 9 = .ok (.i2b, 1) := by decide +kernel
theorem dX0_openBlock_10 : decode cX0_openBlock 10 = .ok (.bastore, 1) := by decide +kernel
theorem dX0_openBlock_11 : decode cX0_openBlock 11 = .ok (.aload_n 0, 1) := by decide +kernel
theorem dX0_openBlock_12 : decode cX0_openBlock 12 = .ok (.getfield 38, 3) := by decide +kernel
theorem dX0_openBlock_15 : decode cX0_openBlock 15 = .ok (.aload_n 0, 1) := by decide +kernel
theorem dX0_openBlock_16 : decode cX0_openBlock 16 = .ok (.getfield 115, 3) := by decide +kernel
theorem dX0_openBlock_19 : decode cX0_openBlock 19 = .ok (.aload_n 0, 1) := by decide +kernel
theorem dX0_openBlock_20 : decode cX0_openBlock 20 = .ok (.getfield 69, 3) := by decide +kernel
theorem dX0_openBlock_23 : decode cX0_openBlock 23 = .ok (.i2s, 1) := by decide +kernel
theorem dX0_openBlock_24 : decode cX0_openBlock 24 = .ok (.sastore, 1) := by decide +kernel
theorem dX0_openBlock_25 : decode cX0_openBlock 25 = .ok (.aload_n 0, 1) := by decide +kernel
theorem dX0_openBlock_26 : decode cX0_openBlock 26 = .ok (.dup, 1) := by decide +kernel
theorem dX0_openBlock_27 : decode cX0_openBlock 27 = .ok (.getfield 115, 3) := by decide +kernel
theorem dX0_openBlock_30 : decode cX0_openBlock 30 = .ok (.iconst 1, 1) := by decide +kernel
theorem dX0_openBlock_31 : decode cX0_openBlock 31 = .ok (.iadd, 1) := by decide +kernel
theorem dX0_openBlock_32 : decode cX0_openBlock 32 = .ok (.putfield 115, 3) := by decide +kernel
theorem dX0_openBlock_35 : decode cX0_openBlock 35 = .ok (.return_, 1) := by decide +kernel
theorem dX0_closeBlock_0 : decode cX0_closeBlock 0 = .ok (.aload_n 0, 1) := by decide +kernel
theorem dX0_closeBlock_1 : decode cX0_closeBlock 1 = .ok (.dup, 1) := by decide +kernel
theorem dX0_closeBlock_2 : decode cX0_closeBlock 2 = .ok (.getfield 115, 3) := by decide +kernel
theorem dX0_closeBlock_5 : decode cX0_closeBlock 5 = .ok (.iconst 1, 1) := by decide +kernel
theorem dX0_closeBlock_6 : decode cX0_closeBlock 6 = .ok (.isub, 1) := by decide +kernel
theorem dX0_closeBlock_7 : decode cX0_closeBlock 7 = .ok (.putfield 115, 3) := by decide +kernel
theorem dX0_closeBlock_10 : decode cX0_closeBlock 10 = .ok (.aload_n 0, 1) := by decide +kernel
theorem dX0_closeBlock_11 : decode cX0_closeBlock 11 = .ok (.getfield 38, 3) := by decide +kernel
theorem dX0_closeBlock_14 : decode cX0_closeBlock 14 = .ok (.aload_n 0, 1) := by decide +kernel
theorem dX0_closeBlock_15 : decode cX0_closeBlock 15 = .ok (.getfield 115, 3) := by decide +kernel
theorem dX0_closeBlock_18 : decode cX0_closeBlock 18 = .ok (.saload, 1) := by decide +kernel
theorem dX0_closeBlock_19 : decode cX0_closeBlock 19 = .ok (.istore_n 1, 1) := by decide +kernel
theorem dX0_closeBlock_20 : decode cX0_closeBlock 20 = .ok (.aload_n 0, 1) := by decide +kernel
theorem dX0_closeBlock_21 : decode cX0_closeBlock 21 = .ok (.getfield 35, 3) := by decide +kernel
theorem dX0_closeBlock_24 : decode cX0_closeBlock 24 = .ok (.aload_n 0, 1) := by decide +kernel
theorem dX0_closeBlock_25 : decode cX0_closeBlock 25 = .ok (.getfield 115, 3) := by decide +kernel
theorem dX0_closeBlock_28 : decode cX0_closeBlock 28 = .ok (.baload, 1) := by decide +kernel
theorem dX0_closeBlock_29 : decode cX0_closeBlock 29 = .ok (.bipush 10, 2) := by decide +kernel
theorem dX0_closeBlock_31 : decode cX0_closeBlock 31 = .ok (.if_icmp .eq 14, 3) := by decide +kernel
theorem dX0_closeBlock_34 : decode cX0_closeBlock 34 = .ok (.aload_n 0, 1) := by decide +kernel
theorem dX0_closeBlock_35 : decode cX0_closeBlock 35 = .ok (.getfield 29, 3) := by decide +kernel
theorem dX0_closeBlock_38 : decode cX0_closeBlock 38 = .ok (.iload_n 1, 1) := by decide +kernel
theorem dX0_closeBlock_39 : decode cX0_closeBlock 39 = .ok (.aload_n 0, 1) := by decide +kernel
theorem dX0_closeBlock_40 : decode cX0_closeBlock 40 = .ok (.getfield 69, 3) := by decide +kernel
theorem dX0_closeBlock_43 : decode cX0_closeBlock 43 = .ok (.iastore, 1) := by decide +kernel
theorem dX0_closeBlock_44 : decode cX0_closeBlock 44 = .ok (.return_, 1) := by decide +kernel
theorem dX0_closeBlock_45 : decode cX0_closeBlock 45 = .ok (.aload_n 0, 1) := by decide +kernel
theorem dX0_closeBlock_46 : decode cX0_closeBlock 46 = .ok (.iconst 0, 1) := by decide +kernel
theorem dX0_closeBlock_47 : decode cX0_closeBlock 47 = .ok (.iconst (-1), 1) := by decide +kernel
theorem dX0_closeBlock_48 : decode cX0_closeBlock 48 = .ok (.invokevirtual 104, 3) := by decide +kernel
theorem dX0_closeBlock_51 : decode cX0_closeBlock 51 = .ok (.aload_n 0, 1) := by decide +kernel
theorem dX0_closeBlock_52 : decode cX0_closeBlock 52 = .ok (.iconst 2, 1) := by decide +kernel
theorem dX0_closeBlock_53 : decode cX0_closeBlock 53 = .ok (.iconst 0, 1) := by decide +kernel
theorem dX0_closeBlock_54 : decode cX0_closeBlock 54 = .ok (.invokevirtual 104, 3) := by decide +kernel
theorem dX0_closeBlock_57 : decode cX0_closeBlock 57 = .ok (.aload_n 0, 1) := by decide +kernel
theorem dX0_closeBlock_58 : decode cX0_closeBlock 58 = .ok (.bipush 11, 2) := by decide +kernel
theorem dX0_closeBlock_60 : decode cX0_closeBlock 60 = .ok (.iload_n 1, 1) := by decide +kernel
theorem dX0_closeBlock_61 : decode cX0_closeBlock 61 = .ok (.iconst 1, 1) := by decide +kernel
theorem dX0_closeBlock_62 : decode cX0_closeBlock 62 = .ok (.isub, 1) := by decide +kernel
theorem dX0_closeBlock_63 : decode cX0_closeBlock 63 = .ok (.invokevirtual 104, 3) := by decide +kernel
theorem dX0_closeBlock_66 : decode cX0_closeBlock 66 = .ok (.aload_n 0, 1) := by decide +kernel
theorem dX0_closeBlock_67 : decode cX0_closeBlock 67 = .ok (.getfield 29, 3) := by decide +kernel
theorem dX0_closeBlock_70 : decode cX0_closeBlock 70 = .ok (.iload_n 1, 1) := by decide +kernel
theorem dX0_closeBlock_71 : decode cX0_closeBlock 71 = .ok (.aload_n 0, 1) := by decide +kernel
theorem dX0_closeBlock_72 : decode cX0_closeBlock 72 = .ok (.getfield 69, 3) := by decide +kernel
theorem dX0_closeBlock_75 : decode cX0_closeBlock 75 = .ok (.iastore, 1) := by decide +kernel
theorem dX0_closeBlock_76 : decode cX0_closeBlock 76 = .ok (.aload_n 0, 1) := by decide +kernel
theorem dX0_closeBlock_77 : decode cX0_closeBlock 77 = .ok (.bipush 8, 2) := by decide +kernel
theorem dX0_closeBlock_79 : decode cX0_closeBlock 79 = .ok (.iconst 0, 1) := by decide +kernel
theorem dX0_closeBlock_80 : decode cX0_closeBlock 80 = .ok (.invokevirtual 104, 3) := by decide +kernel
theorem dX0_closeBlock_83 : decode cX0_closeBlock 83 = .ok (.aload_n 0, 1) := by decide +kernel
theorem dX0_closeBlock_84 : decode cX0_closeBlock 84 = .ok (.dup, 1) := by decide +kernel
theorem dX0_closeBlock_85 : decode cX0_closeBlock 85 = .ok (.getfield 98, 3) := by decide +kernel
theorem dX0_closeBlock_88 : decode cX0_closeBlock 88 = .ok (.iconst 1, 1) := by decide +kernel
theorem dX0_closeBlock_89 : decode cX0_closeBlock 89 = .ok (.isub, 1) := by decide +kernel
theorem dX0_closeBlock_90 : decode cX0_closeBlock 90 = .ok (.putfield 98, 3) := by decide +kernel
theorem dX0_closeBlock_93 : decode cX0_closeBlock 93 = .ok (.aload_n 0, 1) := by decide +kernel
theorem dX0_closeBlock_94 : decode cX0_closeBlock 94 = .ok (.dup, 1) := by decide +kernel
theorem dX0_closeBlock_95 : decode cX0_closeBlock 95 = .ok (.getfield 112, 3) := by decide +kernel
theorem dX0_closeBlock_98 : decode cX0_closeBlock 98 = .ok (.iconst 1, 1) := by decide +kernel
theorem dX0_closeBlock_99 : decode cX0_closeBlock 99 = .ok (.isub, 1) := by decide +kernel
theorem dX0_closeBlock_100 : decode cX0_closeBlock 100 = .ok (.putfield 112, 3) := by decide +kernel
theorem dX0_closeBlock_103 : decode cX0_closeBlock 103 = .ok (.return_, 1) := by decide +kernel
theorem dX0_compileStraight_0 : decode cX0_compileStraight 0 = .ok (.aload_n 0, 1) := by decide +kernel
theorem dX0_compileStraight_1 : decode cX0_compileStraight 1 = .ok (.getfield 7, 3) := by decide +kernel
theorem dX0_compileStraight_4 : decode cX0_compileStraight 4 = .ok (.iload_n 1, 1) := by decide +kernel
theorem dX0_compileStraight_5 : decode cX0_compileStraight 5 = .ok (.baload, 1) := by decide +kernel
theorem dX0_compileStraight_6 : decode cX0_compileStraight 6 = .ok (.istore_n 2, 1) := by decide +kernel
theorem dX0_compileStraight_7 : decode cX0_compileStraight 7 = .ok (.iload_n 2, 1) := by decide +kernel
theorem dX0_compileStraight_8 : decode cX0_compileStraight 8 = .ok (.bipush 7, 2) := by decide +kernel
theorem dX0_compileStraight_10 : decode cX0_compileStraight 10 = .ok (.if_icmp .ne 33, 3) := by decide +kernel
theorem dX0_compileStraight_13 : decode cX0_compileStraight 13 = .ok (.aload_n 0, 1) := by decide +kernel
theorem dX0_compileStraight_14 : decode cX0_compileStraight 14 = .ok (.iload_n 1, 1) := by decide +kernel
theorem dX0_compileStraight_15 : decode cX0_compileStraight 15 = .ok (.aload_n 0, 1) := by decide +kernel
theorem dX0_compileStraight_16 : decode cX0_compileStraight 16 = .ok (.getfield 13, 3) := by decide +kernel
theorem dX0_compileStraight_19 : decode cX0_compileStraight 19 = .ok (.iload_n 1, 1) := by decide +kernel
theorem dX0_compileStraight_20 : decode cX0_compileStraight 20 = .ok (.iaload, 1) := by decide +kernel
theorem dX0_compileStraight_21 : decode cX0_compileStraight 21 = .ok (.iconst 0, 1) := by decide +kernel
theorem dX0_compileStraight_22 : decode cX0_compileStraight 22 = .ok (.invokevirtual 130, 3) := by decide +kernel
theorem dX0_compileStraight_25 : decode cX0_compileStraight 25 = .ok (.aload_n 0, 1) := by decide +kernel
theorem dX0_compileStraight_26 : decode cX0_compileStraight 26 = .ok (.bipush 9, 2) := by decide +kernel
theorem dX0_compileStraight_28 : decode cX0_compileStraight 28 = .ok (.iconst 0, 1) := by decide +kernel
theorem dX0_compileStraight_29 : decode cX0_compileStraight 29 = .ok (.invokevirtual 104, 3) := by decide +kernel
theorem dX0_compileStraight_32 : decode cX0_compileStraight 32 = .ok (.aload_n 0, 1) := by decide +kernel
theorem dX0_compileStraight_33 : decode cX0_compileStraight 33 = .ok (.dup, 1) := by decide +kernel
theorem dX0_compileStraight_34 : decode cX0_compileStraight 34 = .ok (.getfield 98, 3) := by decide +kernel
theorem dX0_compileStraight_37 : decode cX0_compileStraight 37 = .ok (.iconst 1, 1) := by decide +kernel
theorem dX0_compileStraight_38 : decode cX0_compileStraight 38 = .ok (.isub, 1) := by decide +kernel
theorem dX0_compileStraight_39 : decode cX0_compileStraight 39 = .ok (.putfield 98, 3) := by decide +kernel
theorem dX0_compileStraight_42 : decode cX0_compileStraight 42 = .ok (.return_, 1) := by decide +kernel
theorem dX0_compileStraight_43 : decode cX0_compileStraight 43 = .ok (.iload_n 2, 1) := by decide +kernel
theorem dX0_compileStraight_44 : decode cX0_compileStraight 44 = .ok (.ifCond .ne 23, 3) := by decide +kernel
theorem dX0_compileStraight_47 : decode cX0_compileStraight 47 = .ok (.aload_n 0, 1) := by decide +kernel
end
section
set_option maxRecDepth 100000
theorem dX0_compileStraight_48 : decode cX0_compileStraight 48 = .ok (.iconst 0, 1) := by decide +kernel
theorem dX0_compileStraight_49 : decode cX0_compileStraight 49 = .ok (.aload_n 0, 1) := by decide +kernel
theorem dX0_compileStraight_50 : decode cX0_compileStraight 50 = .ok (.getfield 13, 3) := by decide +kernel
theorem dX0_compileStraight_53 : decode cX0_compileStraight 53 = .ok (.iload_n 1, 1) := by decide +kernel
theorem dX0_compileStraight_54 : decode cX0_compileStraight 54 = .ok (.iaload, 1) := by decide +kernel
theorem dX0_compileStraight_55 : decode cX0_compileStraight 55 = .ok (.invokevirtual 104, 3) := by decide +kernel
theorem dX0_compileStraight_58 : decode cX0_compileStraight 58 = .ok (.aload_n 0, 1) := by decide +kernel
theorem dX0_compileStraight_59 : decode cX0_compileStraight 59 = .ok (.bipush 9, 2) := by decide +kernel
theorem dX0_compileStraight_61 : decode cX0_compileStraight 61 = .ok (.invokevirtual 118, 3) := by decide +kernel
theorem dX0_compileStraight_64 : decode cX0_compileStraight 64 = .ok (.goto 28, 3) := by decide +kernel
theorem dX0_compileStraight_67 : decode cX0_compileStraight 67 = .ok (.iload_n 2, 1) := by decide +kernel
theorem dX0_compileStraight_68 : decode cX0_compileStraight 68 = .ok (.iconst 1, 1) := by decide +kernel
theorem dX0_compileStraight_69 : decode cX0_compileStraight 69 = .ok (.if_icmp .ne 18, 3) := by decide +kernel
theorem dX0_compileStraight_72 : decode cX0_compileStraight 72 = .ok (.aload_n 0, 1) := by decide +kernel
theorem dX0_compileStraight_73 : decode cX0_compileStraight 73 = .ok (.iload_n 1, 1) := by decide +kernel
theorem dX0_compileStraight_74 : decode cX0_compileStraight 74 = .ok (.aload_n 0, 1) := by decide +kernel
theorem dX0_compileStraight_75 : decode cX0_compileStraight 75 = .ok (.getfield 17, 3) := by decide +kernel
theorem dX0_compileStraight_78 : decode cX0_compileStraight 78 = .ok (.iload_n 1, 1) := by decide +kernel
theorem dX0_compileStraight_79 : decode cX0_compileStraight 79 = .ok (.baload, 1) := by decide +kernel
theorem dX0_compileStraight_80 : decode cX0_compileStraight 80 = .ok (.iconst 0, 1) := by decide +kernel
theorem dX0_compileStraight_81 : decode cX0_compileStraight 81 = .ok (.invokevirtual 130, 3) := by decide +kernel
theorem dX0_compileStraight_84 : decode cX0_compileStraight 84 = .ok (.goto 8, 3) := by decide +kernel
theorem dX0_compileStraight_87 : decode cX0_compileStraight 87 = .ok (.aload_n 0, 1) := by decide +kernel
theorem dX0_compileStraight_88 : decode cX0_compileStraight 88 = .ok (.iload_n 1, 1) := by decide +kernel
theorem dX0_compileStraight_89 : decode cX0_compileStraight 89 = .ok (.invokevirtual 134, 3) := by decide +kernel
theorem dX0_compileStraight_92 : decode cX0_compileStraight 92 = .ok (.aload_n 0, 1) := by decide +kernel
theorem dX0_compileStraight_93 : decode cX0_compileStraight 93 = .ok (.iload_n 1, 1) := by decide +kernel
theorem dX0_compileStraight_94 : decode cX0_compileStraight 94 = .ok (.invokevirtual 95, 3) := by decide +kernel
theorem dX0_compileStraight_97 : decode cX0_compileStraight 97 = .ok (.istore_n 3, 1) := by decide +kernel
theorem dX0_compileStraight_98 : decode cX0_compileStraight 98 = .ok (.aload_n 0, 1) := by decide +kernel
theorem dX0_compileStraight_99 : decode cX0_compileStraight 99 = .ok (.iload_n 3, 1) := by decide +kernel
theorem dX0_compileStraight_100 : decode cX0_compileStraight 100 = .ok (.invokevirtual 137, 3) := by decide +kernel
theorem dX0_compileStraight_103 : decode cX0_compileStraight 103 = .ok (.return_, 1) := by decide +kernel
theorem dX0_fetch_0 : decode cX0_fetch 0 = .ok (.aload_n 0, 1) := by decide +kernel
theorem dX0_fetch_1 : decode cX0_fetch 1 = .ok (.iload_n 1, 1) := by decide +kernel
theorem dX0_fetch_2 : decode cX0_fetch 2 = .ok (.invokevirtual 95, 3) := by decide +kernel
theorem dX0_fetch_5 : decode cX0_fetch 5 = .ok (.iload_n 2, 1) := by decide +kernel
theorem dX0_fetch_6 : decode cX0_fetch 6 = .ok (.if_icmp .eq 12, 3) := by decide +kernel
theorem dX0_fetch_9 : decode cX0_fetch 9 = .ok (.aload_n 0, 1) := by decide +kernel
theorem dX0_fetch_10 : decode cX0_fetch 10 = .ok (.iload_n 1, 1) := by decide +kernel
theorem dX0_fetch_11 : decode cX0_fetch 11 = .ok (.iload_n 2, 1) := by decide +kernel
theorem dX0_fetch_12 : decode cX0_fetch 12 = .ok (.invokevirtual 140, 3) := by decide +kernel
theorem dX0_fetch_15 : decode cX0_fetch 15 = .ok (.ifCond .ne 7, 3) := by decide +kernel
theorem dX0_fetch_18 : decode cX0_fetch 18 = .ok (.iconst 1, 1) := by decide +kernel
theorem dX0_fetch_19 : decode cX0_fetch 19 = .ok (.goto 4, 3) := by decide +kernel
theorem dX0_fetch_22 : decode cX0_fetch 22 = .ok (.iconst 0, 1) := by decide +kernel
theorem dX0_fetch_23 : decode cX0_fetch 23 = .ok (.istore 4, 2) := by decide +kernel
theorem dX0_fetch_25 : decode cX0_fetch 25 = .ok (.iload 4, 2) := by decide +kernel
theorem dX0_fetch_27 : decode cX0_fetch 27 = .ok (.ifCond .eq 26, 3) := by decide +kernel
theorem dX0_fetch_30 : decode cX0_fetch 30 = .ok (.iload_n 3, 1) := by decide +kernel
theorem dX0_fetch_31 : decode cX0_fetch 31 = .ok (.ifCond .ne 22, 3) := by decide +kernel
theorem dX0_fetch_34 : decode cX0_fetch 34 = .ok (.aload_n 0, 1) := by decide +kernel
theorem dX0_fetch_35 : decode cX0_fetch 35 = .ok (.iload_n 2, 1) := by decide +kernel
theorem dX0_fetch_36 : decode cX0_fetch 36 = .ok (.invokevirtual 143, 3) := by decide +kernel
theorem dX0_fetch_39 : decode cX0_fetch 39 = .ok (.aload_n 0, 1) := by decide +kernel
theorem dX0_fetch_40 : decode cX0_fetch 40 = .ok (.getfield 32, 3) := by decide +kernel
theorem dX0_fetch_43 : decode cX0_fetch 43 = .ok (.aload_n 0, 1) := by decide +kernel
theorem dX0_fetch_44 : decode cX0_fetch 44 = .ok (.getfield 98, 3) := by decide +kernel
theorem dX0_fetch_47 : decode cX0_fetch 47 = .ok (.iconst 1, 1) := by decide +kernel
theorem dX0_fetch_48 : decode cX0_fetch 48 = .ok (.isub, 1) := by decide +kernel
theorem dX0_fetch_49 : decode cX0_fetch 49 = .ok (.bipush 9, 2) := by decide +kernel
theorem dX0_fetch_51 : decode cX0_fetch 51 = .ok (.bastore, 1) := by decide +kernel
theorem dX0_fetch_52 : decode cX0_fetch 52 = .ok (.return_, 1) := by decide +kernel
theorem dX0_fetch_53 : decode cX0_fetch 53 = .ok (.aload_n 0, 1) := by decide +kernel
theorem dX0_fetch_54 : decode cX0_fetch 54 = .ok (.iload_n 2, 1) := by decide +kernel
theorem dX0_fetch_55 : decode cX0_fetch 55 = .ok (.invokevirtual 101, 3) := by decide +kernel
theorem dX0_fetch_58 : decode cX0_fetch 58 = .ok (.istore 5, 2) := by decide +kernel
theorem dX0_fetch_60 : decode cX0_fetch 60 = .ok (.aload_n 0, 1) := by decide +kernel
theorem dX0_fetch_61 : decode cX0_fetch 61 = .ok (.iconst 1, 1) := by decide +kernel
theorem dX0_fetch_62 : decode cX0_fetch 62 = .ok (.iload 5, 2) := by decide +kernel
theorem dX0_fetch_64 : decode cX0_fetch 64 = .ok (.invokevirtual 104, 3) := by decide +kernel
theorem dX0_fetch_67 : decode cX0_fetch 67 = .ok (.aload_n 0, 1) := by decide +kernel
theorem dX0_fetch_68 : decode cX0_fetch 68 = .ok (.bipush 9, 2) := by decide +kernel
theorem dX0_fetch_70 : decode cX0_fetch 70 = .ok (.invokevirtual 118, 3) := by decide +kernel
theorem dX0_fetch_73 : decode cX0_fetch 73 = .ok (.return_, 1) := by decide +kernel
theorem dX0_writes_0 : decode cX0_writes 0 = .ok (.aload_n 0, 1) := by decide +kernel
theorem dX0_writes_1 : decode cX0_writes 1 = .ok (.getfield 7, 3) := by decide +kernel
theorem dX0_writes_4 : decode cX0_writes 4 = .ok (.iload_n 1, 1) := by decide +kernel
theorem dX0_writes_5 : decode cX0_writes 5 = .ok (.baload, 1) := by decide +kernel
theorem dX0_writes_6 : decode cX0_writes 6 = .ok (.istore_n 2, 1) := by decide +kernel
theorem dX0_writes_7 : decode cX0_writes 7 = .ok (.iload_n 2, 1) := by decide +kernel
theorem dX0_writes_8 : decode cX0_writes 8 = .ok (.ifCond .ne 10, 3) := by decide +kernel
theorem dX0_writes_11 : decode cX0_writes 11 = .ok (.aload_n 0, 1) := by decide +kernel
theorem dX0_writes_12 : decode cX0_writes 12 = .ok (.getfield 17, 3) := by decide +kernel
theorem dX0_writes_15 : decode cX0_writes 15 = .ok (.iload_n 1, 1) := by decide +kernel
theorem dX0_writes_16 : decode cX0_writes 16 = .ok (.baload, 1) := by decide +kernel
theorem dX0_writes_17 : decode cX0_writes 17 = .ok (.ireturn, 1) := by decide +kernel
theorem dX0_writes_18 : decode cX0_writes 18 = .ok (.iload_n 2, 1) := by decide +kernel
theorem dX0_writes_19 : decode cX0_writes 19 = .ok (.bipush 6, 2) := by decide +kernel
theorem dX0_writes_21 : decode cX0_writes 21 = .ok (.if_icmp .gt 12, 3) := by decide +kernel
theorem dX0_writes_24 : decode cX0_writes 24 = .ok (.aload_n 0, 1) := by decide +kernel
theorem dX0_writes_25 : decode cX0_writes 25 = .ok (.getfield 13, 3) := by decide +kernel
theorem dX0_writes_28 : decode cX0_writes 28 = .ok (.iload_n 1, 1) := by decide +kernel
theorem dX0_writes_29 : decode cX0_writes 29 = .ok (.iaload, 1) := by decide +kernel
theorem dX0_writes_30 : decode cX0_writes 30 = .ok (.goto 4, 3) := by decide +kernel
theorem dX0_writes_33 : decode cX0_writes 33 = .ok (.iconst (-1), 1) := by decide +kernel
theorem dX0_writes_34 : decode cX0_writes 34 = .ok (.ireturn, 1) := by decide +kernel
theorem dX0_wantedAfter_0 : decode cX0_wantedAfter 0 = .ok (.iload_n 1, 1) := by decide +kernel
theorem dX0_wantedAfter_1 : decode cX0_wantedAfter 1 = .ok (.iconst 1, 1) := by decide +kernel
theorem dX0_wantedAfter_2 : decode cX0_wantedAfter 2 = .ok (.iadd, 1) := by decide +kernel
theorem dX0_wantedAfter_3 : decode cX0_wantedAfter 3 = .ok (.istore_n 3, 1) := by decide +kernel
theorem dX0_wantedAfter_4 : decode cX0_wantedAfter 4 = .ok (.aload_n 0, 1) := by decide +kernel
theorem dX0_wantedAfter_5 : decode cX0_wantedAfter 5 = .ok (.iload_n 3, 1) := by decide +kernel
theorem dX0_wantedAfter_6 : decode cX0_wantedAfter 6 = .ok (.invokevirtual 87, 3) := by decide +kernel
theorem dX0_wantedAfter_9 : decode cX0_wantedAfter 9 = .ok (.ifCond .ne 31, 3) := by decide +kernel
theorem dX0_wantedAfter_12 : decode cX0_wantedAfter 12 = .ok (.aload_n 0, 1) := by decide +kernel
theorem dX0_wantedAfter_13 : decode cX0_wantedAfter 13 = .ok (.iload_n 3, 1) := by decide +kernel
theorem dX0_wantedAfter_14 : decode cX0_wantedAfter 14 = .ok (.iload_n 2, 1) := by decide +kernel
theorem dX0_wantedAfter_15 : decode cX0_wantedAfter 15 = .ok (.invokevirtual 91, 3) := by decide +kernel
theorem dX0_wantedAfter_18 : decode cX0_wantedAfter 18 = .ok (.ifCond .eq 5, 3) := by decide +kernel
theorem dX0_wantedAfter_21 : decode cX0_wantedAfter 21 = .ok (.iconst 1, 1) := by decide +kernel
theorem dX0_wantedAfter_22 : decode cX0_wantedAfter 22 = .ok (.ireturn, 1) := by decide +kernel
theorem dX0_wantedAfter_23 : decode cX0_wantedAfter 23 = .ok (.aload_n 0, 1) := by decide +kernel
theorem dX0_wantedAfter_24 : decode cX0_wantedAfter 24 = .ok (.iload_n 3, 1) := by decide +kernel
theorem dX0_wantedAfter_25 : decode cX0_wantedAfter 25 = .ok (.invokevirtual 95, 3) := by decide +kernel
theorem dX0_wantedAfter_28 : decode cX0_wantedAfter 28 = .ok (.iload_n 2, 1) := by decide +kernel
theorem dX0_wantedAfter_29 : decode cX0_wantedAfter 29 = .ok (.if_icmp .ne 5, 3) := by decide +kernel
theorem dX0_wantedAfter_32 : decode cX0_wantedAfter 32 = .ok (.iconst 0, 1) := by decide +kernel
theorem dX0_wantedAfter_33 : decode cX0_wantedAfter 33 = .ok (.ireturn, 1) := by decide +kernel
theorem dX0_wantedAfter_34 : decode cX0_wantedAfter 34 = .ok (.iinc 3 1, 3) := by decide +kernel
theorem dX0_wantedAfter_37 : decode cX0_wantedAfter 37 = .ok (.goto (-33), 3) := by decide +kernel
theorem dX0_wantedAfter_40 : decode cX0_wantedAfter 40 = .ok (.iconst 1, 1) := by decide +kernel
theorem dX0_wantedAfter_41 : decode cX0_wantedAfter 41 = .ok (.ireturn, 1) := by decide +kernel
theorem dX0_reads_0 : decode cX0_reads 0 = .ok (.aload_n 0, 1) := by decide +kernel
theorem dX0_reads_1 : decode cX0_reads 1 = .ok (.getfield 7, 3) := by decide +kernel
theorem dX0_reads_4 : decode cX0_reads 4 = .ok (.iload_n 1, 1) := by decide +kernel
theorem dX0_reads_5 : decode cX0_reads 5 = .ok (.baload, 1) := by decide +kernel
theorem dX0_reads_6 : decode cX0_reads 6 = .ok (.istore_n 3, 1) := by decide +kernel
theorem dX0_reads_7 : decode cX0_reads 7 = .ok (.iload_n 3, 1) := by decide +kernel
theorem dX0_reads_8 : decode cX0_reads 8 = .ok (.bipush 7, 2) := by decide +kernel
theorem dX0_reads_10 : decode cX0_reads 10 = .ok (.if_icmp .eq 9, 3) := by decide +kernel
theorem dX0_reads_13 : decode cX0_reads 13 = .ok (.iload_n 3, 1) := by decide +kernel
theorem dX0_reads_14 : decode cX0_reads 14 = .ok (.bipush 8, 2) := by decide +kernel
theorem dX0_reads_16 : decode cX0_reads 16 = .ok (.if_icmp .ne 19, 3) := by decide +kernel
theorem dX0_reads_19 : decode cX0_reads 19 = .ok (.aload_n 0, 1) := by decide +kernel
theorem dX0_reads_20 : decode cX0_reads 20 = .ok (.getfield 13, 3) := by decide +kernel
theorem dX0_reads_23 : decode cX0_reads 23 = .ok (.iload_n 1, 1) := by decide +kernel
theorem dX0_reads_24 : decode cX0_reads 24 = .ok (.iaload, 1) := by decide +kernel
theorem dX0_reads_25 : decode cX0_reads 25 = .ok (.iload_n 2, 1) := by decide +kernel
theorem dX0_reads_26 : decode cX0_reads 26 = .ok (.if_icmp .ne 7, 3) := by decide +kernel
theorem dX0_reads_29 : decode cX0_reads 29 = .ok (.iconst 1, 1) := by decide +kernel
theorem dX0_reads_30 : decode cX0_reads 30 = .ok (.goto 4, 3) := by decide +kernel
theorem dX0_reads_33 : decode cX0_reads 33 = .ok (.iconst 0, 1) := by decide +kernel
theorem dX0_reads_34 : decode cX0_reads 34 = .ok (.ireturn, 1) := by decide +kernel
theorem dX0_reads_35 : decode cX0_reads 35 = .ok (.iload_n 3, 1) := by decide +kernel
theorem dX0_reads_36 : decode cX0_reads 36 = .ok (.iconst 1, 1) := by decide +kernel
theorem dX0_reads_37 : decode cX0_reads 37 = .ok (.if_icmp .ne 19, 3) := by decide +kernel
theorem dX0_reads_40 : decode cX0_reads 40 = .ok (.aload_n 0, 1) := by decide +kernel
theorem dX0_reads_41 : decode cX0_reads 41 = .ok (.getfield 17, 3) := by decide +kernel
theorem dX0_reads_44 : decode cX0_reads 44 = .ok (.iload_n 1, 1) := by decide +kernel
theorem dX0_reads_45 : decode cX0_reads 45 = .ok (.baload, 1) := by decide +kernel
theorem dX0_reads_46 : decode cX0_reads 46 = .ok (.iload_n 2, 1) := by decide +kernel
theorem dX0_reads_47 : decode cX0_reads 47 = .ok (.if_icmp .ne 7, 3) := by decide +kernel
theorem dX0_reads_50 : decode cX0_reads 50 = .ok (.iconst 1, 1) := by decide +kernel
theorem dX0_reads_51 : decode cX0_reads 51 = .ok (.goto 4, 3) := by decide +kernel
theorem dX0_reads_54 : decode cX0_reads 54 = .ok (.iconst 0, 1) := by decide +kernel
theorem dX0_reads_55 : decode cX0_reads 55 = .ok (.ireturn, 1) := by decide +kernel
theorem dX0_reads_56 : decode cX0_reads 56 = .ok (.iload_n 3, 1) := by decide +kernel
theorem dX0_reads_57 : decode cX0_reads 57 = .ok (.iconst 2, 1) := by decide +kernel
theorem dX0_reads_58 : decode cX0_reads 58 = .ok (.if_icmp .lt 35, 3) := by decide +kernel
theorem dX0_reads_61 : decode cX0_reads 61 = .ok (.iload_n 3, 1) := by decide +kernel
theorem dX0_reads_62 : decode cX0_reads 62 = .ok (.bipush 6, 2) := by decide +kernel
theorem dX0_reads_64 : decode cX0_reads 64 = .ok (.if_icmp .gt 29, 3) := by decide +kernel
theorem dX0_reads_67 : decode cX0_reads 67 = .ok (.aload_n 0, 1) := by decide +kernel
theorem dX0_reads_68 : decode cX0_reads 68 = .ok (.getfield 17, 3) := by decide +kernel
theorem dX0_reads_71 : decode cX0_reads 71 = .ok (.iload_n 1, 1) := by decide +kernel
theorem dX0_reads_72 : decode cX0_reads 72 = .ok (.baload, 1) := by decide +kernel
theorem dX0_reads_73 : decode cX0_reads 73 = .ok (.iload_n 2, 1) := by decide +kernel
theorem dX0_reads_74 : decode cX0_reads 74 = .ok (.if_icmp .eq 13, 3) := by decide +kernel
theorem dX0_reads_77 : decode cX0_reads 77 = .ok (.aload_n 0, 1) := by decide +kernel
theorem dX0_reads_78 : decode cX0_reads 78 = .ok (.getfield 20, 3) := by decide +kernel
theorem dX0_reads_81 : decode cX0_reads 81 = .ok (.iload_n 1, 1) := by decide +kernel
theorem dX0_reads_82 : decode cX0_reads 82 = .ok (.baload, 1) := by decide +kernel
theorem dX0_reads_83 : decode cX0_reads 83 = .ok (.iload_n 2, 1) := by decide +kernel
theorem dX0_reads_84 : decode cX0_reads 84 = .ok (.if_icmp .ne 7, 3) := by decide +kernel
theorem dX0_reads_87 : decode cX0_reads 87 = .ok (.iconst 1, 1) := by decide +kernel
theorem dX0_reads_88 : decode cX0_reads 88 = .ok (.goto 4, 3) := by decide +kernel
theorem dX0_reads_91 : decode cX0_reads 91 = .ok (.iconst 0, 1) := by decide +kernel
theorem dX0_reads_92 : decode cX0_reads 92 = .ok (.ireturn, 1) := by decide +kernel
theorem dX0_reads_93 : decode cX0_reads 93 = .ok (.iconst 0, 1) := by decide +kernel
theorem dX0_reads_94 : decode cX0_reads 94 = .ok (.ireturn, 1) := by decide +kernel
theorem dX0_compileArithmetic_0 : decode cX0_compileArithmetic 0 = .ok (.aload_n 0, 1) := by decide +kernel
theorem dX0_compileArithmetic_1 : decode cX0_compileArithmetic 1 = .ok (.getfield 17, 3) := by decide +kernel
theorem dX0_compileArithmetic_4 : decode cX0_compileArithmetic 4 = .ok (.iload_n 1, 1) := by decide +kernel
theorem dX0_compileArithmetic_5 : decode cX0_compileArithmetic 5 = .ok (.baload, 1) := by decide +kernel
theorem dX0_compileArithmetic_6 : decode cX0_compileArithmetic 6 = .ok (.istore_n 2, 1) := by decide +kernel
theorem dX0_compileArithmetic_7 : decode cX0_compileArithmetic 7 = .ok (.aload_n 0, 1) := by decide +kernel
theorem dX0_compileArithmetic_8 : decode cX0_compileArithmetic 8 = .ok (.getfield 20, 3) := by decide +kernel
theorem dX0_compileArithmetic_11 : decode cX0_compileArithmetic 11 = .ok (.iload_n 1, 1) := by decide +kernel
theorem dX0_compileArithmetic_12 : decode cX0_compileArithmetic 12 = .ok (.baload, 1) := by decide +kernel
theorem dX0_compileArithmetic_13 : decode cX0_compileArithmetic 13 = .ok (.istore_n 3, 1) := by decide +kernel
theorem dX0_compileArithmetic_14 : decode cX0_compileArithmetic 14 = .ok (.aload_n 0, 1) := by decide +kernel
theorem dX0_compileArithmetic_15 : decode cX0_compileArithmetic 15 = .ok (.iload_n 1, 1) := by decide +kernel
theorem dX0_compileArithmetic_16 : decode cX0_compileArithmetic 16 = .ok (.iload_n 2, 1) := by decide +kernel
theorem dX0_compileArithmetic_17 : decode cX0_compileArithmetic 17 = .ok (.iload_n 2, 1) := by decide +kernel
theorem dX0_compileArithmetic_18 : decode cX0_compileArithmetic 18 = .ok (.iload_n 3, 1) := by decide +kernel
theorem dX0_compileArithmetic_19 : decode cX0_compileArithmetic 19 = .ok (.if_icmp .ne 7, 3) := by decide +kernel
theorem dX0_compileArithmetic_22 : decode cX0_compileArithmetic 22 = .ok (.iconst 1, 1) := by decide +kernel
theorem dX0_compileArithmetic_23 : decode cX0_compileArithmetic 23 = .ok (.goto 4, 3) := by decide +kernel
theorem dX0_compileArithmetic_26 : decode cX0_compileArithmetic 26 = .ok (.iconst 0, 1) := by decide +kernel
theorem dX0_compileArithmetic_27 : decode cX0_compileArithmetic 27 = .ok (.invokevirtual 130, 3) := by decide +kernel
theorem dX0_compileArithmetic_30 : decode cX0_compileArithmetic 30 = .ok (.iload_n 2, 1) := by decide +kernel
theorem dX0_compileArithmetic_31 : decode cX0_compileArithmetic 31 = .ok (.iload_n 3, 1) := by decide +kernel
theorem dX0_compileArithmetic_32 : decode cX0_compileArithmetic 32 = .ok (.if_icmp .ne 26, 3) := by decide +kernel
theorem dX0_compileArithmetic_35 : decode cX0_compileArithmetic 35 = .ok (.aload_n 0, 1) := by decide +kernel
theorem dX0_compileArithmetic_36 : decode cX0_compileArithmetic 36 = .ok (.iload_n 2, 1) := by decide +kernel
theorem dX0_compileArithmetic_37 : decode cX0_compileArithmetic 37 = .ok (.invokevirtual 101, 3) := by decide +kernel
theorem dX0_compileArithmetic_40 : decode cX0_compileArithmetic 40 = .ok (.istore 4, 2) := by decide +kernel
theorem dX0_compileArithmetic_42 : decode cX0_compileArithmetic 42 = .ok (.aload_n 0, 1) := by decide +kernel
theorem dX0_compileArithmetic_43 : decode cX0_compileArithmetic 43 = .ok (.iconst 1, 1) := by decide +kernel
theorem dX0_compileArithmetic_44 : decode cX0_compileArithmetic 44 = .ok (.iload 4, 2) := by decide +kernel
theorem dX0_compileArithmetic_46 : decode cX0_compileArithmetic 46 = .ok (.invokevirtual 104, 3) := by decide +kernel
theorem dX0_compileArithmetic_49 : decode cX0_compileArithmetic 49 = .ok (.aload_n 0, 1) := by decide +kernel
theorem dX0_compileArithmetic_50 : decode cX0_compileArithmetic 50 = .ok (.bipush 9, 2) := by decide +kernel
theorem dX0_compileArithmetic_52 : decode cX0_compileArithmetic 52 = .ok (.invokevirtual 118, 3) := by decide +kernel
theorem dX0_compileArithmetic_55 : decode cX0_compileArithmetic 55 = .ok (.goto 10, 3) := by decide +kernel
theorem dX0_compileArithmetic_58 : decode cX0_compileArithmetic 58 = .ok (.aload_n 0, 1) := by decide +kernel
theorem dX0_compileArithmetic_59 : decode cX0_compileArithmetic 59 = .ok (.iload_n 1, 1) := by decide +kernel
theorem dX0_compileArithmetic_60 : decode cX0_compileArithmetic 60 = .ok (.iload_n 3, 1) := by decide +kernel
theorem dX0_compileArithmetic_61 : decode cX0_compileArithmetic 61 = .ok (.iconst 0, 1) := by decide +kernel
theorem dX0_compileArithmetic_62 : decode cX0_compileArithmetic 62 = .ok (.invokevirtual 130, 3) := by decide +kernel
theorem dX0_compileArithmetic_65 : decode cX0_compileArithmetic 65 = .ok (.aload_n 0, 1) := by decide +kernel
theorem dX0_compileArithmetic_66 : decode cX0_compileArithmetic 66 = .ok (.aload_n 0, 1) := by decide +kernel
theorem dX0_compileArithmetic_67 : decode cX0_compileArithmetic 67 = .ok (.getfield 7, 3) := by decide +kernel
theorem dX0_compileArithmetic_70 : decode cX0_compileArithmetic 70 = .ok (.iload_n 1, 1) := by decide +kernel
theorem dX0_compileArithmetic_71 : decode cX0_compileArithmetic 71 = .ok (.baload, 1) := by decide +kernel
theorem dX0_compileArithmetic_72 : decode cX0_compileArithmetic 72 = .ok (.iconst 0, 1) := by decide +kernel
theorem dX0_compileArithmetic_73 : decode cX0_compileArithmetic 73 = .ok (.invokevirtual 104, 3) := by decide +kernel
theorem dX0_compileArithmetic_76 : decode cX0_compileArithmetic 76 = .ok (.aload_n 0, 1) := by decide +kernel
theorem dX0_compileArithmetic_77 : decode cX0_compileArithmetic 77 = .ok (.dup, 1) := by decide +kernel
theorem dX0_compileArithmetic_78 : decode cX0_compileArithmetic 78 = .ok (.getfield 98, 3) := by decide +kernel
theorem dX0_compileArithmetic_81 : decode cX0_compileArithmetic 81 = .ok (.iconst 1, 1) := by decide +kernel
theorem dX0_compileArithmetic_82 : decode cX0_compileArithmetic 82 = .ok (.isub, 1) := by decide +kernel
theorem dX0_compileArithmetic_83 : decode cX0_compileArithmetic 83 = .ok (.putfield 98, 3) := by decide +kernel
theorem dX0_compileArithmetic_86 : decode cX0_compileArithmetic 86 = .ok (.return_, 1) := by decide +kernel
theorem dX0_settle_0 : decode cX0_settle 0 = .ok (.aload_n 0, 1) := by decide +kernel
theorem dX0_settle_1 : decode cX0_settle 1 = .ok (.iload_n 1, 1) := by decide +kernel
theorem dX0_settle_2 : decode cX0_settle 2 = .ok (.invokevirtual 101, 3) := by decide +kernel
theorem dX0_settle_5 : decode cX0_settle 5 = .ok (.ifCond .lt 25, 3) := by decide +kernel
theorem dX0_settle_8 : decode cX0_settle 8 = .ok (.aload_n 0, 1) := by decide +kernel
theorem dX0_settle_9 : decode cX0_settle 9 = .ok (.iload_n 1, 1) := by decide +kernel
theorem dX0_settle_10 : decode cX0_settle 10 = .ok (.invokevirtual 143, 3) := by decide +kernel
theorem dX0_settle_13 : decode cX0_settle 13 = .ok (.aload_n 0, 1) := by decide +kernel
theorem dX0_settle_14 : decode cX0_settle 14 = .ok (.bipush 8, 2) := by decide +kernel
theorem dX0_settle_16 : decode cX0_settle 16 = .ok (.iconst 0, 1) := by decide +kernel
theorem dX0_settle_17 : decode cX0_settle 17 = .ok (.invokevirtual 104, 3) := by decide +kernel
theorem dX0_settle_20 : decode cX0_settle 20 = .ok (.aload_n 0, 1) := by decide +kernel
theorem dX0_settle_21 : decode cX0_settle 21 = .ok (.dup, 1) := by decide +kernel
theorem dX0_settle_22 : decode cX0_settle 22 = .ok (.getfield 98, 3) := by decide +kernel
theorem dX0_settle_25 : decode cX0_settle 25 = .ok (.iconst 1, 1) := by decide +kernel
theorem dX0_settle_26 : decode cX0_settle 26 = .ok (.isub, 1) := by decide +kernel
theorem dX0_settle_27 : decode cX0_settle 27 = .ok (.putfield 98, 3) := by decide +kernel
theorem dX0_settle_30 : decode cX0_settle 30 = .ok (.aload_n 0, 1) := by decide +kernel
theorem dX0_settle_31 : decode cX0_settle 31 = .ok (.getfield 32, 3) := by decide +kernel
theorem dX0_settle_34 : decode cX0_settle 34 = .ok (.aload_n 0, 1) := by decide +kernel
theorem dX0_settle_35 : decode cX0_settle 35 = .ok (.getfield 98, 3) := by decide +kernel
theorem dX0_settle_38 : decode cX0_settle 38 = .ok (.iconst 1, 1) := by decide +kernel
theorem dX0_settle_39 : decode cX0_settle 39 = .ok (.isub, 1) := by decide +kernel
theorem dX0_settle_40 : decode cX0_settle 40 = .ok (.iload_n 1, 1) := by decide +kernel
theorem dX0_settle_41 : decode cX0_settle 41 = .ok (.i2b, 1) := by decide +kernel
theorem dX0_settle_42 : decode cX0_settle 42 = .ok (.bastore, 1) := by decide +kernel
theorem dX0_settle_43 : decode cX0_settle 43 = .ok (.return_, 1) := by decide +kernel
theorem dX0_put_0 : decode cX0_put 0 = .ok (.iload_n 1, 1) := by decide +kernel
theorem dX0_put_1 : decode cX0_put 1 = .ok (.ifCond .lt 8, 3) := by decide +kernel
theorem dX0_put_4 : decode cX0_put 4 = .ok (.iload_n 1, 1) := by decide +kernel
theorem dX0_put_5 : decode cX0_put 5 = .ok (.iconst 5, 1) := by decide +kernel
theorem dX0_put_6 : decode cX0_put 6 = .ok (.if_icmp .le 5, 3) := by decide +kernel
theorem dX0_put_9 : decode cX0_put 9 = .ok (.iconst 0, 1) := by decide +kernel
theorem dX0_put_10 : decode cX0_put 10 = .ok (.ireturn, 1) := by decide +kernel
theorem dX0_put_11 : decode cX0_put 11 = .ok (.aload_n 0, 1) := by decide +kernel
theorem dX0_put_12 : decode cX0_put 12 = .ok (.getfield 23, 3) := by decide +kernel
theorem dX0_put_15 : decode cX0_put 15 = .ok (.iload_n 1, 1) := by decide +kernel
theorem dX0_put_16 : decode cX0_put 16 = .ok (.iload_n 2, 1) := by decide +kernel
theorem dX0_put_17 : decode cX0_put 17 = .ok (.iastore, 1) := by decide +kernel
theorem dX0_put_18 : decode cX0_put 18 = .ok (.iconst 1, 1) := by decide +kernel
theorem dX0_put_19 : decode cX0_put 19 = .ok (.ireturn, 1) := by decide +kernel
theorem dX0_run_0 : decode cX0_run 0 = .ok (.aload_n 0, 1) := by decide +kernel
theorem dX0_run_1 : decode cX0_run 1 = .ok (.invokevirtual 56, 3) := by decide +kernel
theorem dX0_run_4 : decode cX0_run 4 = .ok (.aload_n 0, 1) := by decide +kernel
theorem dX0_run_5 : decode cX0_run 5 = .ok (.getfield 59, 3) := by decide +kernel
theorem dX0_run_8 : decode cX0_run 8 = .ok (.ifCond .ne 6, 3) := by decide +kernel
theorem dX0_run_11 : decode cX0_run 11 = .ok (.bipush (-3), 2) := by decide +kernel
theorem dX0_run_13 : decode cX0_run 13 = .ok (.ireturn, 1) := by decide +kernel
theorem dX0_run_14 : decode cX0_run 14 = .ok (.iconst 0, 1) := by decide +kernel
theorem dX0_run_15 : decode cX0_run 15 = .ok (.istore_n 1, 1) := by decide +kernel
theorem dX0_run_16 : decode cX0_run 16 = .ok (.iload_n 1, 1) := by decide +kernel
theorem dX0_run_17 : decode cX0_run 17 = .ok (.bipush 6, 2) := by decide +kernel
theorem dX0_run_19 : decode cX0_run 19 = .ok (.if_icmp .ge 21, 3) := by decide +kernel
theorem dX0_run_22 : decode cX0_run 22 = .ok (.aload_n 0, 1) := by decide +kernel
theorem dX0_run_23 : decode cX0_run 23 = .ok (.getfield 42, 3) := by decide +kernel
theorem dX0_run_26 : decode cX0_run 26 = .ok (.iload_n 1, 1) := by decide +kernel
theorem dX0_run_27 : decode cX0_run 27 = .ok (.aload_n 0, 1) := by decide +kernel
theorem dX0_run_28 : decode cX0_run 28 = .ok (.getfield 23, 3) := by decide +kernel
theorem dX0_run_31 : decode cX0_run 31 = .ok (.iload_n 1, 1) := by decide +kernel
theorem dX0_run_32 : decode cX0_run 32 = .ok (.iaload, 1) := by decide +kernel
theorem dX0_run_33 : decode cX0_run 33 = .ok (.iastore, 1) := by decide +kernel
theorem dX0_run_34 : decode cX0_run 34 = .ok (.iinc 1 1, 3) := by decide +kernel
theorem dX0_run_37 : decode cX0_run 37 = .ok (.goto (-21), 3) := by decide +kernel
theorem dX0_run_40 : decode cX0_run 40 = .ok (.aload_n 0, 1) := by decide +kernel
theorem dX0_run_41 : decode cX0_run 41 = .ok (.bipush 6, 2) := by decide +kernel
theorem dX0_run_43 : decode cX0_run 43 = .ok (.putfield 62, 3) := by decide +kernel
theorem dX0_run_46 : decode cX0_run 46 = .ok (.aload_n 0, 1) := by decide +kernel
theorem dX0_run_47 : decode cX0_run 47 = .ok (.iconst 0, 1) := by decide +kernel
theorem dX0_run_48 : decode cX0_run 48 = .ok (.putfield 65, 3) := by decide +kernel
theorem dX0_run_51 : decode cX0_run 51 = .ok (.iconst 0, 1) := by decide +kernel
theorem dX0_run_52 : decode cX0_run 52 = .ok (.istore_n 1, 1) := by decide +kernel
theorem dX0_run_53 : decode cX0_run 53 = .ok (.iconst 0, 1) := by decide +kernel
theorem dX0_run_54 : decode cX0_run 54 = .ok (.istore_n 2, 1) := by decide +kernel
theorem dX0_run_55 : decode cX0_run 55 = .ok (.iload_n 2, 1) := by decide +kernel
theorem dX0_run_56 : decode cX0_run 56 = .ok (.ldc 68, 2) := by decide +kernel
theorem dX0_run_58 : decode cX0_run 58 = .ok (.if_icmp .ge 23, 3) := by decide +kernel
theorem dX0_run_61 : decode cX0_run 61 = .ok (.iload_n 1, 1) := by decide +kernel
theorem dX0_run_62 : decode cX0_run 62 = .ok (.aload_n 0, 1) := by decide +kernel
theorem dX0_run_63 : decode cX0_run 63 = .ok (.getfield 69, 3) := by decide +kernel
theorem dX0_run_66 : decode cX0_run 66 = .ok (.if_icmp .ge 15, 3) := by decide +kernel
theorem dX0_run_69 : decode cX0_run 69 = .ok (.aload_n 0, 1) := by decide +kernel
theorem dX0_run_70 : decode cX0_run 70 = .ok (.iload_n 1, 1) := by decide +kernel
theorem dX0_run_71 : decode cX0_run 71 = .ok (.invokevirtual 72, 3) := by decide +kernel
theorem dX0_run_74 : decode cX0_run 74 = .ok (.istore_n 1, 1) := by decide +kernel
theorem dX0_run_75 : decode cX0_run 75 = .ok (.iinc 2 1, 3) := by decide +kernel
theorem dX0_run_78 : decode cX0_run 78 = .ok (.goto (-23), 3) := by decide +kernel
theorem dX0_run_81 : decode cX0_run 81 = .ok (.iconst 0, 1) := by decide +kernel
theorem dX0_run_82 : decode cX0_run 82 = .ok (.istore_n 2, 1) := by decide +kernel
theorem dX0_run_83 : decode cX0_run 83 = .ok (.iload_n 2, 1) := by decide +kernel
theorem dX0_run_84 : decode cX0_run 84 = .ok (.bipush 6, 2) := by decide +kernel
theorem dX0_run_86 : decode cX0_run 86 = .ok (.if_icmp .ge 21, 3) := by decide +kernel
theorem dX0_run_89 : decode cX0_run 89 = .ok (.aload_n 0, 1) := by decide +kernel
theorem dX0_run_90 : decode cX0_run 90 = .ok (.getfield 23, 3) := by decide +kernel
theorem dX0_run_93 : decode cX0_run 93 = .ok (.iload_n 2, 1) := by decide +kernel
theorem dX0_run_94 : decode cX0_run 94 = .ok (.aload_n 0, 1) := by decide +kernel
end
section
set_option maxRecDepth 100000
theorem dX0_run_95 : decode cX0_run 95 = .ok (.getfield 42, 3) := by decide +kernel
theorem dX0_run_98 : decode cX0_run 98 = .ok (.iload_n 2, 1) := by decide +kernel
theorem dX0_run_99 : decode cX0_run 99 = .ok (.iaload, 1) := by decide +kernel
theorem dX0_run_100 : decode cX0_run 100 = .ok (.iastore, 1) := by decide +kernel
theorem dX0_run_101 : decode cX0_run 101 = .ok (.iinc 2 1, 3) := by decide +kernel
theorem dX0_run_104 : decode cX0_run 104 = .ok (.goto (-21), 3) := by decide +kernel
theorem dX0_run_107 : decode cX0_run 107 = .ok (.aload_n 0, 1) := by decide +kernel
theorem dX0_run_108 : decode cX0_run 108 = .ok (.getfield 65, 3) := by decide +kernel
theorem dX0_run_111 : decode cX0_run 111 = .ok (.ireturn, 1) := by decide +kernel
theorem dX0_perform_0 : decode cX0_perform 0 = .ok (.aload_n 0, 1) := by decide +kernel
theorem dX0_perform_1 : decode cX0_perform 1 = .ok (.getfield 26, 3) := by decide +kernel
theorem dX0_perform_4 : decode cX0_perform 4 = .ok (.iload_n 1, 1) := by decide +kernel
theorem dX0_perform_5 : decode cX0_perform 5 = .ok (.baload, 1) := by decide +kernel
theorem dX0_perform_6 : decode cX0_perform 6 = .ok (.istore_n 2, 1) := by decide +kernel
theorem dX0_perform_7 : decode cX0_perform 7 = .ok (.aload_n 0, 1) := by decide +kernel
theorem dX0_perform_8 : decode cX0_perform 8 = .ok (.getfield 29, 3) := by decide +kernel
theorem dX0_perform_11 : decode cX0_perform 11 = .ok (.iload_n 1, 1) := by decide +kernel
theorem dX0_perform_12 : decode cX0_perform 12 = .ok (.iaload, 1) := by decide +kernel
theorem dX0_perform_13 : decode cX0_perform 13 = .ok (.istore_n 3, 1) := by decide +kernel
theorem dX0_perform_14 : decode cX0_perform 14 = .ok (.iload_n 1, 1) := by decide +kernel
theorem dX0_perform_15 : decode cX0_perform 15 = .ok (.iconst 1, 1) := by decide +kernel
theorem dX0_perform_16 : decode cX0_perform 16 = .ok (.iadd, 1) := by decide +kernel
theorem dX0_perform_17 : decode cX0_perform 17 = .ok (.istore 4, 2) := by decide +kernel
theorem dX0_perform_19 : decode cX0_perform 19 = .ok (.iload_n 2, 1) := by decide +kernel
theorem dX0_perform_20 : decode cX0_perform 20 = .ok (.iconst 2, 1) := by decide +kernel
theorem dX0_perform_21 : decode cX0_perform 21 = .ok (.if_icmp .lt 58, 3) := by decide +kernel
theorem dX0_perform_24 : decode cX0_perform 24 = .ok (.iload_n 2, 1) := by decide +kernel
theorem dX0_perform_25 : decode cX0_perform 25 = .ok (.bipush 6, 2) := by decide +kernel
theorem dX0_perform_27 : decode cX0_perform 27 = .ok (.if_icmp .gt 52, 3) := by decide +kernel
theorem dX0_perform_30 : decode cX0_perform 30 = .ok (.aload_n 0, 1) := by decide +kernel
theorem dX0_perform_31 : decode cX0_perform 31 = .ok (.dup, 1) := by decide +kernel
theorem dX0_perform_32 : decode cX0_perform 32 = .ok (.getfield 62, 3) := by decide +kernel
theorem dX0_perform_35 : decode cX0_perform 35 = .ok (.iconst 1, 1) := by decide +kernel
theorem dX0_perform_36 : decode cX0_perform 36 = .ok (.isub, 1) := by decide +kernel
theorem dX0_perform_37 : decode cX0_perform 37 = .ok (.putfield 62, 3) := by decide +kernel
theorem dX0_perform_40 : decode cX0_perform 40 = .ok (.aload_n 0, 1) := by decide +kernel
theorem dX0_perform_41 : decode cX0_perform 41 = .ok (.getfield 42, 3) := by decide +kernel
theorem dX0_perform_44 : decode cX0_perform 44 = .ok (.aload_n 0, 1) := by decide +kernel
theorem dX0_perform_45 : decode cX0_perform 45 = .ok (.getfield 62, 3) := by decide +kernel
theorem dX0_perform_48 : decode cX0_perform 48 = .ok (.iconst 1, 1) := by decide +kernel
theorem dX0_perform_49 : decode cX0_perform 49 = .ok (.isub, 1) := by decide +kernel
theorem dX0_perform_50 : decode cX0_perform 50 = .ok (.aload_n 0, 1) := by decide +kernel
theorem dX0_perform_51 : decode cX0_perform 51 = .ok (.iload_n 2, 1) := by decide +kernel
theorem dX0_perform_52 : decode cX0_perform 52 = .ok (.aload_n 0, 1) := by decide +kernel
theorem dX0_perform_53 : decode cX0_perform 53 = .ok (.getfield 42, 3) := by decide +kernel
theorem dX0_perform_56 : decode cX0_perform 56 = .ok (.aload_n 0, 1) := by decide +kernel
theorem dX0_perform_57 : decode cX0_perform 57 = .ok (.getfield 62, 3) := by decide +kernel
theorem dX0_perform_60 : decode cX0_perform 60 = .ok (.iconst 1, 1) := by decide +kernel
theorem dX0_perform_61 : decode cX0_perform 61 = .ok (.isub, 1) := by decide +kernel
theorem dX0_perform_62 : decode cX0_perform 62 = .ok (.iaload, 1) := by decide +kernel
theorem dX0_perform_63 : decode cX0_perform 63 = .ok (.aload_n 0, 1) := by decide +kernel
theorem dX0_perform_64 : decode cX0_perform 64 = .ok (.getfield 42, 3) := by decide +kernel
theorem dX0_perform_67 : decode cX0_perform 67 = .ok (.aload_n 0, 1) := by decide +kernel
theorem dX0_perform_68 : decode cX0_perform 68 = .ok (.getfield 62, 3) := by decide +kernel
theorem dX0_perform_71 : decode cX0_perform 71 = .ok (.iaload, 1) := by decide +kernel
theorem dX0_perform_72 : decode cX0_perform 72 = .ok (.invokevirtual 76, 3) := by decide +kernel
theorem dX0_perform_75 : decode cX0_perform 75 = .ok (.iastore, 1) := by decide +kernel
theorem dX0_perform_76 : decode cX0_perform 76 = .ok (.goto 146, 3) := by decide +kernel
theorem dX0_perform_79 : decode cX0_perform 79 = .ok (.iload_n 2, 1) := by decide +kernel
theorem dX0_perform_80 : decode cX0_perform 80 = .ok (.ifCond .ne 26, 3) := by decide +kernel
theorem dX0_perform_83 : decode cX0_perform 83 = .ok (.aload_n 0, 1) := by decide +kernel
theorem dX0_perform_84 : decode cX0_perform 84 = .ok (.getfield 42, 3) := by decide +kernel
theorem dX0_perform_87 : decode cX0_perform 87 = .ok (.aload_n 0, 1) := by decide +kernel
theorem dX0_perform_88 : decode cX0_perform 88 = .ok (.getfield 62, 3) := by decide +kernel
theorem dX0_perform_91 : decode cX0_perform 91 = .ok (.iload_n 3, 1) := by decide +kernel
theorem dX0_perform_92 : decode cX0_perform 92 = .ok (.iastore, 1) := by decide +kernel
theorem dX0_perform_93 : decode cX0_perform 93 = .ok (.aload_n 0, 1) := by decide +kernel
theorem dX0_perform_94 : decode cX0_perform 94 = .ok (.dup, 1) := by decide +kernel
theorem dX0_perform_95 : decode cX0_perform 95 = .ok (.getfield 62, 3) := by decide +kernel
theorem dX0_perform_98 : decode cX0_perform 98 = .ok (.iconst 1, 1) := by decide +kernel
theorem dX0_perform_99 : decode cX0_perform 99 = .ok (.iadd, 1) := by decide +kernel
theorem dX0_perform_100 : decode cX0_perform 100 = .ok (.putfield 62, 3) := by decide +kernel
theorem dX0_perform_103 : decode cX0_perform 103 = .ok (.goto 119, 3) := by decide +kernel
theorem dX0_perform_106 : decode cX0_perform 106 = .ok (.iload_n 2, 1) := by decide +kernel
theorem dX0_perform_107 : decode cX0_perform 107 = .ok (.iconst 1, 1) := by decide +kernel
theorem dX0_perform_108 : decode cX0_perform 108 = .ok (.if_icmp .ne 38, 3) := by decide +kernel
theorem dX0_perform_111 : decode cX0_perform 111 = .ok (.aload_n 0, 1) := by decide +kernel
theorem dX0_perform_112 : decode cX0_perform 112 = .ok (.getfield 42, 3) := by decide +kernel
theorem dX0_perform_115 : decode cX0_perform 115 = .ok (.aload_n 0, 1) := by decide +kernel
theorem dX0_perform_116 : decode cX0_perform 116 = .ok (.getfield 62, 3) := by decide +kernel
theorem dX0_perform_119 : decode cX0_perform 119 = .ok (.aload_n 0, 1) := by decide +kernel
theorem dX0_perform_120 : decode cX0_perform 120 = .ok (.getfield 42, 3) := by decide +kernel
theorem dX0_perform_123 : decode cX0_perform 123 = .ok (.aload_n 0, 1) := by decide +kernel
theorem dX0_perform_124 : decode cX0_perform 124 = .ok (.getfield 62, 3) := by decide +kernel
theorem dX0_perform_127 : decode cX0_perform 127 = .ok (.iconst 1, 1) := by decide +kernel
theorem dX0_perform_128 : decode cX0_perform 128 = .ok (.isub, 1) := by decide +kernel
theorem dX0_perform_129 : decode cX0_perform 129 = .ok (.iload_n 3, 1) := by decide +kernel
theorem dX0_perform_130 : decode cX0_perform 130 = .ok (.isub, 1) := by decide +kernel
theorem dX0_perform_131 : decode cX0_perform 131 = .ok (.iaload, 1) := by decide +kernel
theorem dX0_perform_132 : decode cX0_perform 132 = .ok (.iastore, 1) := by decide +kernel
theorem dX0_perform_133 : decode cX0_perform 133 = .ok (.aload_n 0, 1) := by decide +kernel
theorem dX0_perform_134 : decode cX0_perform 134 = .ok (.dup, 1) := by decide +kernel
theorem dX0_perform_135 : decode cX0_perform 135 = .ok (.getfield 62, 3) := by decide +kernel
theorem dX0_perform_138 : decode cX0_perform 138 = .ok (.iconst 1, 1) := by decide +kernel
theorem dX0_perform_139 : decode cX0_perform 139 = .ok (.iadd, 1) := by decide +kernel
theorem dX0_perform_140 : decode cX0_perform 140 = .ok (.putfield 62, 3) := by decide +kernel
theorem dX0_perform_143 : decode cX0_perform 143 = .ok (.goto 79, 3) := by decide +kernel
theorem dX0_perform_146 : decode cX0_perform 146 = .ok (.iload_n 2, 1) := by decide +kernel
theorem dX0_perform_147 : decode cX0_perform 147 = .ok (.bipush 7, 2) := by decide +kernel
theorem dX0_perform_149 : decode cX0_perform 149 = .ok (.if_icmp .ne 11, 3) := by decide +kernel
theorem dX0_perform_152 : decode cX0_perform 152 = .ok (.aload_n 0, 1) := by decide +kernel
theorem dX0_perform_153 : decode cX0_perform 153 = .ok (.iload_n 3, 1) := by decide +kernel
theorem dX0_perform_154 : decode cX0_perform 154 = .ok (.invokevirtual 80, 3) := by decide +kernel
theorem dX0_perform_157 : decode cX0_perform 157 = .ok (.goto 65, 3) := by decide +kernel
theorem dX0_perform_160 : decode cX0_perform 160 = .ok (.iload_n 2, 1) := by decide +kernel
theorem dX0_perform_161 : decode cX0_perform 161 = .ok (.bipush 11, 2) := by decide +kernel
theorem dX0_perform_163 : decode cX0_perform 163 = .ok (.if_icmp .ne 9, 3) := by decide +kernel
theorem dX0_perform_166 : decode cX0_perform 166 = .ok (.iload_n 3, 1) := by decide +kernel
theorem dX0_perform_167 : decode cX0_perform 167 = .ok (.istore 4, 2) := by decide +kernel
theorem dX0_perform_169 : decode cX0_perform 169 = .ok (.goto 53, 3) := by decide +kernel
theorem dX0_perform_172 : decode cX0_perform 172 = .ok (.aload_n 0, 1) := by decide +kernel
theorem dX0_perform_173 : decode cX0_perform 173 = .ok (.dup, 1) := by decide +kernel
theorem dX0_perform_174 : decode cX0_perform 174 = .ok (.getfield 62, 3) := by decide +kernel
theorem dX0_perform_177 : decode cX0_perform 177 = .ok (.iconst 1, 1) := by decide +kernel
theorem dX0_perform_178 : decode cX0_perform 178 = .ok (.isub, 1) := by decide +kernel
theorem dX0_perform_179 : decode cX0_perform 179 = .ok (.putfield 62, 3) := by decide +kernel
theorem dX0_perform_182 : decode cX0_perform 182 = .ok (.iload_n 2, 1) := by decide +kernel
theorem dX0_perform_183 : decode cX0_perform 183 = .ok (.bipush 9, 2) := by decide +kernel
theorem dX0_perform_185 : decode cX0_perform 185 = .ok (.if_icmp .ne 16, 3) := by decide +kernel
theorem dX0_perform_188 : decode cX0_perform 188 = .ok (.aload_n 0, 1) := by decide +kernel
theorem dX0_perform_189 : decode cX0_perform 189 = .ok (.aload_n 0, 1) := by decide +kernel
theorem dX0_perform_190 : decode cX0_perform 190 = .ok (.getfield 42, 3) := by decide +kernel
theorem dX0_perform_193 : decode cX0_perform 193 = .ok (.aload_n 0, 1) := by decide +kernel
theorem dX0_perform_194 : decode cX0_perform 194 = .ok (.getfield 62, 3) := by decide +kernel
theorem dX0_perform_197 : decode cX0_perform 197 = .ok (.iaload, 1) := by decide +kernel
theorem dX0_perform_198 : decode cX0_perform 198 = .ok (.invokevirtual 84, 3) := by decide +kernel
theorem dX0_perform_201 : decode cX0_perform 201 = .ok (.iload_n 2, 1) := by decide +kernel
theorem dX0_perform_202 : decode cX0_perform 202 = .ok (.bipush 10, 2) := by decide +kernel
theorem dX0_perform_204 : decode cX0_perform 204 = .ok (.if_icmp .ne 18, 3) := by decide +kernel
theorem dX0_perform_207 : decode cX0_perform 207 = .ok (.aload_n 0, 1) := by decide +kernel
theorem dX0_perform_208 : decode cX0_perform 208 = .ok (.getfield 42, 3) := by decide +kernel
theorem dX0_perform_211 : decode cX0_perform 211 = .ok (.aload_n 0, 1) := by decide +kernel
theorem dX0_perform_212 : decode cX0_perform 212 = .ok (.getfield 62, 3) := by decide +kernel
theorem dX0_perform_215 : decode cX0_perform 215 = .ok (.iaload, 1) := by decide +kernel
theorem dX0_perform_216 : decode cX0_perform 216 = .ok (.ifCond .gt 6, 3) := by decide +kernel
theorem dX0_perform_219 : decode cX0_perform 219 = .ok (.iload_n 3, 1) := by decide +kernel
theorem dX0_perform_220 : decode cX0_perform 220 = .ok (.istore 4, 2) := by decide +kernel
theorem dX0_perform_222 : decode cX0_perform 222 = .ok (.iload 4, 2) := by decide +kernel
theorem dX0_perform_224 : decode cX0_perform 224 = .ok (.ireturn, 1) := by decide +kernel
theorem dX0_compute_0 : decode cX0_compute 0 = .ok (.iload_n 1, 1) := by decide +kernel
theorem dX0_compute_1 : decode cX0_compute 1 = .ok (.iconst 2, 1) := by decide +kernel
theorem dX0_compute_2 : decode cX0_compute 2 = .ok (.if_icmp .ne 7, 3) := by decide +kernel
theorem dX0_compute_5 : decode cX0_compute 5 = .ok (.iload_n 2, 1) := by decide +kernel
theorem dX0_compute_6 : decode cX0_compute 6 = .ok (.iload_n 3, 1) := by decide +kernel
theorem dX0_compute_7 : decode cX0_compute 7 = .ok (.iadd, 1) := by decide +kernel
theorem dX0_compute_8 : decode cX0_compute 8 = .ok (.ireturn, 1) := by decide +kernel
theorem dX0_compute_9 : decode cX0_compute 9 = .ok (.iload_n 1, 1) := by decide +kernel
theorem dX0_compute_10 : decode cX0_compute 10 = .ok (.iconst 3, 1) := by decide +kernel
theorem dX0_compute_11 : decode cX0_compute 11 = .ok (.if_icmp .ne 7, 3) := by decide +kernel
theorem dX0_compute_14 : decode cX0_compute 14 = .ok (.iload_n 2, 1) := by decide +kernel
theorem dX0_compute_15 : decode cX0_compute 15 = .ok (.iload_n 3, 1) := by decide +kernel
theorem dX0_compute_16 : decode cX0_compute 16 = .ok (.isub, 1) := by decide +kernel
theorem dX0_compute_17 : decode cX0_compute 17 = .ok (.ireturn, 1) := by decide +kernel
theorem dX0_compute_18 : decode cX0_compute 18 = .ok (.iload_n 1, 1) := by decide +kernel
theorem dX0_compute_19 : decode cX0_compute 19 = .ok (.iconst 4, 1) := by decide +kernel
theorem dX0_compute_20 : decode cX0_compute 20 = .ok (.if_icmp .ne 7, 3) := by decide +kernel
theorem dX0_compute_23 : decode cX0_compute 23 = .ok (.iload_n 2, 1) := by decide +kernel
theorem dX0_compute_24 : decode cX0_compute 24 = .ok (.iload_n 3, 1) := by decide +kernel
theorem dX0_compute_25 : decode cX0_compute 25 = .ok (.imul, 1) := by decide +kernel
theorem dX0_compute_26 : decode cX0_compute 26 = .ok (.ireturn, 1) := by decide +kernel
theorem dX0_compute_27 : decode cX0_compute 27 = .ok (.iload_n 1, 1) := by decide +kernel
theorem dX0_compute_28 : decode cX0_compute 28 = .ok (.iconst 5, 1) := by decide +kernel
theorem dX0_compute_29 : decode cX0_compute 29 = .ok (.if_icmp .ne 7, 3) := by decide +kernel
theorem dX0_compute_32 : decode cX0_compute 32 = .ok (.iload_n 2, 1) := by decide +kernel
theorem dX0_compute_33 : decode cX0_compute 33 = .ok (.iload_n 3, 1) := by decide +kernel
theorem dX0_compute_34 : decode cX0_compute 34 = .ok (.ixor, 1) := by decide +kernel
theorem dX0_compute_35 : decode cX0_compute 35 = .ok (.ireturn, 1) := by decide +kernel
theorem dX0_compute_36 : decode cX0_compute 36 = .ok (.iload_n 2, 1) := by decide +kernel
theorem dX0_compute_37 : decode cX0_compute 37 = .ok (.iload_n 3, 1) := by decide +kernel
theorem dX0_compute_38 : decode cX0_compute 38 = .ok (.if_icmp .ge 7, 3) := by decide +kernel
theorem dX0_compute_41 : decode cX0_compute 41 = .ok (.iconst 1, 1) := by decide +kernel
theorem dX0_compute_42 : decode cX0_compute 42 = .ok (.goto 4, 3) := by decide +kernel
theorem dX0_compute_45 : decode cX0_compute 45 = .ok (.iconst 0, 1) := by decide +kernel
theorem dX0_compute_46 : decode cX0_compute 46 = .ok (.ireturn, 1) := by decide +kernel
theorem dX0_pull_0 : decode cX0_pull 0 = .ok (.aload_n 0, 1) := by decide +kernel
theorem dX0_pull_1 : decode cX0_pull 1 = .ok (.getfield 42, 3) := by decide +kernel
theorem dX0_pull_4 : decode cX0_pull 4 = .ok (.aload_n 0, 1) := by decide +kernel
theorem dX0_pull_5 : decode cX0_pull 5 = .ok (.getfield 62, 3) := by decide +kernel
theorem dX0_pull_8 : decode cX0_pull 8 = .ok (.iconst 1, 1) := by decide +kernel
theorem dX0_pull_9 : decode cX0_pull 9 = .ok (.isub, 1) := by decide +kernel
theorem dX0_pull_10 : decode cX0_pull 10 = .ok (.iload_n 1, 1) := by decide +kernel
theorem dX0_pull_11 : decode cX0_pull 11 = .ok (.isub, 1) := by decide +kernel
theorem dX0_pull_12 : decode cX0_pull 12 = .ok (.iaload, 1) := by decide +kernel
theorem dX0_pull_13 : decode cX0_pull 13 = .ok (.istore_n 2, 1) := by decide +kernel
theorem dX0_pull_14 : decode cX0_pull 14 = .ok (.aload_n 0, 1) := by decide +kernel
theorem dX0_pull_15 : decode cX0_pull 15 = .ok (.getfield 62, 3) := by decide +kernel
theorem dX0_pull_18 : decode cX0_pull 18 = .ok (.iconst 1, 1) := by decide +kernel
theorem dX0_pull_19 : decode cX0_pull 19 = .ok (.isub, 1) := by decide +kernel
theorem dX0_pull_20 : decode cX0_pull 20 = .ok (.iload_n 1, 1) := by decide +kernel
theorem dX0_pull_21 : decode cX0_pull 21 = .ok (.isub, 1) := by decide +kernel
theorem dX0_pull_22 : decode cX0_pull 22 = .ok (.istore_n 3, 1) := by decide +kernel
theorem dX0_pull_23 : decode cX0_pull 23 = .ok (.iload_n 3, 1) := by decide +kernel
theorem dX0_pull_24 : decode cX0_pull 24 = .ok (.aload_n 0, 1) := by decide +kernel
theorem dX0_pull_25 : decode cX0_pull 25 = .ok (.getfield 62, 3) := by decide +kernel
theorem dX0_pull_28 : decode cX0_pull 28 = .ok (.iconst 1, 1) := by decide +kernel
theorem dX0_pull_29 : decode cX0_pull 29 = .ok (.isub, 1) := by decide +kernel
theorem dX0_pull_30 : decode cX0_pull 30 = .ok (.if_icmp .ge 23, 3) := by decide +kernel
theorem dX0_pull_33 : decode cX0_pull 33 = .ok (.aload_n 0, 1) := by decide +kernel
theorem dX0_pull_34 : decode cX0_pull 34 = .ok (.getfield 42, 3) := by decide +kernel
theorem dX0_pull_37 : decode cX0_pull 37 = .ok (.iload_n 3, 1) := by decide +kernel
theorem dX0_pull_38 : decode cX0_pull 38 = .ok (.aload_n 0, 1) := by decide +kernel
theorem dX0_pull_39 : decode cX0_pull 39 = .ok (.getfield 42, 3) := by decide +kernel
theorem dX0_pull_42 : decode cX0_pull 42 = .ok (.iload_n 3, 1) := by decide +kernel
theorem dX0_pull_43 : decode cX0_pull 43 = .ok (.iconst 1, 1) := by decide +kernel
theorem dX0_pull_44 : decode cX0_pull 44 = .ok (.iadd, 1) := by decide +kernel
theorem dX0_pull_45 : decode cX0_pull 45 = .ok (.iaload, 1) := by decide +kernel
theorem dX0_pull_46 : decode cX0_pull 46 = .ok (.iastore, 1) := by decide +kernel
theorem dX0_pull_47 : decode cX0_pull 47 = .ok (.iinc 3 1, 3) := by decide +kernel
theorem dX0_pull_50 : decode cX0_pull 50 = .ok (.goto (-27), 3) := by decide +kernel
theorem dX0_pull_53 : decode cX0_pull 53 = .ok (.aload_n 0, 1) := by decide +kernel
theorem dX0_pull_54 : decode cX0_pull 54 = .ok (.getfield 42, 3) := by decide +kernel
theorem dX0_pull_57 : decode cX0_pull 57 = .ok (.aload_n 0, 1) := by decide +kernel
theorem dX0_pull_58 : decode cX0_pull 58 = .ok (.getfield 62, 3) := by decide +kernel
theorem dX0_pull_61 : decode cX0_pull 61 = .ok (.iconst 1, 1) := by decide +kernel
theorem dX0_pull_62 : decode cX0_pull 62 = .ok (.isub, 1) := by decide +kernel
theorem dX0_pull_63 : decode cX0_pull 63 = .ok (.iload_n 2, 1) := by decide +kernel
theorem dX0_pull_64 : decode cX0_pull 64 = .ok (.iastore, 1) := by decide +kernel
theorem dX0_pull_65 : decode cX0_pull 65 = .ok (.return_, 1) := by decide +kernel
theorem dX0_print_0 : decode cX0_print 0 = .ok (.aload_n 0, 1) := by decide +kernel
theorem dX0_print_1 : decode cX0_print 1 = .ok (.getfield 65, 3) := by decide +kernel
theorem dX0_print_4 : decode cX0_print 4 = .ok (.bipush 64, 2) := by decide +kernel
theorem dX0_print_6 : decode cX0_print 6 = .ok (.if_icmp .ge 13, 3) := by decide +kernel
theorem dX0_print_9 : decode cX0_print 9 = .ok (.aload_n 0, 1) := by decide +kernel
theorem dX0_print_10 : decode cX0_print 10 = .ok (.getfield 45, 3) := by decide +kernel
theorem dX0_print_13 : decode cX0_print 13 = .ok (.aload_n 0, 1) := by decide +kernel
theorem dX0_print_14 : decode cX0_print 14 = .ok (.getfield 65, 3) := by decide +kernel
theorem dX0_print_17 : decode cX0_print 17 = .ok (.iload_n 1, 1) := by decide +kernel
theorem dX0_print_18 : decode cX0_print 18 = .ok (.iastore, 1) := by decide +kernel
theorem dX0_print_19 : decode cX0_print 19 = .ok (.aload_n 0, 1) := by decide +kernel
theorem dX0_print_20 : decode cX0_print 20 = .ok (.dup, 1) := by decide +kernel
theorem dX0_print_21 : decode cX0_print 21 = .ok (.getfield 65, 3) := by decide +kernel
theorem dX0_print_24 : decode cX0_print 24 = .ok (.iconst 1, 1) := by decide +kernel
theorem dX0_print_25 : decode cX0_print 25 = .ok (.iadd, 1) := by decide +kernel
theorem dX0_print_26 : decode cX0_print 26 = .ok (.putfield 65, 3) := by decide +kernel
theorem dX0_print_29 : decode cX0_print 29 = .ok (.return_, 1) := by decide +kernel
theorem dX0_variable_0 : decode cX0_variable 0 = .ok (.iload_n 1, 1) := by decide +kernel
theorem dX0_variable_1 : decode cX0_variable 1 = .ok (.ifCond .lt 8, 3) := by decide +kernel
theorem dX0_variable_4 : decode cX0_variable 4 = .ok (.iload_n 1, 1) := by decide +kernel
theorem dX0_variable_5 : decode cX0_variable 5 = .ok (.iconst 5, 1) := by decide +kernel
theorem dX0_variable_6 : decode cX0_variable 6 = .ok (.if_icmp .le 7, 3) := by decide +kernel
theorem dX0_variable_9 : decode cX0_variable 9 = .ok (.iconst 0, 1) := by decide +kernel
theorem dX0_variable_10 : decode cX0_variable 10 = .ok (.goto 9, 3) := by decide +kernel
theorem dX0_variable_13 : decode cX0_variable 13 = .ok (.aload_n 0, 1) := by decide +kernel
theorem dX0_variable_14 : decode cX0_variable 14 = .ok (.getfield 23, 3) := by decide +kernel
theorem dX0_variable_17 : decode cX0_variable 17 = .ok (.iload_n 1, 1) := by decide +kernel
theorem dX0_variable_18 : decode cX0_variable 18 = .ok (.iaload, 1) := by decide +kernel
theorem dX0_variable_19 : decode cX0_variable 19 = .ok (.ireturn, 1) := by decide +kernel
theorem dX0_printed_0 : decode cX0_printed 0 = .ok (.aload_n 0, 1) := by decide +kernel
theorem dX0_printed_1 : decode cX0_printed 1 = .ok (.getfield 65, 3) := by decide +kernel
theorem dX0_printed_4 : decode cX0_printed 4 = .ok (.ireturn, 1) := by decide +kernel
theorem dX0_output_0 : decode cX0_output 0 = .ok (.iload_n 1, 1) := by decide +kernel
theorem dX0_output_1 : decode cX0_output 1 = .ok (.ifCond .lt 17, 3) := by decide +kernel
theorem dX0_output_4 : decode cX0_output 4 = .ok (.iload_n 1, 1) := by decide +kernel
theorem dX0_output_5 : decode cX0_output 5 = .ok (.aload_n 0, 1) := by decide +kernel
theorem dX0_output_6 : decode cX0_output 6 = .ok (.getfield 65, 3) := by decide +kernel
theorem dX0_output_9 : decode cX0_output 9 = .ok (.if_icmp .ge 9, 3) := by decide +kernel
theorem dX0_output_12 : decode cX0_output 12 = .ok (.iload_n 1, 1) := by decide +kernel
theorem dX0_output_13 : decode cX0_output 13 = .ok (.bipush 64, 2) := by decide +kernel
theorem dX0_output_15 : decode cX0_output 15 = .ok (.if_icmp .lt 5, 3) := by decide +kernel
theorem dX0_output_18 : decode cX0_output 18 = .ok (.iconst 0, 1) := by decide +kernel
theorem dX0_output_19 : decode cX0_output 19 = .ok (.ireturn, 1) := by decide +kernel
theorem dX0_output_20 : decode cX0_output 20 = .ok (.aload_n 0, 1) := by decide +kernel
theorem dX0_output_21 : decode cX0_output 21 = .ok (.getfield 45, 3) := by decide +kernel
theorem dX0_output_24 : decode cX0_output 24 = .ok (.iload_n 1, 1) := by decide +kernel
theorem dX0_output_25 : decode cX0_output 25 = .ok (.iaload, 1) := by decide +kernel
theorem dX0_output_26 : decode cX0_output 26 = .ok (.ireturn, 1) := by decide +kernel
theorem dX0_clear_0 : decode cX0_clear 0 = .ok (.aload_n 0, 1) := by decide +kernel
theorem dX0_clear_1 : decode cX0_clear 1 = .ok (.iconst 0, 1) := by decide +kernel
theorem dX0_clear_2 : decode cX0_clear 2 = .ok (.putfield 48, 3) := by decide +kernel
theorem dX0_clear_5 : decode cX0_clear 5 = .ok (.aload_n 0, 1) := by decide +kernel
theorem dX0_clear_6 : decode cX0_clear 6 = .ok (.iconst 0, 1) := by decide +kernel
theorem dX0_clear_7 : decode cX0_clear 7 = .ok (.putfield 65, 3) := by decide +kernel
theorem dX0_clear_10 : decode cX0_clear 10 = .ok (.aload_n 0, 1) := by decide +kernel
theorem dX0_clear_11 : decode cX0_clear 11 = .ok (.iconst 0, 1) := by decide +kernel
theorem dX0_clear_12 : decode cX0_clear 12 = .ok (.putfield 52, 3) := by decide +kernel
theorem dX0_clear_15 : decode cX0_clear 15 = .ok (.iconst 0, 1) := by decide +kernel
theorem dX0_clear_16 : decode cX0_clear 16 = .ok (.istore_n 1, 1) := by decide +kernel
theorem dX0_clear_17 : decode cX0_clear 17 = .ok (.iload_n 1, 1) := by decide +kernel
theorem dX0_clear_18 : decode cX0_clear 18 = .ok (.bipush 6, 2) := by decide +kernel
theorem dX0_clear_20 : decode cX0_clear 20 = .ok (.if_icmp .ge 16, 3) := by decide +kernel
theorem dX0_clear_23 : decode cX0_clear 23 = .ok (.aload_n 0, 1) := by decide +kernel
theorem dX0_clear_24 : decode cX0_clear 24 = .ok (.getfield 23, 3) := by decide +kernel
theorem dX0_clear_27 : decode cX0_clear 27 = .ok (.iload_n 1, 1) := by decide +kernel
theorem dX0_clear_28 : decode cX0_clear 28 = .ok (.iconst 0, 1) := by decide +kernel
theorem dX0_clear_29 : decode cX0_clear 29 = .ok (.iastore, 1) := by decide +kernel
theorem dX0_clear_30 : decode cX0_clear 30 = .ok (.iinc 1 1, 3) := by decide +kernel
theorem dX0_clear_33 : decode cX0_clear 33 = .ok (.goto (-16), 3) := by decide +kernel
theorem dX0_clear_36 : decode cX0_clear 36 = .ok (.return_, 1) := by decide +kernel
end
section
set_option maxRecDepth 100000
theorem dX1_init_0 : decode cX1_init 0 = .ok (.aload_n 0, 1) := by decide +kernel
theorem dX1_init_1 : decode cX1_init 1 = .ok (.invokespecial 1, 3) := by decide +kernel
theorem dX1_init_4 : decode cX1_init 4 = .ok (.aload_n 0, 1) := by decide +kernel
theorem dX1_init_5 : decode cX1_init 5 = .ok (.iconst 0, 1) := by decide +kernel
theorem dX1_init_6 : decode cX1_init 6 = .ok (.putfield 7, 3) := by decide +kernel
theorem dX1_init_9 : decode cX1_init 9 = .ok (.aload_n 0, 1) := by decide +kernel
theorem dX1_init_10 : decode cX1_init 10 = .ok (.bipush 40, 2) := by decide +kernel
theorem dX1_init_12 : decode cX1_init 12 = .ok (.newarray .int, 2) := by decide +kernel
theorem dX1_init_14 : decode cX1_init 14 = .ok (.putfield 13, 3) := by decide +kernel
theorem dX1_init_17 : decode cX1_init 17 = .ok (.aload_n 0, 1) := by decide +kernel
theorem dX1_init_18 : decode cX1_init 18 = .ok (.bipush 40, 2) := by decide +kernel
theorem dX1_init_20 : decode cX1_init 20 = .ok (.newarray .int, 2) := by decide +kernel
theorem dX1_init_22 : decode cX1_init 22 = .ok (.putfield 17, 3) := by decide +kernel
theorem dX1_init_25 : decode cX1_init 25 = .ok (.aload_n 0, 1) := by decide +kernel
theorem dX1_init_26 : decode cX1_init 26 = .ok (.bipush 40, 2) := by decide +kernel
theorem dX1_init_28 : decode cX1_init 28 = .ok (.newarray .int, 2) := by decide +kernel
theorem dX1_init_30 : decode cX1_init 30 = .ok (.putfield 20, 3) := by decide +kernel
theorem dX1_init_33 : decode cX1_init 33 = .ok (.aload_n 0, 1) := by decide +kernel
theorem dX1_init_34 : decode cX1_init 34 = .ok (.bipush 40, 2) := by decide +kernel
theorem dX1_init_36 : decode cX1_init 36 = .ok (.newarray .int, 2) := by decide +kernel
theorem dX1_init_38 : decode cX1_init 38 = .ok (.putfield 23, 3) := by decide +kernel
theorem dX1_init_41 : decode cX1_init 41 = .ok (.aload_n 0, 1) := by decide +kernel
theorem dX1_init_42 : decode cX1_init 42 = .ok (.bipush 6, 2) := by decide +kernel
theorem dX1_init_44 : decode cX1_init 44 = .ok (.newarray .int, 2) := by decide +kernel
theorem dX1_init_46 : decode cX1_init 46 = .ok (.putfield 26, 3) := by decide +kernel
theorem dX1_init_49 : decode cX1_init 49 = .ok (.aload_n 0, 1) := by decide +kernel
theorem dX1_init_50 : decode cX1_init 50 = .ok (.bipush 64, 2) := by decide +kernel
theorem dX1_init_52 : decode cX1_init 52 = .ok (.newarray .int, 2) := by decide +kernel
theorem dX1_init_54 : decode cX1_init 54 = .ok (.putfield 29, 3) := by decide +kernel
theorem dX1_init_57 : decode cX1_init 57 = .ok (.aload_n 0, 1) := by decide +kernel
theorem dX1_init_58 : decode cX1_init 58 = .ok (.iconst 0, 1) := by decide +kernel
theorem dX1_init_59 : decode cX1_init 59 = .ok (.putfield 32, 3) := by decide +kernel
theorem dX1_init_62 : decode cX1_init 62 = .ok (.aload_n 0, 1) := by decide +kernel
theorem dX1_init_63 : decode cX1_init 63 = .ok (.bipush 40, 2) := by decide +kernel
theorem dX1_init_65 : decode cX1_init 65 = .ok (.newarray .int, 2) := by decide +kernel
theorem dX1_init_67 : decode cX1_init 67 = .ok (.putfield 35, 3) := by decide +kernel
theorem dX1_init_70 : decode cX1_init 70 = .ok (.return_, 1) := by decide +kernel
theorem dX1_add_0 : decode cX1_add 0 = .ok (.aload_n 0, 1) := by decide +kernel
theorem dX1_add_1 : decode cX1_add 1 = .ok (.getfield 7, 3) := by decide +kernel
theorem dX1_add_4 : decode cX1_add 4 = .ok (.bipush 40, 2) := by decide +kernel
theorem dX1_add_6 : decode cX1_add 6 = .ok (.if_icmp .ne 6, 3) := by decide +kernel
theorem dX1_add_9 : decode cX1_add 9 = .ok (.bipush (-2), 2) := by decide +kernel
theorem dX1_add_11 : decode cX1_add 11 = .ok (.ireturn, 1) := by decide +kernel
theorem dX1_add_12 : decode cX1_add 12 = .ok (.aload_n 0, 1) := by decide +kernel
theorem dX1_add_13 : decode cX1_add 13 = .ok (.iload_n 1, 1) := by decide +kernel
theorem dX1_add_14 : decode cX1_add 14 = .ok (.iload_n 2, 1) := by decide +kernel
theorem dX1_add_15 : decode cX1_add 15 = .ok (.iload_n 3, 1) := by decide +kernel
theorem dX1_add_16 : decode cX1_add 16 = .ok (.iload 4, 2) := by decide +kernel
theorem dX1_add_18 : decode cX1_add 18 = .ok (.invokevirtual 42, 3) := by decide +kernel
theorem dX1_add_21 : decode cX1_add 21 = .ok (.ifCond .ne 5, 3) := by decide +kernel
theorem dX1_add_24 : decode cX1_add 24 = .ok (.iconst (-1), 1) := by decide +kernel
theorem dX1_add_25 : decode cX1_add 25 = .ok (.ireturn, 1) := by decide +kernel
theorem dX1_add_26 : decode cX1_add 26 = .ok (.aload_n 0, 1) := by decide +kernel
theorem dX1_add_27 : decode cX1_add 27 = .ok (.getfield 13, 3) := by decide +kernel
theorem dX1_add_30 : decode cX1_add 30 = .ok (.aload_n 0, 1) := by decide +kernel
theorem dX1_add_31 : decode cX1_add 31 = .ok (.getfield 7, 3) := by decide +kernel
theorem dX1_add_34 : decode cX1_add 34 = .ok (.iload_n 1, 1) := by decide +kernel
theorem dX1_add_35 : decode cX1_add 35 = .ok (.iastore, 1) := by decide +kernel
theorem dX1_add_36 : decode cX1_add 36 = .ok (.aload_n 0, 1) := by decide +kernel
theorem dX1_add_37 : decode cX1_add 37 = .ok (.getfield 17, 3) := by decide +kernel
theorem dX1_add_40 : decode cX1_add 40 = .ok (.aload_n 0, 1) := by decide +kernel
theorem dX1_add_41 : decode cX1_add 41 = .ok (.getfield 7, 3) := by decide +kernel
theorem dX1_add_44 : decode cX1_add 44 = .ok (.iload_n 2, 1) := by decide +kernel
theorem dX1_add_45 : decode cX1_add 45 = .ok (.iastore, 1) := by decide +kernel
theorem dX1_add_46 : decode cX1_add 46 = .ok (.aload_n 0, 1) := by decide +kernel
theorem dX1_add_47 : decode cX1_add 47 = .ok (.getfield 20, 3) := by decide +kernel
theorem dX1_add_50 : decode cX1_add 50 = .ok (.aload_n 0, 1) := by decide +kernel
theorem dX1_add_51 : decode cX1_add 51 = .ok (.getfield 7, 3) := by decide +kernel
theorem dX1_add_54 : decode cX1_add 54 = .ok (.iload_n 3, 1) := by decide +kernel
theorem dX1_add_55 : decode cX1_add 55 = .ok (.iastore, 1) := by decide +kernel
theorem dX1_add_56 : decode cX1_add 56 = .ok (.aload_n 0, 1) := by decide +kernel
theorem dX1_add_57 : decode cX1_add 57 = .ok (.getfield 23, 3) := by decide +kernel
theorem dX1_add_60 : decode cX1_add 60 = .ok (.aload_n 0, 1) := by decide +kernel
theorem dX1_add_61 : decode cX1_add 61 = .ok (.getfield 7, 3) := by decide +kernel
theorem dX1_add_64 : decode cX1_add 64 = .ok (.iload 4, 2) := by decide +kernel
theorem dX1_add_66 : decode cX1_add 66 = .ok (.iastore, 1) := by decide +kernel
theorem dX1_add_67 : decode cX1_add 67 = .ok (.aload_n 0, 1) := by decide +kernel
theorem dX1_add_68 : decode cX1_add 68 = .ok (.dup, 1) := by decide +kernel
theorem dX1_add_69 : decode cX1_add 69 = .ok (.getfield 7, 3) := by decide +kernel
theorem dX1_add_72 : decode cX1_add 72 = .ok (.iconst 1, 1) := by decide +kernel
theorem dX1_add_73 : decode cX1_add 73 = .ok (.iadd, 1) := by decide +kernel
theorem dX1_add_74 : decode cX1_add 74 = .ok (.putfield 7, 3) := by decide +kernel
theorem dX1_add_77 : decode cX1_add 77 = .ok (.aload_n 0, 1) := by decide +kernel
theorem dX1_add_78 : decode cX1_add 78 = .ok (.getfield 7, 3) := by decide +kernel
theorem dX1_add_81 : decode cX1_add 81 = .ok (.ireturn, 1) := by decide +kernel
theorem dX1_fits_0 : decode cX1_fits 0 = .ok (.iload_n 1, 1) := by decide +kernel
theorem dX1_fits_1 : decode cX1_fits 1 = .ok (.ifCond .lt 9, 3) := by decide +kernel
theorem dX1_fits_4 : decode cX1_fits 4 = .ok (.iload_n 1, 1) := by decide +kernel
theorem dX1_fits_5 : decode cX1_fits 5 = .ok (.bipush 11, 2) := by decide +kernel
theorem dX1_fits_7 : decode cX1_fits 7 = .ok (.if_icmp .le 5, 3) := by decide +kernel
theorem dX1_fits_10 : decode cX1_fits 10 = .ok (.iconst 0, 1) := by decide +kernel
theorem dX1_fits_11 : decode cX1_fits 11 = .ok (.ireturn, 1) := by decide +kernel
theorem dX1_fits_12 : decode cX1_fits 12 = .ok (.iload_n 1, 1) := by decide +kernel
theorem dX1_fits_13 : decode cX1_fits 13 = .ok (.bipush 9, 2) := by decide +kernel
theorem dX1_fits_15 : decode cX1_fits 15 = .ok (.if_icmp .eq 9, 3) := by decide +kernel
theorem dX1_fits_18 : decode cX1_fits 18 = .ok (.iload_n 1, 1) := by decide +kernel
theorem dX1_fits_19 : decode cX1_fits 19 = .ok (.bipush 11, 2) := by decide +kernel
theorem dX1_fits_21 : decode cX1_fits 21 = .ok (.if_icmp .ne 5, 3) := by decide +kernel
theorem dX1_fits_24 : decode cX1_fits 24 = .ok (.iconst 1, 1) := by decide +kernel
theorem dX1_fits_25 : decode cX1_fits 25 = .ok (.ireturn, 1) := by decide +kernel
theorem dX1_fits_26 : decode cX1_fits 26 = .ok (.aload_n 0, 1) := by decide +kernel
theorem dX1_fits_27 : decode cX1_fits 27 = .ok (.iload_n 2, 1) := by decide +kernel
theorem dX1_fits_28 : decode cX1_fits 28 = .ok (.invokevirtual 38, 3) := by decide +kernel
theorem dX1_fits_31 : decode cX1_fits 31 = .ok (.ifCond .ne 5, 3) := by decide +kernel
theorem dX1_fits_34 : decode cX1_fits 34 = .ok (.iconst 0, 1) := by decide +kernel
theorem dX1_fits_35 : decode cX1_fits 35 = .ok (.ireturn, 1) := by decide +kernel
theorem dX1_fits_36 : decode cX1_fits 36 = .ok (.iload_n 1, 1) := by decide +kernel
theorem dX1_fits_37 : decode cX1_fits 37 = .ok (.iconst 1, 1) := by decide +kernel
theorem dX1_fits_38 : decode cX1_fits 38 = .ok (.if_icmp .ne 9, 3) := by decide +kernel
theorem dX1_fits_41 : decode cX1_fits 41 = .ok (.aload_n 0, 1) := by decide +kernel
theorem dX1_fits_42 : decode cX1_fits 42 = .ok (.iload_n 3, 1) := by decide +kernel
theorem dX1_fits_43 : decode cX1_fits 43 = .ok (.invokevirtual 38, 3) := by decide +kernel
theorem dX1_fits_46 : decode cX1_fits 46 = .ok (.ireturn, 1) := by decide +kernel
theorem dX1_fits_47 : decode cX1_fits 47 = .ok (.iload_n 1, 1) := by decide +kernel
theorem dX1_fits_48 : decode cX1_fits 48 = .ok (.iconst 2, 1) := by decide +kernel
theorem dX1_fits_49 : decode cX1_fits 49 = .ok (.if_icmp .lt 26, 3) := by decide +kernel
theorem dX1_fits_52 : decode cX1_fits 52 = .ok (.iload_n 1, 1) := by decide +kernel
theorem dX1_fits_53 : decode cX1_fits 53 = .ok (.bipush 6, 2) := by decide +kernel
theorem dX1_fits_55 : decode cX1_fits 55 = .ok (.if_icmp .gt 20, 3) := by decide +kernel
theorem dX1_fits_58 : decode cX1_fits 58 = .ok (.aload_n 0, 1) := by decide +kernel
theorem dX1_fits_59 : decode cX1_fits 59 = .ok (.iload_n 3, 1) := by decide +kernel
theorem dX1_fits_60 : decode cX1_fits 60 = .ok (.invokevirtual 38, 3) := by decide +kernel
theorem dX1_fits_63 : decode cX1_fits 63 = .ok (.ifCond .eq 16, 3) := by decide +kernel
theorem dX1_fits_66 : decode cX1_fits 66 = .ok (.aload_n 0, 1) := by decide +kernel
theorem dX1_fits_67 : decode cX1_fits 67 = .ok (.iload 4, 2) := by decide +kernel
theorem dX1_fits_69 : decode cX1_fits 69 = .ok (.invokevirtual 38, 3) := by decide +kernel
theorem dX1_fits_72 : decode cX1_fits 72 = .ok (.ifCond .eq 7, 3) := by decide +kernel
theorem dX1_fits_75 : decode cX1_fits 75 = .ok (.iconst 1, 1) := by decide +kernel
theorem dX1_fits_76 : decode cX1_fits 76 = .ok (.goto 4, 3) := by decide +kernel
theorem dX1_fits_79 : decode cX1_fits 79 = .ok (.iconst 0, 1) := by decide +kernel
theorem dX1_fits_80 : decode cX1_fits 80 = .ok (.ireturn, 1) := by decide +kernel
theorem dX1_isVariable_0 : decode cX1_isVariable 0 = .ok (.iload_n 1, 1) := by decide +kernel
theorem dX1_isVariable_1 : decode cX1_isVariable 1 = .ok (.ifCond .lt 12, 3) := by decide +kernel
theorem dX1_isVariable_4 : decode cX1_isVariable 4 = .ok (.iload_n 1, 1) := by decide +kernel
theorem dX1_isVariable_5 : decode cX1_isVariable 5 = .ok (.iconst 5, 1) := by decide +kernel
theorem dX1_isVariable_6 : decode cX1_isVariable 6 = .ok (.if_icmp .gt 7, 3) := by decide +kernel
theorem dX1_isVariable_9 : decode cX1_isVariable 9 = .ok (.iconst 1, 1) := by decide +kernel
theorem dX1_isVariable_10 : decode cX1_isVariable 10 = .ok (.goto 4, 3) := by decide +kernel
theorem dX1_isVariable_13 : decode cX1_isVariable 13 = .ok (.iconst 0, 1) := by decide +kernel
theorem dX1_isVariable_14 : decode cX1_isVariable 14 = .ok (.ireturn, 1) := by decide +kernel
theorem dX1_retract_0 : decode cX1_retract 0 = .ok (.aload_n 0, 1) := by decide +kernel
theorem dX1_retract_1 : decode cX1_retract 1 = .ok (.getfield 7, 3) := by decide +kernel
theorem dX1_retract_4 : decode cX1_retract 4 = .ok (.ifCond .ne 5, 3) := by decide +kernel
theorem dX1_retract_7 : decode cX1_retract 7 = .ok (.iconst (-1), 1) := by decide +kernel
theorem dX1_retract_8 : decode cX1_retract 8 = .ok (.ireturn, 1) := by decide +kernel
theorem dX1_retract_9 : decode cX1_retract 9 = .ok (.aload_n 0, 1) := by decide +kernel
theorem dX1_retract_10 : decode cX1_retract 10 = .ok (.dup, 1) := by decide +kernel
theorem dX1_retract_11 : decode cX1_retract 11 = .ok (.getfield 7, 3) := by decide +kernel
theorem dX1_retract_14 : decode cX1_retract 14 = .ok (.iconst 1, 1) := by decide +kernel
theorem dX1_retract_15 : decode cX1_retract 15 = .ok (.isub, 1) := by decide +kernel
theorem dX1_retract_16 : decode cX1_retract 16 = .ok (.putfield 7, 3) := by decide +kernel
theorem dX1_retract_19 : decode cX1_retract 19 = .ok (.aload_n 0, 1) := by decide +kernel
theorem dX1_retract_20 : decode cX1_retract 20 = .ok (.getfield 7, 3) := by decide +kernel
theorem dX1_retract_23 : decode cX1_retract 23 = .ok (.ireturn, 1) := by decide +kernel
theorem dX1_sound_0 : decode cX1_sound 0 = .ok (.iconst 0, 1) := by decide +kernel
theorem dX1_sound_1 : decode cX1_sound 1 = .ok (.istore_n 1, 1) := by decide +kernel
theorem dX1_sound_2 : decode cX1_sound 2 = .ok (.iconst 0, 1) := by decide +kernel
theorem dX1_sound_3 : decode cX1_sound 3 = .ok (.istore_n 2, 1) := by decide +kernel
theorem dX1_sound_4 : decode cX1_sound 4 = .ok (.iload_n 2, 1) := by decide +kernel
theorem dX1_sound_5 : decode cX1_sound 5 = .ok (.aload_n 0, 1) := by decide +kernel
theorem dX1_sound_6 : decode cX1_sound 6 = .ok (.getfield 7, 3) := by decide +kernel
theorem dX1_sound_9 : decode cX1_sound 9 = .ok (.if_icmp .ge 66, 3) := by decide +kernel
theorem dX1_sound_12 : decode cX1_sound 12 = .ok (.aload_n 0, 1) := by decide +kernel
theorem dX1_sound_13 : decode cX1_sound 13 = .ok (.iload_n 2, 1) := by decide +kernel
theorem dX1_sound_14 : decode cX1_sound 14 = .ok (.invokevirtual 46, 3) := by decide +kernel
theorem dX1_sound_17 : decode cX1_sound 17 = .ok (.ifCond .eq 6, 3) := by decide +kernel
theorem dX1_sound_20 : decode cX1_sound 20 = .ok (.iinc 1 1, 3) := by decide +kernel
theorem dX1_sound_23 : decode cX1_sound 23 = .ok (.aload_n 0, 1) := by decide +kernel
theorem dX1_sound_24 : decode cX1_sound 24 = .ok (.getfield 13, 3) := by decide +kernel
theorem dX1_sound_27 : decode cX1_sound 27 = .ok (.iload_n 2, 1) := by decide +kernel
theorem dX1_sound_28 : decode cX1_sound 28 = .ok (.iaload, 1) := by decide +kernel
theorem dX1_sound_29 : decode cX1_sound 29 = .ok (.bipush 11, 2) := by decide +kernel
theorem dX1_sound_31 : decode cX1_sound 31 = .ok (.if_icmp .ne 6, 3) := by decide +kernel
theorem dX1_sound_34 : decode cX1_sound 34 = .ok (.iinc 1 (-1), 3) := by decide +kernel
theorem dX1_sound_37 : decode cX1_sound 37 = .ok (.iload_n 1, 1) := by decide +kernel
theorem dX1_sound_38 : decode cX1_sound 38 = .ok (.ifCond .lt 8, 3) := by decide +kernel
theorem dX1_sound_41 : decode cX1_sound 41 = .ok (.iload_n 1, 1) := by decide +kernel
theorem dX1_sound_42 : decode cX1_sound 42 = .ok (.iconst 3, 1) := by decide +kernel
theorem dX1_sound_43 : decode cX1_sound 43 = .ok (.if_icmp .le 5, 3) := by decide +kernel
theorem dX1_sound_46 : decode cX1_sound 46 = .ok (.iconst 0, 1) := by decide +kernel
theorem dX1_sound_47 : decode cX1_sound 47 = .ok (.ireturn, 1) := by decide +kernel
theorem dX1_sound_48 : decode cX1_sound 48 = .ok (.aload_n 0, 1) := by decide +kernel
theorem dX1_sound_49 : decode cX1_sound 49 = .ok (.getfield 13, 3) := by decide +kernel
theorem dX1_sound_52 : decode cX1_sound 52 = .ok (.iload_n 2, 1) := by decide +kernel
theorem dX1_sound_53 : decode cX1_sound 53 = .ok (.iaload, 1) := by decide +kernel
theorem dX1_sound_54 : decode cX1_sound 54 = .ok (.bipush 9, 2) := by decide +kernel
theorem dX1_sound_56 : decode cX1_sound 56 = .ok (.if_icmp .ne 13, 3) := by decide +kernel
theorem dX1_sound_59 : decode cX1_sound 59 = .ok (.aload_n 0, 1) := by decide +kernel
theorem dX1_sound_60 : decode cX1_sound 60 = .ok (.iload_n 2, 1) := by decide +kernel
theorem dX1_sound_61 : decode cX1_sound 61 = .ok (.invokevirtual 56, 3) := by decide +kernel
theorem dX1_sound_64 : decode cX1_sound 64 = .ok (.ifCond .ne 5, 3) := by decide +kernel
theorem dX1_sound_67 : decode cX1_sound 67 = .ok (.iconst 0, 1) := by decide +kernel
theorem dX1_sound_68 : decode cX1_sound 68 = .ok (.ireturn, 1) := by decide +kernel
theorem dX1_sound_69 : decode cX1_sound 69 = .ok (.iinc 2 1, 3) := by decide +kernel
theorem dX1_sound_72 : decode cX1_sound 72 = .ok (.goto (-68), 3) := by decide +kernel
theorem dX1_sound_75 : decode cX1_sound 75 = .ok (.iload_n 1, 1) := by decide +kernel
theorem dX1_sound_76 : decode cX1_sound 76 = .ok (.ifCond .ne 7, 3) := by decide +kernel
theorem dX1_sound_79 : decode cX1_sound 79 = .ok (.iconst 1, 1) := by decide +kernel
theorem dX1_sound_80 : decode cX1_sound 80 = .ok (.goto 4, 3) := by decide +kernel
theorem dX1_sound_83 : decode cX1_sound 83 = .ok (.iconst 0, 1) := by decide +kernel
theorem dX1_sound_84 : decode cX1_sound 84 = .ok (.ireturn, 1) := by decide +kernel
theorem dX1_opens_0 : decode cX1_opens 0 = .ok (.aload_n 0, 1) := by decide +kernel
theorem dX1_opens_1 : decode cX1_opens 1 = .ok (.getfield 13, 3) := by decide +kernel
theorem dX1_opens_4 : decode cX1_opens 4 = .ok (.iload_n 1, 1) := by decide +kernel
theorem dX1_opens_5 : decode cX1_opens 5 = .ok (.iaload, 1) := by decide +kernel
theorem dX1_opens_6 : decode cX1_opens 6 = .ok (.bipush 8, 2) := by decide +kernel
theorem dX1_opens_8 : decode cX1_opens 8 = .ok (.if_icmp .eq 14, 3) := by decide +kernel
theorem dX1_opens_11 : decode cX1_opens 11 = .ok (.aload_n 0, 1) := by decide +kernel
theorem dX1_opens_12 : decode cX1_opens 12 = .ok (.getfield 13, 3) := by decide +kernel
theorem dX1_opens_15 : decode cX1_opens 15 = .ok (.iload_n 1, 1) := by decide +kernel
theorem dX1_opens_16 : decode cX1_opens 16 = .ok (.iaload, 1) := by decide +kernel
theorem dX1_opens_17 : decode cX1_opens 17 = .ok (.bipush 10, 2) := by decide +kernel
theorem dX1_opens_19 : decode cX1_opens 19 = .ok (.if_icmp .ne 7, 3) := by decide +kernel
theorem dX1_opens_22 : decode cX1_opens 22 = .ok (.iconst 1, 1) := by decide +kernel
theorem dX1_opens_23 : decode cX1_opens 23 = .ok (.goto 4, 3) := by decide +kernel
theorem dX1_opens_26 : decode cX1_opens 26 = .ok (.iconst 0, 1) := by decide +kernel
theorem dX1_opens_27 : decode cX1_opens 27 = .ok (.ireturn, 1) := by decide +kernel
theorem dX1_elseFits_0 : decode cX1_elseFits 0 = .ok (.aload_n 0, 1) := by decide +kernel
theorem dX1_elseFits_1 : decode cX1_elseFits 1 = .ok (.iload_n 1, 1) := by decide +kernel
theorem dX1_elseFits_2 : decode cX1_elseFits 2 = .ok (.invokevirtual 53, 3) := by decide +kernel
theorem dX1_elseFits_5 : decode cX1_elseFits 5 = .ok (.istore_n 2, 1) := by decide +kernel
theorem dX1_elseFits_6 : decode cX1_elseFits 6 = .ok (.iload_n 2, 1) := by decide +kernel
theorem dX1_elseFits_7 : decode cX1_elseFits 7 = .ok (.ifCond .lt 14, 3) := by decide +kernel
theorem dX1_elseFits_10 : decode cX1_elseFits 10 = .ok (.aload_n 0, 1) := by decide +kernel
theorem dX1_elseFits_11 : decode cX1_elseFits 11 = .ok (.getfield 13, 3) := by decide +kernel
theorem dX1_elseFits_14 : decode cX1_elseFits 14 = .ok (.iload_n 2, 1) := by decide +kernel
theorem dX1_elseFits_15 : decode cX1_elseFits 15 = .ok (.iaload, 1) := by decide +kernel
theorem dX1_elseFits_16 : decode cX1_elseFits 16 = .ok (.bipush 8, 2) := by decide +kernel
theorem dX1_elseFits_18 : decode cX1_elseFits 18 = .ok (.if_icmp .eq 5, 3) := by decide +kernel
theorem dX1_elseFits_21 : decode cX1_elseFits 21 = .ok (.iconst 0, 1) := by decide +kernel
theorem dX1_elseFits_22 : decode cX1_elseFits 22 = .ok (.ireturn, 1) := by decide +kernel
theorem dX1_elseFits_23 : decode cX1_elseFits 23 = .ok (.iload_n 2, 1) := by decide +kernel
theorem dX1_elseFits_24 : decode cX1_elseFits 24 = .ok (.iconst 1, 1) := by decide +kernel
theorem dX1_elseFits_25 : decode cX1_elseFits 25 = .ok (.iadd, 1) := by decide +kernel
theorem dX1_elseFits_26 : decode cX1_elseFits 26 = .ok (.istore_n 3, 1) := by decide +kernel
theorem dX1_elseFits_27 : decode cX1_elseFits 27 = .ok (.iload_n 3, 1) := by decide +kernel
theorem dX1_elseFits_28 : decode cX1_elseFits 28 = .ok (.iload_n 1, 1) := by decide +kernel
theorem dX1_elseFits_29 : decode cX1_elseFits 29 = .ok (.if_icmp .ge 35, 3) := by decide +kernel
theorem dX1_elseFits_32 : decode cX1_elseFits 32 = .ok (.aload_n 0, 1) := by decide +kernel
theorem dX1_elseFits_33 : decode cX1_elseFits 33 = .ok (.getfield 13, 3) := by decide +kernel
theorem dX1_elseFits_36 : decode cX1_elseFits 36 = .ok (.iload_n 3, 1) := by decide +kernel
theorem dX1_elseFits_37 : decode cX1_elseFits 37 = .ok (.iaload, 1) := by decide +kernel
theorem dX1_elseFits_38 : decode cX1_elseFits 38 = .ok (.bipush 9, 2) := by decide +kernel
theorem dX1_elseFits_40 : decode cX1_elseFits 40 = .ok (.if_icmp .ne 18, 3) := by decide +kernel
theorem dX1_elseFits_43 : decode cX1_elseFits 43 = .ok (.aload_n 0, 1) := by decide +kernel
theorem dX1_elseFits_44 : decode cX1_elseFits 44 = .ok (.iload_n 3, 1) := by decide +kernel
theorem dX1_elseFits_45 : decode cX1_elseFits 45 = .ok (.invokevirtual 53, 3) := by decide +kernel
theorem dX1_elseFits_48 : decode cX1_elseFits 48 = .ok (.istore 4, 2) := by decide +kernel
theorem dX1_elseFits_50 : decode cX1_elseFits 50 = .ok (.iload 4, 2) := by decide +kernel
theorem dX1_elseFits_52 : decode cX1_elseFits 52 = .ok (.iload_n 2, 1) := by decide +kernel
theorem dX1_elseFits_53 : decode cX1_elseFits 53 = .ok (.if_icmp .ne 5, 3) := by decide +kernel
theorem dX1_elseFits_56 : decode cX1_elseFits 56 = .ok (.iconst 0, 1) := by decide +kernel
theorem dX1_elseFits_57 : decode cX1_elseFits 57 = .ok (.ireturn, 1) := by decide +kernel
theorem dX1_elseFits_58 : decode cX1_elseFits 58 = .ok (.iinc 3 1, 3) := by decide +kernel
theorem dX1_elseFits_61 : decode cX1_elseFits 61 = .ok (.goto (-34), 3) := by decide +kernel
theorem dX1_elseFits_64 : decode cX1_elseFits 64 = .ok (.iconst 1, 1) := by decide +kernel
theorem dX1_elseFits_65 : decode cX1_elseFits 65 = .ok (.ireturn, 1) := by decide +kernel
theorem dX1_openerOf_0 : decode cX1_openerOf 0 = .ok (.iconst 1, 1) := by decide +kernel
theorem dX1_openerOf_1 : decode cX1_openerOf 1 = .ok (.istore_n 2, 1) := by decide +kernel
theorem dX1_openerOf_2 : decode cX1_openerOf 2 = .ok (.iload_n 1, 1) := by decide +kernel
theorem dX1_openerOf_3 : decode cX1_openerOf 3 = .ok (.iconst 1, 1) := by decide +kernel
theorem dX1_openerOf_4 : decode cX1_openerOf 4 = .ok (.isub, 1) := by decide +kernel
theorem dX1_openerOf_5 : decode cX1_openerOf 5 = .ok (.istore_n 3, 1) := by decide +kernel
theorem dX1_openerOf_6 : decode cX1_openerOf 6 = .ok (.iload_n 3, 1) := by decide +kernel
theorem dX1_openerOf_7 : decode cX1_openerOf 7 = .ok (.ifCond .lt 40, 3) := by decide +kernel
theorem dX1_openerOf_10 : decode cX1_openerOf 10 = .ok (.aload_n 0, 1) := by decide +kernel
theorem dX1_openerOf_11 : decode cX1_openerOf 11 = .ok (.getfield 13, 3) := by decide +kernel
theorem dX1_openerOf_14 : decode cX1_openerOf 14 = .ok (.iload_n 3, 1) := by decide +kernel
theorem dX1_openerOf_15 : decode cX1_openerOf 15 = .ok (.iaload, 1) := by decide +kernel
theorem dX1_openerOf_16 : decode cX1_openerOf 16 = .ok (.bipush 11, 2) := by decide +kernel
theorem dX1_openerOf_18 : decode cX1_openerOf 18 = .ok (.if_icmp .ne 6, 3) := by decide +kernel
theorem dX1_openerOf_21 : decode cX1_openerOf 21 = .ok (.iinc 2 1, 3) := by decide +kernel
theorem dX1_openerOf_24 : decode cX1_openerOf 24 = .ok (.aload_n 0, 1) := by decide +kernel
theorem dX1_openerOf_25 : decode cX1_openerOf 25 = .ok (.iload_n 3, 1) := by decide +kernel
theorem dX1_openerOf_26 : decode cX1_openerOf 26 = .ok (.invokevirtual 46, 3) := by decide +kernel
theorem dX1_openerOf_29 : decode cX1_openerOf 29 = .ok (.ifCond .eq 6, 3) := by decide +kernel
theorem dX1_openerOf_32 : decode cX1_openerOf 32 = .ok (.iinc 2 (-1), 3) := by decide +kernel
theorem dX1_openerOf_35 : decode cX1_openerOf 35 = .ok (.iload_n 2, 1) := by decide +kernel
theorem dX1_openerOf_36 : decode cX1_openerOf 36 = .ok (.ifCond .ne 5, 3) := by decide +kernel
theorem dX1_openerOf_39 : decode cX1_openerOf 39 = .ok (.iload_n 3, 1) := by decide +kernel
theorem dX1_openerOf_40 : decode cX1_openerOf 40 = .ok (.ireturn, 1) := by decide +kernel
theorem dX1_openerOf_41 : decode cX1_openerOf 41 = .ok (.iinc 3 (-1), 3) := by decide +kernel
theorem dX1_openerOf_44 : decode cX1_openerOf 44 = .ok (.goto (-38), 3) := by decide +kernel
theorem dX1_openerOf_47 : decode cX1_openerOf 47 = .ok (.iconst (-1), 1) := by decide +kernel
theorem dX1_openerOf_48 : decode cX1_openerOf 48 = .ok (.ireturn, 1) := by decide +kernel
theorem dX1_put_0 : decode cX1_put 0 = .ok (.aload_n 0, 1) := by decide +kernel
theorem dX1_put_1 : decode cX1_put 1 = .ok (.iload_n 1, 1) := by decide +kernel
theorem dX1_put_2 : decode cX1_put 2 = .ok (.invokevirtual 38, 3) := by decide +kernel
theorem dX1_put_5 : decode cX1_put 5 = .ok (.ifCond .ne 5, 3) := by decide +kernel
theorem dX1_put_8 : decode cX1_put 8 = .ok (.iconst 0, 1) := by decide +kernel
theorem dX1_put_9 : decode cX1_put 9 = .ok (.ireturn, 1) := by decide +kernel
theorem dX1_put_10 : decode cX1_put 10 = .ok (.aload_n 0, 1) := by decide +kernel
theorem dX1_put_11 : decode cX1_put 11 = .ok (.getfield 26, 3) := by decide +kernel
theorem dX1_put_14 : decode cX1_put 14 = .ok (.iload_n 1, 1) := by decide +kernel
theorem dX1_put_15 : decode cX1_put 15 = .ok (.iload_n 2, 1) := by decide +kernel
theorem dX1_put_16 : decode cX1_put 16 = .ok (.iastore, 1) := by decide +kernel
theorem dX1_put_17 : decode cX1_put 17 = .ok (.iconst 1, 1) := by decide +kernel
theorem dX1_put_18 : decode cX1_put 18 = .ok (.ireturn, 1) := by decide +kernel
theorem dX1_run_0 : decode cX1_run 0 = .ok (.aload_n 0, 1) := by decide +kernel
theorem dX1_run_1 : decode cX1_run 1 = .ok (.invokevirtual 66, 3) := by decide +kernel
theorem dX1_run_4 : decode cX1_run 4 = .ok (.ifCond .ne 6, 3) := by decide +kernel
theorem dX1_run_7 : decode cX1_run 7 = .ok (.bipush (-3), 2) := by decide +kernel
theorem dX1_run_9 : decode cX1_run 9 = .ok (.ireturn, 1) := by decide +kernel
theorem dX1_run_10 : decode cX1_run 10 = .ok (.aload_n 0, 1) := by decide +kernel
theorem dX1_run_11 : decode cX1_run 11 = .ok (.iconst 0, 1) := by decide +kernel
theorem dX1_run_12 : decode cX1_run 12 = .ok (.putfield 32, 3) := by decide +kernel
theorem dX1_run_15 : decode cX1_run 15 = .ok (.iconst 0, 1) := by decide +kernel
theorem dX1_run_16 : decode cX1_run 16 = .ok (.istore_n 1, 1) := by decide +kernel
theorem dX1_run_17 : decode cX1_run 17 = .ok (.iconst 0, 1) := by decide +kernel
theorem dX1_run_18 : decode cX1_run 18 = .ok (.istore_n 2, 1) := by decide +kernel
theorem dX1_run_19 : decode cX1_run 19 = .ok (.iload_n 2, 1) := by decide +kernel
theorem dX1_run_20 : decode cX1_run 20 = .ok (.sipush 5000, 3) := by decide +kernel
theorem dX1_run_23 : decode cX1_run 23 = .ok (.if_icmp .ge 23, 3) := by decide +kernel
theorem dX1_run_26 : decode cX1_run 26 = .ok (.iload_n 1, 1) := by decide +kernel
theorem dX1_run_27 : decode cX1_run 27 = .ok (.aload_n 0, 1) := by decide +kernel
theorem dX1_run_28 : decode cX1_run 28 = .ok (.getfield 7, 3) := by decide +kernel
theorem dX1_run_31 : decode cX1_run 31 = .ok (.if_icmp .ge 15, 3) := by decide +kernel
theorem dX1_run_34 : decode cX1_run 34 = .ok (.aload_n 0, 1) := by decide +kernel
theorem dX1_run_35 : decode cX1_run 35 = .ok (.iload_n 1, 1) := by decide +kernel
theorem dX1_run_36 : decode cX1_run 36 = .ok (.invokevirtual 70, 3) := by decide +kernel
theorem dX1_run_39 : decode cX1_run 39 = .ok (.istore_n 1, 1) := by decide +kernel
theorem dX1_run_40 : decode cX1_run 40 = .ok (.iinc 2 1, 3) := by decide +kernel
theorem dX1_run_43 : decode cX1_run 43 = .ok (.goto (-24), 3) := by decide +kernel
theorem dX1_run_46 : decode cX1_run 46 = .ok (.aload_n 0, 1) := by decide +kernel
theorem dX1_run_47 : decode cX1_run 47 = .ok (.getfield 32, 3) := by decide +kernel
theorem dX1_run_50 : decode cX1_run 50 = .ok (.ireturn, 1) := by decide +kernel
theorem dX1_pass_0 : decode cX1_pass 0 = .ok (.aload_n 0, 1) := by decide +kernel
theorem dX1_pass_1 : decode cX1_pass 1 = .ok (.iload_n 1, 1) := by decide +kernel
theorem dX1_pass_2 : decode cX1_pass 2 = .ok (.invokevirtual 46, 3) := by decide +kernel
theorem dX1_pass_5 : decode cX1_pass 5 = .ok (.ifCond .eq 11, 3) := by decide +kernel
theorem dX1_pass_8 : decode cX1_pass 8 = .ok (.aload_n 0, 1) := by decide +kernel
theorem dX1_pass_9 : decode cX1_pass 9 = .ok (.iload_n 1, 1) := by decide +kernel
theorem dX1_pass_10 : decode cX1_pass 10 = .ok (.invokevirtual 49, 3) := by decide +kernel
theorem dX1_pass_13 : decode cX1_pass 13 = .ok (.goto 4, 3) := by decide +kernel
theorem dX1_pass_16 : decode cX1_pass 16 = .ok (.iconst 0, 1) := by decide +kernel
theorem dX1_pass_17 : decode cX1_pass 17 = .ok (.istore_n 2, 1) := by decide +kernel
theorem dX1_pass_18 : decode cX1_pass 18 = .ok (.aload_n 0, 1) := by decide +kernel
theorem dX1_pass_19 : decode cX1_pass 19 = .ok (.getfield 13, 3) := by decide +kernel
theorem dX1_pass_22 : decode cX1_pass 22 = .ok (.iload_n 1, 1) := by decide +kernel
theorem dX1_pass_23 : decode cX1_pass 23 = .ok (.iaload, 1) := by decide +kernel
theorem dX1_pass_24 : decode cX1_pass 24 = .ok (.bipush 8, 2) := by decide +kernel
theorem dX1_pass_26 : decode cX1_pass 26 = .ok (.if_icmp .ne 41, 3) := by decide +kernel
theorem dX1_pass_29 : decode cX1_pass 29 = .ok (.aload_n 0, 1) := by decide +kernel
theorem dX1_pass_30 : decode cX1_pass 30 = .ok (.iload_n 1, 1) := by decide +kernel
theorem dX1_pass_31 : decode cX1_pass 31 = .ok (.invokevirtual 59, 3) := by decide +kernel
theorem dX1_pass_34 : decode cX1_pass 34 = .ok (.istore_n 3, 1) := by decide +kernel
theorem dX1_pass_35 : decode cX1_pass 35 = .ok (.aload_n 0, 1) := by decide +kernel
theorem dX1_pass_36 : decode cX1_pass 36 = .ok (.getfield 26, 3) := by decide +kernel
theorem dX1_pass_39 : decode cX1_pass 39 = .ok (.aload_n 0, 1) := by decide +kernel
theorem dX1_pass_40 : decode cX1_pass 40 = .ok (.getfield 17, 3) := by decide +kernel
theorem dX1_pass_43 : decode cX1_pass 43 = .ok (.iload_n 1, 1) := by decide +kernel
theorem dX1_pass_44 : decode cX1_pass 44 = .ok (.iaload, 1) := by decide +kernel
theorem dX1_pass_45 : decode cX1_pass 45 = .ok (.iaload, 1) := by decide +kernel
theorem dX1_pass_46 : decode cX1_pass 46 = .ok (.ifCond .le 7, 3) := by decide +kernel
theorem dX1_pass_49 : decode cX1_pass 49 = .ok (.iload_n 1, 1) := by decide +kernel
theorem dX1_pass_50 : decode cX1_pass 50 = .ok (.iconst 1, 1) := by decide +kernel
theorem dX1_pass_51 : decode cX1_pass 51 = .ok (.iadd, 1) := by decide +kernel
theorem dX1_pass_52 : decode cX1_pass 52 = .ok (.ireturn, 1) := by decide +kernel
theorem dX1_pass_53 : decode cX1_pass 53 = .ok (.iload_n 3, 1) := by decide +kernel
theorem dX1_pass_54 : decode cX1_pass 54 = .ok (.ifCond .ge 9, 3) := by decide +kernel
theorem dX1_pass_57 : decode cX1_pass 57 = .ok (.iload_n 2, 1) := by decide +kernel
theorem dX1_pass_58 : decode cX1_pass 58 = .ok (.iconst 1, 1) := by decide +kernel
theorem dX1_pass_59 : decode cX1_pass 59 = .ok (.iadd, 1) := by decide +kernel
theorem dX1_pass_60 : decode cX1_pass 60 = .ok (.goto 6, 3) := by decide +kernel
theorem dX1_pass_63 : decode cX1_pass 63 = .ok (.iload_n 3, 1) := by decide +kernel
theorem dX1_pass_64 : decode cX1_pass 64 = .ok (.iconst 1, 1) := by decide +kernel
theorem dX1_pass_65 : decode cX1_pass 65 = .ok (.iadd, 1) := by decide +kernel
theorem dX1_pass_66 : decode cX1_pass 66 = .ok (.ireturn, 1) := by decide +kernel
theorem dX1_pass_67 : decode cX1_pass 67 = .ok (.aload_n 0, 1) := by decide +kernel
theorem dX1_pass_68 : decode cX1_pass 68 = .ok (.getfield 13, 3) := by decide +kernel
theorem dX1_pass_71 : decode cX1_pass 71 = .ok (.iload_n 1, 1) := by decide +kernel
theorem dX1_pass_72 : decode cX1_pass 72 = .ok (.iaload, 1) := by decide +kernel
theorem dX1_pass_73 : decode cX1_pass 73 = .ok (.bipush 10, 2) := by decide +kernel
theorem dX1_pass_75 : decode cX1_pass 75 = .ok (.if_icmp .ne 34, 3) := by decide +kernel
theorem dX1_pass_78 : decode cX1_pass 78 = .ok (.aload_n 0, 1) := by decide +kernel
theorem dX1_pass_79 : decode cX1_pass 79 = .ok (.getfield 35, 3) := by decide +kernel
theorem dX1_pass_82 : decode cX1_pass 82 = .ok (.iload_n 1, 1) := by decide +kernel
theorem dX1_pass_83 : decode cX1_pass 83 = .ok (.aload_n 0, 1) := by decide +kernel
theorem dX1_pass_84 : decode cX1_pass 84 = .ok (.getfield 17, 3) := by decide +kernel
theorem dX1_pass_87 : decode cX1_pass 87 = .ok (.iload_n 1, 1) := by decide +kernel
theorem dX1_pass_88 : decode cX1_pass 88 = .ok (.iaload, 1) := by decide +kernel
theorem dX1_pass_89 : decode cX1_pass 89 = .ok (.iastore, 1) := by decide +kernel
theorem dX1_pass_90 : decode cX1_pass 90 = .ok (.aload_n 0, 1) := by decide +kernel
theorem dX1_pass_91 : decode cX1_pass 91 = .ok (.getfield 17, 3) := by decide +kernel
theorem dX1_pass_94 : decode cX1_pass 94 = .ok (.iload_n 1, 1) := by decide +kernel
theorem dX1_pass_95 : decode cX1_pass 95 = .ok (.iaload, 1) := by decide +kernel
theorem dX1_pass_96 : decode cX1_pass 96 = .ok (.ifCond .ne 9, 3) := by decide +kernel
theorem dX1_pass_99 : decode cX1_pass 99 = .ok (.iload_n 2, 1) := by decide +kernel
theorem dX1_pass_100 : decode cX1_pass 100 = .ok (.iconst 1, 1) := by decide +kernel
theorem dX1_pass_101 : decode cX1_pass 101 = .ok (.iadd, 1) := by decide +kernel
theorem dX1_pass_102 : decode cX1_pass 102 = .ok (.goto 6, 3) := by decide +kernel
theorem dX1_pass_105 : decode cX1_pass 105 = .ok (.iload_n 1, 1) := by decide +kernel
theorem dX1_pass_106 : decode cX1_pass 106 = .ok (.iconst 1, 1) := by decide +kernel
theorem dX1_pass_107 : decode cX1_pass 107 = .ok (.iadd, 1) := by decide +kernel
theorem dX1_pass_108 : decode cX1_pass 108 = .ok (.ireturn, 1) := by decide +kernel
theorem dX1_pass_109 : decode cX1_pass 109 = .ok (.aload_n 0, 1) := by decide +kernel
theorem dX1_pass_110 : decode cX1_pass 110 = .ok (.getfield 13, 3) := by decide +kernel
theorem dX1_pass_113 : decode cX1_pass 113 = .ok (.iload_n 1, 1) := by decide +kernel
theorem dX1_pass_114 : decode cX1_pass 114 = .ok (.iaload, 1) := by decide +kernel
theorem dX1_pass_115 : decode cX1_pass 115 = .ok (.bipush 9, 2) := by decide +kernel
end
section
set_option maxRecDepth 100000
theorem dX1_pass_117 : decode cX1_pass 117 = .ok (.if_icmp .ne 17, 3) := by decide +kernel
theorem dX1_pass_120 : decode cX1_pass 120 = .ok (.aload_n 0, 1) := by decide +kernel
theorem dX1_pass_121 : decode cX1_pass 121 = .ok (.iload_n 1, 1) := by decide +kernel
theorem dX1_pass_122 : decode cX1_pass 122 = .ok (.invokevirtual 53, 3) := by decide +kernel
theorem dX1_pass_125 : decode cX1_pass 125 = .ok (.istore_n 3, 1) := by decide +kernel
theorem dX1_pass_126 : decode cX1_pass 126 = .ok (.aload_n 0, 1) := by decide +kernel
theorem dX1_pass_127 : decode cX1_pass 127 = .ok (.iload_n 3, 1) := by decide +kernel
theorem dX1_pass_128 : decode cX1_pass 128 = .ok (.invokevirtual 49, 3) := by decide +kernel
theorem dX1_pass_131 : decode cX1_pass 131 = .ok (.iconst 1, 1) := by decide +kernel
theorem dX1_pass_132 : decode cX1_pass 132 = .ok (.iadd, 1) := by decide +kernel
theorem dX1_pass_133 : decode cX1_pass 133 = .ok (.ireturn, 1) := by decide +kernel
theorem dX1_pass_134 : decode cX1_pass 134 = .ok (.aload_n 0, 1) := by decide +kernel
theorem dX1_pass_135 : decode cX1_pass 135 = .ok (.getfield 13, 3) := by decide +kernel
theorem dX1_pass_138 : decode cX1_pass 138 = .ok (.iload_n 1, 1) := by decide +kernel
theorem dX1_pass_139 : decode cX1_pass 139 = .ok (.iaload, 1) := by decide +kernel
theorem dX1_pass_140 : decode cX1_pass 140 = .ok (.bipush 11, 2) := by decide +kernel
theorem dX1_pass_142 : decode cX1_pass 142 = .ok (.if_icmp .ne 53, 3) := by decide +kernel
theorem dX1_pass_145 : decode cX1_pass 145 = .ok (.aload_n 0, 1) := by decide +kernel
theorem dX1_pass_146 : decode cX1_pass 146 = .ok (.iload_n 1, 1) := by decide +kernel
theorem dX1_pass_147 : decode cX1_pass 147 = .ok (.invokevirtual 53, 3) := by decide +kernel
theorem dX1_pass_150 : decode cX1_pass 150 = .ok (.istore_n 3, 1) := by decide +kernel
theorem dX1_pass_151 : decode cX1_pass 151 = .ok (.aload_n 0, 1) := by decide +kernel
theorem dX1_pass_152 : decode cX1_pass 152 = .ok (.getfield 13, 3) := by decide +kernel
theorem dX1_pass_155 : decode cX1_pass 155 = .ok (.iload_n 3, 1) := by decide +kernel
theorem dX1_pass_156 : decode cX1_pass 156 = .ok (.iaload, 1) := by decide +kernel
theorem dX1_pass_157 : decode cX1_pass 157 = .ok (.bipush 8, 2) := by decide +kernel
theorem dX1_pass_159 : decode cX1_pass 159 = .ok (.if_icmp .ne 7, 3) := by decide +kernel
theorem dX1_pass_162 : decode cX1_pass 162 = .ok (.iload_n 1, 1) := by decide +kernel
theorem dX1_pass_163 : decode cX1_pass 163 = .ok (.iconst 1, 1) := by decide +kernel
theorem dX1_pass_164 : decode cX1_pass 164 = .ok (.iadd, 1) := by decide +kernel
theorem dX1_pass_165 : decode cX1_pass 165 = .ok (.ireturn, 1) := by decide +kernel
theorem dX1_pass_166 : decode cX1_pass 166 = .ok (.aload_n 0, 1) := by decide +kernel
theorem dX1_pass_167 : decode cX1_pass 167 = .ok (.getfield 35, 3) := by decide +kernel
theorem dX1_pass_170 : decode cX1_pass 170 = .ok (.iload_n 3, 1) := by decide +kernel
theorem dX1_pass_171 : decode cX1_pass 171 = .ok (.dup2, 1) := by decide +kernel
theorem dX1_pass_172 : decode cX1_pass 172 = .ok (.iaload, 1) := by decide +kernel
theorem dX1_pass_173 : decode cX1_pass 173 = .ok (.iconst 1, 1) := by decide +kernel
theorem dX1_pass_174 : decode cX1_pass 174 = .ok (.isub, 1) := by decide +kernel
theorem dX1_pass_175 : decode cX1_pass 175 = .ok (.iastore, 1) := by decide +kernel
theorem dX1_pass_176 : decode cX1_pass 176 = .ok (.aload_n 0, 1) := by decide +kernel
theorem dX1_pass_177 : decode cX1_pass 177 = .ok (.getfield 35, 3) := by decide +kernel
theorem dX1_pass_180 : decode cX1_pass 180 = .ok (.iload_n 3, 1) := by decide +kernel
theorem dX1_pass_181 : decode cX1_pass 181 = .ok (.iaload, 1) := by decide +kernel
theorem dX1_pass_182 : decode cX1_pass 182 = .ok (.ifCond .le 9, 3) := by decide +kernel
theorem dX1_pass_185 : decode cX1_pass 185 = .ok (.iload_n 3, 1) := by decide +kernel
theorem dX1_pass_186 : decode cX1_pass 186 = .ok (.iconst 1, 1) := by decide +kernel
theorem dX1_pass_187 : decode cX1_pass 187 = .ok (.iadd, 1) := by decide +kernel
theorem dX1_pass_188 : decode cX1_pass 188 = .ok (.goto 6, 3) := by decide +kernel
theorem dX1_pass_191 : decode cX1_pass 191 = .ok (.iload_n 1, 1) := by decide +kernel
theorem dX1_pass_192 : decode cX1_pass 192 = .ok (.iconst 1, 1) := by decide +kernel
theorem dX1_pass_193 : decode cX1_pass 193 = .ok (.iadd, 1) := by decide +kernel
theorem dX1_pass_194 : decode cX1_pass 194 = .ok (.ireturn, 1) := by decide +kernel
theorem dX1_pass_195 : decode cX1_pass 195 = .ok (.aload_n 0, 1) := by decide +kernel
theorem dX1_pass_196 : decode cX1_pass 196 = .ok (.iload_n 1, 1) := by decide +kernel
theorem dX1_pass_197 : decode cX1_pass 197 = .ok (.invokevirtual 62, 3) := by decide +kernel
theorem dX1_pass_200 : decode cX1_pass 200 = .ok (.iload_n 1, 1) := by decide +kernel
theorem dX1_pass_201 : decode cX1_pass 201 = .ok (.iconst 1, 1) := by decide +kernel
theorem dX1_pass_202 : decode cX1_pass 202 = .ok (.iadd, 1) := by decide +kernel
theorem dX1_pass_203 : decode cX1_pass 203 = .ok (.ireturn, 1) := by decide +kernel
theorem dX1_endOf_0 : decode cX1_endOf 0 = .ok (.iconst 0, 1) := by decide +kernel
theorem dX1_endOf_1 : decode cX1_endOf 1 = .ok (.istore_n 2, 1) := by decide +kernel
theorem dX1_endOf_2 : decode cX1_endOf 2 = .ok (.iload_n 1, 1) := by decide +kernel
theorem dX1_endOf_3 : decode cX1_endOf 3 = .ok (.istore_n 3, 1) := by decide +kernel
theorem dX1_endOf_4 : decode cX1_endOf 4 = .ok (.iload_n 3, 1) := by decide +kernel
theorem dX1_endOf_5 : decode cX1_endOf 5 = .ok (.aload_n 0, 1) := by decide +kernel
theorem dX1_endOf_6 : decode cX1_endOf 6 = .ok (.getfield 7, 3) := by decide +kernel
theorem dX1_endOf_9 : decode cX1_endOf 9 = .ok (.if_icmp .ge 40, 3) := by decide +kernel
theorem dX1_endOf_12 : decode cX1_endOf 12 = .ok (.aload_n 0, 1) := by decide +kernel
theorem dX1_endOf_13 : decode cX1_endOf 13 = .ok (.iload_n 3, 1) := by decide +kernel
theorem dX1_endOf_14 : decode cX1_endOf 14 = .ok (.invokevirtual 46, 3) := by decide +kernel
theorem dX1_endOf_17 : decode cX1_endOf 17 = .ok (.ifCond .eq 6, 3) := by decide +kernel
theorem dX1_endOf_20 : decode cX1_endOf 20 = .ok (.iinc 2 1, 3) := by decide +kernel
theorem dX1_endOf_23 : decode cX1_endOf 23 = .ok (.aload_n 0, 1) := by decide +kernel
theorem dX1_endOf_24 : decode cX1_endOf 24 = .ok (.getfield 13, 3) := by decide +kernel
theorem dX1_endOf_27 : decode cX1_endOf 27 = .ok (.iload_n 3, 1) := by decide +kernel
theorem dX1_endOf_28 : decode cX1_endOf 28 = .ok (.iaload, 1) := by decide +kernel
theorem dX1_endOf_29 : decode cX1_endOf 29 = .ok (.bipush 11, 2) := by decide +kernel
theorem dX1_endOf_31 : decode cX1_endOf 31 = .ok (.if_icmp .ne 6, 3) := by decide +kernel
theorem dX1_endOf_34 : decode cX1_endOf 34 = .ok (.iinc 2 (-1), 3) := by decide +kernel
theorem dX1_endOf_37 : decode cX1_endOf 37 = .ok (.iload_n 2, 1) := by decide +kernel
theorem dX1_endOf_38 : decode cX1_endOf 38 = .ok (.ifCond .ne 5, 3) := by decide +kernel
theorem dX1_endOf_41 : decode cX1_endOf 41 = .ok (.iload_n 3, 1) := by decide +kernel
theorem dX1_endOf_42 : decode cX1_endOf 42 = .ok (.ireturn, 1) := by decide +kernel
theorem dX1_endOf_43 : decode cX1_endOf 43 = .ok (.iinc 3 1, 3) := by decide +kernel
theorem dX1_endOf_46 : decode cX1_endOf 46 = .ok (.goto (-42), 3) := by decide +kernel
theorem dX1_endOf_49 : decode cX1_endOf 49 = .ok (.aload_n 0, 1) := by decide +kernel
theorem dX1_endOf_50 : decode cX1_endOf 50 = .ok (.getfield 7, 3) := by decide +kernel
theorem dX1_endOf_53 : decode cX1_endOf 53 = .ok (.ireturn, 1) := by decide +kernel
theorem dX1_elseOf_0 : decode cX1_elseOf 0 = .ok (.aload_n 0, 1) := by decide +kernel
theorem dX1_elseOf_1 : decode cX1_elseOf 1 = .ok (.iload_n 1, 1) := by decide +kernel
theorem dX1_elseOf_2 : decode cX1_elseOf 2 = .ok (.invokevirtual 49, 3) := by decide +kernel
theorem dX1_elseOf_5 : decode cX1_elseOf 5 = .ok (.istore_n 2, 1) := by decide +kernel
theorem dX1_elseOf_6 : decode cX1_elseOf 6 = .ok (.iload_n 1, 1) := by decide +kernel
theorem dX1_elseOf_7 : decode cX1_elseOf 7 = .ok (.iconst 1, 1) := by decide +kernel
theorem dX1_elseOf_8 : decode cX1_elseOf 8 = .ok (.iadd, 1) := by decide +kernel
theorem dX1_elseOf_9 : decode cX1_elseOf 9 = .ok (.istore_n 3, 1) := by decide +kernel
theorem dX1_elseOf_10 : decode cX1_elseOf 10 = .ok (.iload_n 3, 1) := by decide +kernel
theorem dX1_elseOf_11 : decode cX1_elseOf 11 = .ok (.iload_n 2, 1) := by decide +kernel
theorem dX1_elseOf_12 : decode cX1_elseOf 12 = .ok (.if_icmp .ge 35, 3) := by decide +kernel
theorem dX1_elseOf_15 : decode cX1_elseOf 15 = .ok (.aload_n 0, 1) := by decide +kernel
theorem dX1_elseOf_16 : decode cX1_elseOf 16 = .ok (.getfield 13, 3) := by decide +kernel
theorem dX1_elseOf_19 : decode cX1_elseOf 19 = .ok (.iload_n 3, 1) := by decide +kernel
theorem dX1_elseOf_20 : decode cX1_elseOf 20 = .ok (.iaload, 1) := by decide +kernel
theorem dX1_elseOf_21 : decode cX1_elseOf 21 = .ok (.bipush 9, 2) := by decide +kernel
theorem dX1_elseOf_23 : decode cX1_elseOf 23 = .ok (.if_icmp .ne 18, 3) := by decide +kernel
theorem dX1_elseOf_26 : decode cX1_elseOf 26 = .ok (.aload_n 0, 1) := by decide +kernel
theorem dX1_elseOf_27 : decode cX1_elseOf 27 = .ok (.iload_n 3, 1) := by decide +kernel
theorem dX1_elseOf_28 : decode cX1_elseOf 28 = .ok (.invokevirtual 53, 3) := by decide +kernel
theorem dX1_elseOf_31 : decode cX1_elseOf 31 = .ok (.istore 4, 2) := by decide +kernel
theorem dX1_elseOf_33 : decode cX1_elseOf 33 = .ok (.iload 4, 2) := by decide +kernel
theorem dX1_elseOf_35 : decode cX1_elseOf 35 = .ok (.iload_n 1, 1) := by decide +kernel
theorem dX1_elseOf_36 : decode cX1_elseOf 36 = .ok (.if_icmp .ne 5, 3) := by decide +kernel
theorem dX1_elseOf_39 : decode cX1_elseOf 39 = .ok (.iload_n 3, 1) := by decide +kernel
theorem dX1_elseOf_40 : decode cX1_elseOf 40 = .ok (.ireturn, 1) := by decide +kernel
theorem dX1_elseOf_41 : decode cX1_elseOf 41 = .ok (.iinc 3 1, 3) := by decide +kernel
theorem dX1_elseOf_44 : decode cX1_elseOf 44 = .ok (.goto (-34), 3) := by decide +kernel
theorem dX1_elseOf_47 : decode cX1_elseOf 47 = .ok (.iconst (-1), 1) := by decide +kernel
theorem dX1_elseOf_48 : decode cX1_elseOf 48 = .ok (.ireturn, 1) := by decide +kernel
theorem dX1_plain_0 : decode cX1_plain 0 = .ok (.aload_n 0, 1) := by decide +kernel
theorem dX1_plain_1 : decode cX1_plain 1 = .ok (.getfield 13, 3) := by decide +kernel
theorem dX1_plain_4 : decode cX1_plain 4 = .ok (.iload_n 1, 1) := by decide +kernel
theorem dX1_plain_5 : decode cX1_plain 5 = .ok (.iaload, 1) := by decide +kernel
theorem dX1_plain_6 : decode cX1_plain 6 = .ok (.ifCond .ne 20, 3) := by decide +kernel
theorem dX1_plain_9 : decode cX1_plain 9 = .ok (.aload_n 0, 1) := by decide +kernel
theorem dX1_plain_10 : decode cX1_plain 10 = .ok (.getfield 26, 3) := by decide +kernel
theorem dX1_plain_13 : decode cX1_plain 13 = .ok (.aload_n 0, 1) := by decide +kernel
theorem dX1_plain_14 : decode cX1_plain 14 = .ok (.getfield 17, 3) := by decide +kernel
theorem dX1_plain_17 : decode cX1_plain 17 = .ok (.iload_n 1, 1) := by decide +kernel
theorem dX1_plain_18 : decode cX1_plain 18 = .ok (.iaload, 1) := by decide +kernel
theorem dX1_plain_19 : decode cX1_plain 19 = .ok (.aload_n 0, 1) := by decide +kernel
theorem dX1_plain_20 : decode cX1_plain 20 = .ok (.getfield 20, 3) := by decide +kernel
theorem dX1_plain_23 : decode cX1_plain 23 = .ok (.iload_n 1, 1) := by decide +kernel
theorem dX1_plain_24 : decode cX1_plain 24 = .ok (.iaload, 1) := by decide +kernel
theorem dX1_plain_25 : decode cX1_plain 25 = .ok (.iastore, 1) := by decide +kernel
theorem dX1_plain_26 : decode cX1_plain 26 = .ok (.aload_n 0, 1) := by decide +kernel
theorem dX1_plain_27 : decode cX1_plain 27 = .ok (.getfield 13, 3) := by decide +kernel
theorem dX1_plain_30 : decode cX1_plain 30 = .ok (.iload_n 1, 1) := by decide +kernel
theorem dX1_plain_31 : decode cX1_plain 31 = .ok (.iaload, 1) := by decide +kernel
theorem dX1_plain_32 : decode cX1_plain 32 = .ok (.iconst 1, 1) := by decide +kernel
theorem dX1_plain_33 : decode cX1_plain 33 = .ok (.if_icmp .ne 25, 3) := by decide +kernel
theorem dX1_plain_36 : decode cX1_plain 36 = .ok (.aload_n 0, 1) := by decide +kernel
theorem dX1_plain_37 : decode cX1_plain 37 = .ok (.getfield 26, 3) := by decide +kernel
theorem dX1_plain_40 : decode cX1_plain 40 = .ok (.aload_n 0, 1) := by decide +kernel
theorem dX1_plain_41 : decode cX1_plain 41 = .ok (.getfield 17, 3) := by decide +kernel
theorem dX1_plain_44 : decode cX1_plain 44 = .ok (.iload_n 1, 1) := by decide +kernel
theorem dX1_plain_45 : decode cX1_plain 45 = .ok (.iaload, 1) := by decide +kernel
theorem dX1_plain_46 : decode cX1_plain 46 = .ok (.aload_n 0, 1) := by decide +kernel
theorem dX1_plain_47 : decode cX1_plain 47 = .ok (.getfield 26, 3) := by decide +kernel
theorem dX1_plain_50 : decode cX1_plain 50 = .ok (.aload_n 0, 1) := by decide +kernel
theorem dX1_plain_51 : decode cX1_plain 51 = .ok (.getfield 20, 3) := by decide +kernel
theorem dX1_plain_54 : decode cX1_plain 54 = .ok (.iload_n 1, 1) := by decide +kernel
theorem dX1_plain_55 : decode cX1_plain 55 = .ok (.iaload, 1) := by decide +kernel
theorem dX1_plain_56 : decode cX1_plain 56 = .ok (.iaload, 1) := by decide +kernel
theorem dX1_plain_57 : decode cX1_plain 57 = .ok (.iastore, 1) := by decide +kernel
theorem dX1_plain_58 : decode cX1_plain 58 = .ok (.aload_n 0, 1) := by decide +kernel
theorem dX1_plain_59 : decode cX1_plain 59 = .ok (.getfield 13, 3) := by decide +kernel
theorem dX1_plain_62 : decode cX1_plain 62 = .ok (.iload_n 1, 1) := by decide +kernel
theorem dX1_plain_63 : decode cX1_plain 63 = .ok (.iaload, 1) := by decide +kernel
theorem dX1_plain_64 : decode cX1_plain 64 = .ok (.iconst 2, 1) := by decide +kernel
theorem dX1_plain_65 : decode cX1_plain 65 = .ok (.if_icmp .ne 37, 3) := by decide +kernel
theorem dX1_plain_68 : decode cX1_plain 68 = .ok (.aload_n 0, 1) := by decide +kernel
theorem dX1_plain_69 : decode cX1_plain 69 = .ok (.getfield 26, 3) := by decide +kernel
theorem dX1_plain_72 : decode cX1_plain 72 = .ok (.aload_n 0, 1) := by decide +kernel
theorem dX1_plain_73 : decode cX1_plain 73 = .ok (.getfield 17, 3) := by decide +kernel
theorem dX1_plain_76 : decode cX1_plain 76 = .ok (.iload_n 1, 1) := by decide +kernel
theorem dX1_plain_77 : decode cX1_plain 77 = .ok (.iaload, 1) := by decide +kernel
theorem dX1_plain_78 : decode cX1_plain 78 = .ok (.aload_n 0, 1) := by decide +kernel
theorem dX1_plain_79 : decode cX1_plain 79 = .ok (.getfield 26, 3) := by decide +kernel
theorem dX1_plain_82 : decode cX1_plain 82 = .ok (.aload_n 0, 1) := by decide +kernel
theorem dX1_plain_83 : decode cX1_plain 83 = .ok (.getfield 20, 3) := by decide +kernel
theorem dX1_plain_86 : decode cX1_plain 86 = .ok (.iload_n 1, 1) := by decide +kernel
theorem dX1_plain_87 : decode cX1_plain 87 = .ok (.iaload, 1) := by decide +kernel
theorem dX1_plain_88 : decode cX1_plain 88 = .ok (.iaload, 1) := by decide +kernel
theorem dX1_plain_89 : decode cX1_plain 89 = .ok (.aload_n 0, 1) := by decide +kernel
theorem dX1_plain_90 : decode cX1_plain 90 = .ok (.getfield 26, 3) := by decide +kernel
theorem dX1_plain_93 : decode cX1_plain 93 = .ok (.aload_n 0, 1) := by decide +kernel
theorem dX1_plain_94 : decode cX1_plain 94 = .ok (.getfield 23, 3) := by decide +kernel
theorem dX1_plain_97 : decode cX1_plain 97 = .ok (.iload_n 1, 1) := by decide +kernel
theorem dX1_plain_98 : decode cX1_plain 98 = .ok (.iaload, 1) := by decide +kernel
theorem dX1_plain_99 : decode cX1_plain 99 = .ok (.iaload, 1) := by decide +kernel
theorem dX1_plain_100 : decode cX1_plain 100 = .ok (.iadd, 1) := by decide +kernel
theorem dX1_plain_101 : decode cX1_plain 101 = .ok (.iastore, 1) := by decide +kernel
theorem dX1_plain_102 : decode cX1_plain 102 = .ok (.aload_n 0, 1) := by decide +kernel
theorem dX1_plain_103 : decode cX1_plain 103 = .ok (.getfield 13, 3) := by decide +kernel
theorem dX1_plain_106 : decode cX1_plain 106 = .ok (.iload_n 1, 1) := by decide +kernel
theorem dX1_plain_107 : decode cX1_plain 107 = .ok (.iaload, 1) := by decide +kernel
theorem dX1_plain_108 : decode cX1_plain 108 = .ok (.iconst 3, 1) := by decide +kernel
theorem dX1_plain_109 : decode cX1_plain 109 = .ok (.if_icmp .ne 37, 3) := by decide +kernel
theorem dX1_plain_112 : decode cX1_plain 112 = .ok (.aload_n 0, 1) := by decide +kernel
theorem dX1_plain_113 : decode cX1_plain 113 = .ok (.getfield 26, 3) := by decide +kernel
theorem dX1_plain_116 : decode cX1_plain 116 = .ok (.aload_n 0, 1) := by decide +kernel
theorem dX1_plain_117 : decode cX1_plain 117 = .ok (.getfield 17, 3) := by decide +kernel
theorem dX1_plain_120 : decode cX1_plain 120 = .ok (.iload_n 1, 1) := by decide +kernel
theorem dX1_plain_121 : decode cX1_plain 121 = .ok (.iaload, 1) := by decide +kernel
theorem dX1_plain_122 : decode cX1_plain 122 = .ok (.aload_n 0, 1) := by decide +kernel
theorem dX1_plain_123 : decode cX1_plain 123 = .ok (.getfield 26, 3) := by decide +kernel
theorem dX1_plain_126 : decode cX1_plain 126 = .ok (.aload_n 0, 1) := by decide +kernel
theorem dX1_plain_127 : decode cX1_plain 127 = .ok (.getfield 20, 3) := by decide +kernel
theorem dX1_plain_130 : decode cX1_plain 130 = .ok (.iload_n 1, 1) := by decide +kernel
theorem dX1_plain_131 : decode cX1_plain 131 = .ok (.iaload, 1) := by decide +kernel
theorem dX1_plain_132 : decode cX1_plain 132 = .ok (.iaload, 1) := by decide +kernel
theorem dX1_plain_133 : decode cX1_plain 133 = .ok (.aload_n 0, 1) := by decide +kernel
theorem dX1_plain_134 : decode cX1_plain 134 = .ok (.getfield 26, 3) := by decide +kernel
theorem dX1_plain_137 : decode cX1_plain 137 = .ok (.aload_n 0, 1) := by decide +kernel
theorem dX1_plain_138 : decode cX1_plain 138 = .ok (.getfield 23, 3) := by decide +kernel
theorem dX1_plain_141 : decode cX1_plain 141 = .ok (.iload_n 1, 1) := by decide +kernel
theorem dX1_plain_142 : decode cX1_plain 142 = .ok (.iaload, 1) := by decide +kernel
theorem dX1_plain_143 : decode cX1_plain 143 = .ok (.iaload, 1) := by decide +kernel
theorem dX1_plain_144 : decode cX1_plain 144 = .ok (.isub, 1) := by decide +kernel
theorem dX1_plain_145 : decode cX1_plain 145 = .ok (.iastore, 1) := by decide +kernel
theorem dX1_plain_146 : decode cX1_plain 146 = .ok (.aload_n 0, 1) := by decide +kernel
theorem dX1_plain_147 : decode cX1_plain 147 = .ok (.getfield 13, 3) := by decide +kernel
theorem dX1_plain_150 : decode cX1_plain 150 = .ok (.iload_n 1, 1) := by decide +kernel
theorem dX1_plain_151 : decode cX1_plain 151 = .ok (.iaload, 1) := by decide +kernel
theorem dX1_plain_152 : decode cX1_plain 152 = .ok (.iconst 4, 1) := by decide +kernel
theorem dX1_plain_153 : decode cX1_plain 153 = .ok (.if_icmp .ne 37, 3) := by decide +kernel
theorem dX1_plain_156 : decode cX1_plain 156 = .ok (.aload_n 0, 1) := by decide +kernel
theorem dX1_plain_157 : decode cX1_plain 157 = .ok (.getfield 26, 3) := by decide +kernel
theorem dX1_plain_160 : decode cX1_plain 160 = .ok (.aload_n 0, 1) := by decide +kernel
theorem dX1_plain_161 : decode cX1_plain 161 = .ok (.getfield 17, 3) := by decide +kernel
theorem dX1_plain_164 : decode cX1_plain 164 = .ok (.iload_n 1, 1) := by decide +kernel
theorem dX1_plain_165 : decode cX1_plain 165 = .ok (.iaload, 1) := by decide +kernel
theorem dX1_plain_166 : decode cX1_plain 166 = .ok (.aload_n 0, 1) := by decide +kernel
theorem dX1_plain_167 : decode cX1_plain 167 = .ok (.getfield 26, 3) := by decide +kernel
theorem dX1_plain_170 : decode cX1_plain 170 = .ok (.aload_n 0, 1) := by decide +kernel
theorem dX1_plain_171 : decode cX1_plain 171 = .ok (.getfield 20, 3) := by decide +kernel
theorem dX1_plain_174 : decode cX1_plain 174 = .ok (.iload_n 1, 1) := by decide +kernel
theorem dX1_plain_175 : decode cX1_plain 175 = .ok (.iaload, 1) := by decide +kernel
theorem dX1_plain_176 : decode cX1_plain 176 = .ok (.iaload, 1) := by decide +kernel
theorem dX1_plain_177 : decode cX1_plain 177 = .ok (.aload_n 0, 1) := by decide +kernel
theorem dX1_plain_178 : decode cX1_plain 178 = .ok (.getfield 26, 3) := by decide +kernel
theorem dX1_plain_181 : decode cX1_plain 181 = .ok (.aload_n 0, 1) := by decide +kernel
theorem dX1_plain_182 : decode cX1_plain 182 = .ok (.getfield 23, 3) := by decide +kernel
theorem dX1_plain_185 : decode cX1_plain 185 = .ok (.iload_n 1, 1) := by decide +kernel
theorem dX1_plain_186 : decode cX1_plain 186 = .ok (.iaload, 1) := by decide +kernel
theorem dX1_plain_187 : decode cX1_plain 187 = .ok (.iaload, 1) := by decide +kernel
theorem dX1_plain_188 : decode cX1_plain 188 = .ok (.imul, 1) := by decide +kernel
theorem dX1_plain_189 : decode cX1_plain 189 = .ok (.iastore, 1) := by decide +kernel
theorem dX1_plain_190 : decode cX1_plain 190 = .ok (.aload_n 0, 1) := by decide +kernel
theorem dX1_plain_191 : decode cX1_plain 191 = .ok (.getfield 13, 3) := by decide +kernel
theorem dX1_plain_194 : decode cX1_plain 194 = .ok (.iload_n 1, 1) := by decide +kernel
theorem dX1_plain_195 : decode cX1_plain 195 = .ok (.iaload, 1) := by decide +kernel
theorem dX1_plain_196 : decode cX1_plain 196 = .ok (.iconst 5, 1) := by decide +kernel
theorem dX1_plain_197 : decode cX1_plain 197 = .ok (.if_icmp .ne 37, 3) := by decide +kernel
theorem dX1_plain_200 : decode cX1_plain 200 = .ok (.aload_n 0, 1) := by decide +kernel
theorem dX1_plain_201 : decode cX1_plain 201 = .ok (.getfield 26, 3) := by decide +kernel
theorem dX1_plain_204 : decode cX1_plain 204 = .ok (.aload_n 0, 1) := by decide +kernel
theorem dX1_plain_205 : decode cX1_plain 205 = .ok (.getfield 17, 3) := by decide +kernel
theorem dX1_plain_208 : decode cX1_plain 208 = .ok (.iload_n 1, 1) := by decide +kernel
theorem dX1_plain_209 : decode cX1_plain 209 = .ok (.iaload, 1) := by decide +kernel
theorem dX1_plain_210 : decode cX1_plain 210 = .ok (.aload_n 0, 1) := by decide +kernel
theorem dX1_plain_211 : decode cX1_plain 211 = .ok (.getfield 26, 3) := by decide +kernel
theorem dX1_plain_214 : decode cX1_plain 214 = .ok (.aload_n 0, 1) := by decide +kernel
theorem dX1_plain_215 : decode cX1_plain 215 = .ok (.getfield 20, 3) := by decide +kernel
theorem dX1_plain_218 : decode cX1_plain 218 = .ok (.iload_n 1, 1) := by decide +kernel
theorem dX1_plain_219 : decode cX1_plain 219 = .ok (.iaload, 1) := by decide +kernel
theorem dX1_plain_220 : decode cX1_plain 220 = .ok (.iaload, 1) := by decide +kernel
theorem dX1_plain_221 : decode cX1_plain 221 = .ok (.aload_n 0, 1) := by decide +kernel
theorem dX1_plain_222 : decode cX1_plain 222 = .ok (.getfield 26, 3) := by decide +kernel
theorem dX1_plain_225 : decode cX1_plain 225 = .ok (.aload_n 0, 1) := by decide +kernel
theorem dX1_plain_226 : decode cX1_plain 226 = .ok (.getfield 23, 3) := by decide +kernel
theorem dX1_plain_229 : decode cX1_plain 229 = .ok (.iload_n 1, 1) := by decide +kernel
theorem dX1_plain_230 : decode cX1_plain 230 = .ok (.iaload, 1) := by decide +kernel
theorem dX1_plain_231 : decode cX1_plain 231 = .ok (.iaload, 1) := by decide +kernel
theorem dX1_plain_232 : decode cX1_plain 232 = .ok (.ixor, 1) := by decide +kernel
theorem dX1_plain_233 : decode cX1_plain 233 = .ok (.iastore, 1) := by decide +kernel
theorem dX1_plain_234 : decode cX1_plain 234 = .ok (.aload_n 0, 1) := by decide +kernel
theorem dX1_plain_235 : decode cX1_plain 235 = .ok (.getfield 13, 3) := by decide +kernel
theorem dX1_plain_238 : decode cX1_plain 238 = .ok (.iload_n 1, 1) := by decide +kernel
theorem dX1_plain_239 : decode cX1_plain 239 = .ok (.iaload, 1) := by decide +kernel
theorem dX1_plain_240 : decode cX1_plain 240 = .ok (.bipush 6, 2) := by decide +kernel
theorem dX1_plain_242 : decode cX1_plain 242 = .ok (.if_icmp .ne 44, 3) := by decide +kernel
theorem dX1_plain_245 : decode cX1_plain 245 = .ok (.aload_n 0, 1) := by decide +kernel
theorem dX1_plain_246 : decode cX1_plain 246 = .ok (.getfield 26, 3) := by decide +kernel
theorem dX1_plain_249 : decode cX1_plain 249 = .ok (.aload_n 0, 1) := by decide +kernel
theorem dX1_plain_250 : decode cX1_plain 250 = .ok (.getfield 17, 3) := by decide +kernel
theorem dX1_plain_253 : decode cX1_plain 253 = .ok (.iload_n 1, 1) := by decide +kernel
theorem dX1_plain_254 : decode cX1_plain 254 = .ok (.iaload, 1) := by decide +kernel
theorem dX1_plain_255 : decode cX1_plain 255 = .ok (.aload_n 0, 1) := by decide +kernel
theorem dX1_plain_256 : decode cX1_plain 256 = .ok (.getfield 26, 3) := by decide +kernel
theorem dX1_plain_259 : decode cX1_plain 259 = .ok (.aload_n 0, 1) := by decide +kernel
theorem dX1_plain_260 : decode cX1_plain 260 = .ok (.getfield 20, 3) := by decide +kernel
theorem dX1_plain_263 : decode cX1_plain 263 = .ok (.iload_n 1, 1) := by decide +kernel
theorem dX1_plain_264 : decode cX1_plain 264 = .ok (.iaload, 1) := by decide +kernel
theorem dX1_plain_265 : decode cX1_plain 265 = .ok (.iaload, 1) := by decide +kernel
theorem dX1_plain_266 : decode cX1_plain 266 = .ok (.aload_n 0, 1) := by decide +kernel
theorem dX1_plain_267 : decode cX1_plain 267 = .ok (.getfield 26, 3) := by decide +kernel
theorem dX1_plain_270 : decode cX1_plain 270 = .ok (.aload_n 0, 1) := by decide +kernel
theorem dX1_plain_271 : decode cX1_plain 271 = .ok (.getfield 23, 3) := by decide +kernel
theorem dX1_plain_274 : decode cX1_plain 274 = .ok (.iload_n 1, 1) := by decide +kernel
theorem dX1_plain_275 : decode cX1_plain 275 = .ok (.iaload, 1) := by decide +kernel
theorem dX1_plain_276 : decode cX1_plain 276 = .ok (.iaload, 1) := by decide +kernel
theorem dX1_plain_277 : decode cX1_plain 277 = .ok (.if_icmp .ge 7, 3) := by decide +kernel
theorem dX1_plain_280 : decode cX1_plain 280 = .ok (.iconst 1, 1) := by decide +kernel
theorem dX1_plain_281 : decode cX1_plain 281 = .ok (.goto 4, 3) := by decide +kernel
theorem dX1_plain_284 : decode cX1_plain 284 = .ok (.iconst 0, 1) := by decide +kernel
theorem dX1_plain_285 : decode cX1_plain 285 = .ok (.iastore, 1) := by decide +kernel
theorem dX1_plain_286 : decode cX1_plain 286 = .ok (.aload_n 0, 1) := by decide +kernel
theorem dX1_plain_287 : decode cX1_plain 287 = .ok (.getfield 13, 3) := by decide +kernel
theorem dX1_plain_290 : decode cX1_plain 290 = .ok (.iload_n 1, 1) := by decide +kernel
theorem dX1_plain_291 : decode cX1_plain 291 = .ok (.iaload, 1) := by decide +kernel
theorem dX1_plain_292 : decode cX1_plain 292 = .ok (.bipush 7, 2) := by decide +kernel
theorem dX1_plain_294 : decode cX1_plain 294 = .ok (.if_icmp .ne 42, 3) := by decide +kernel
theorem dX1_plain_297 : decode cX1_plain 297 = .ok (.aload_n 0, 1) := by decide +kernel
theorem dX1_plain_298 : decode cX1_plain 298 = .ok (.getfield 32, 3) := by decide +kernel
theorem dX1_plain_301 : decode cX1_plain 301 = .ok (.bipush 64, 2) := by decide +kernel
theorem dX1_plain_303 : decode cX1_plain 303 = .ok (.if_icmp .ge 23, 3) := by decide +kernel
theorem dX1_plain_306 : decode cX1_plain 306 = .ok (.aload_n 0, 1) := by decide +kernel
theorem dX1_plain_307 : decode cX1_plain 307 = .ok (.getfield 29, 3) := by decide +kernel
theorem dX1_plain_310 : decode cX1_plain 310 = .ok (.aload_n 0, 1) := by decide +kernel
theorem dX1_plain_311 : decode cX1_plain 311 = .ok (.getfield 32, 3) := by decide +kernel
theorem dX1_plain_314 : decode cX1_plain 314 = .ok (.aload_n 0, 1) := by decide +kernel
theorem dX1_plain_315 : decode cX1_plain 315 = .ok (.getfield 26, 3) := by decide +kernel
theorem dX1_plain_318 : decode cX1_plain 318 = .ok (.aload_n 0, 1) := by decide +kernel
theorem dX1_plain_319 : decode cX1_plain 319 = .ok (.getfield 17, 3) := by decide +kernel
theorem dX1_plain_322 : decode cX1_plain 322 = .ok (.iload_n 1, 1) := by decide +kernel
theorem dX1_plain_323 : decode cX1_plain 323 = .ok (.iaload, 1) := by decide +kernel
theorem dX1_plain_324 : decode cX1_plain 324 = .ok (.iaload, 1) := by decide +kernel
theorem dX1_plain_325 : decode cX1_plain 325 = .ok (.iastore, 1) := by decide +kernel
theorem dX1_plain_326 : decode cX1_plain 326 = .ok (.aload_n 0, 1) := by decide +kernel
theorem dX1_plain_327 : decode cX1_plain 327 = .ok (.dup, 1) := by decide +kernel
theorem dX1_plain_328 : decode cX1_plain 328 = .ok (.getfield 32, 3) := by decide +kernel
theorem dX1_plain_331 : decode cX1_plain 331 = .ok (.iconst 1, 1) := by decide +kernel
theorem dX1_plain_332 : decode cX1_plain 332 = .ok (.iadd, 1) := by decide +kernel
theorem dX1_plain_333 : decode cX1_plain 333 = .ok (.putfield 32, 3) := by decide +kernel
theorem dX1_plain_336 : decode cX1_plain 336 = .ok (.return_, 1) := by decide +kernel
theorem dX1_variable_0 : decode cX1_variable 0 = .ok (.aload_n 0, 1) := by decide +kernel
theorem dX1_variable_1 : decode cX1_variable 1 = .ok (.iload_n 1, 1) := by decide +kernel
theorem dX1_variable_2 : decode cX1_variable 2 = .ok (.invokevirtual 38, 3) := by decide +kernel
theorem dX1_variable_5 : decode cX1_variable 5 = .ok (.ifCond .eq 12, 3) := by decide +kernel
theorem dX1_variable_8 : decode cX1_variable 8 = .ok (.aload_n 0, 1) := by decide +kernel
theorem dX1_variable_9 : decode cX1_variable 9 = .ok (.getfield 26, 3) := by decide +kernel
theorem dX1_variable_12 : decode cX1_variable 12 = .ok (.iload_n 1, 1) := by decide +kernel
theorem dX1_variable_13 : decode cX1_variable 13 = .ok (.iaload, 1) := by decide +kernel
theorem dX1_variable_14 : decode cX1_variable 14 = .ok (.goto 4, 3) := by decide +kernel
theorem dX1_variable_17 : decode cX1_variable 17 = .ok (.iconst 0, 1) := by decide +kernel
theorem dX1_variable_18 : decode cX1_variable 18 = .ok (.ireturn, 1) := by decide +kernel
theorem dX1_printed_0 : decode cX1_printed 0 = .ok (.aload_n 0, 1) := by decide +kernel
theorem dX1_printed_1 : decode cX1_printed 1 = .ok (.getfield 32, 3) := by decide +kernel
theorem dX1_printed_4 : decode cX1_printed 4 = .ok (.ireturn, 1) := by decide +kernel
theorem dX1_output_0 : decode cX1_output 0 = .ok (.iload_n 1, 1) := by decide +kernel
theorem dX1_output_1 : decode cX1_output 1 = .ok (.ifCond .lt 26, 3) := by decide +kernel
theorem dX1_output_4 : decode cX1_output 4 = .ok (.iload_n 1, 1) := by decide +kernel
theorem dX1_output_5 : decode cX1_output 5 = .ok (.aload_n 0, 1) := by decide +kernel
theorem dX1_output_6 : decode cX1_output 6 = .ok (.getfield 32, 3) := by decide +kernel
theorem dX1_output_9 : decode cX1_output 9 = .ok (.if_icmp .ge 18, 3) := by decide +kernel
theorem dX1_output_12 : decode cX1_output 12 = .ok (.iload_n 1, 1) := by decide +kernel
theorem dX1_output_13 : decode cX1_output 13 = .ok (.bipush 64, 2) := by decide +kernel
theorem dX1_output_15 : decode cX1_output 15 = .ok (.if_icmp .ge 12, 3) := by decide +kernel
theorem dX1_output_18 : decode cX1_output 18 = .ok (.aload_n 0, 1) := by decide +kernel
theorem dX1_output_19 : decode cX1_output 19 = .ok (.getfield 29, 3) := by decide +kernel
theorem dX1_output_22 : decode cX1_output 22 = .ok (.iload_n 1, 1) := by decide +kernel
theorem dX1_output_23 : decode cX1_output 23 = .ok (.iaload, 1) := by decide +kernel
theorem dX1_output_24 : decode cX1_output 24 = .ok (.goto 4, 3) := by decide +kernel
theorem dX1_output_27 : decode cX1_output 27 = .ok (.iconst 0, 1) := by decide +kernel
theorem dX1_output_28 : decode cX1_output 28 = .ok (.ireturn, 1) := by decide +kernel
theorem dX1_clear_0 : decode cX1_clear 0 = .ok (.aload_n 0, 1) := by decide +kernel
theorem dX1_clear_1 : decode cX1_clear 1 = .ok (.iconst 0, 1) := by decide +kernel
theorem dX1_clear_2 : decode cX1_clear 2 = .ok (.putfield 7, 3) := by decide +kernel
theorem dX1_clear_5 : decode cX1_clear 5 = .ok (.aload_n 0, 1) := by decide +kernel
theorem dX1_clear_6 : decode cX1_clear 6 = .ok (.iconst 0, 1) := by decide +kernel
theorem dX1_clear_7 : decode cX1_clear 7 = .ok (.putfield 32, 3) := by decide +kernel
theorem dX1_clear_10 : decode cX1_clear 10 = .ok (.iconst 0, 1) := by decide +kernel
theorem dX1_clear_11 : decode cX1_clear 11 = .ok (.istore_n 1, 1) := by decide +kernel
theorem dX1_clear_12 : decode cX1_clear 12 = .ok (.iload_n 1, 1) := by decide +kernel
theorem dX1_clear_13 : decode cX1_clear 13 = .ok (.bipush 6, 2) := by decide +kernel
theorem dX1_clear_15 : decode cX1_clear 15 = .ok (.if_icmp .ge 16, 3) := by decide +kernel
theorem dX1_clear_18 : decode cX1_clear 18 = .ok (.aload_n 0, 1) := by decide +kernel
theorem dX1_clear_19 : decode cX1_clear 19 = .ok (.getfield 26, 3) := by decide +kernel
theorem dX1_clear_22 : decode cX1_clear 22 = .ok (.iload_n 1, 1) := by decide +kernel
theorem dX1_clear_23 : decode cX1_clear 23 = .ok (.iconst 0, 1) := by decide +kernel
theorem dX1_clear_24 : decode cX1_clear 24 = .ok (.iastore, 1) := by decide +kernel
theorem dX1_clear_25 : decode cX1_clear 25 = .ok (.iinc 1 1, 3) := by decide +kernel
theorem dX1_clear_28 : decode cX1_clear 28 = .ok (.goto (-16), 3) := by decide +kernel
theorem dX1_clear_31 : decode cX1_clear 31 = .ok (.return_, 1) := by decide +kernel
end
section
set_option maxRecDepth 100000
theorem dL_law_0 : decode cL_law 0 = .ok (.new 7, 3) := by decide +kernel
theorem dL_law_3 : decode cL_law 3 = .ok (.dup, 1) := by decide +kernel
theorem dL_law_4 : decode cL_law 4 = .ok (.invokespecial 9, 3) := by decide +kernel
theorem dL_law_7 : decode cL_law 7 = .ok (.astore_n 1, 1) := by decide +kernel
theorem dL_law_8 : decode cL_law 8 = .ok (.new 10, 3) := by decide +kernel
theorem dL_law_11 : decode cL_law 11 = .ok (.dup, 1) := by decide +kernel
theorem dL_law_12 : decode cL_law 12 = .ok (.invokespecial 12, 3) := by decide +kernel
theorem dL_law_15 : decode cL_law 15 = .ok (.astore_n 2, 1) := by decide +kernel
theorem dL_law_16 : decode cL_law 16 = .ok (.iconst 0, 1) := by decide +kernel
theorem dL_law_17 : decode cL_law 17 = .ok (.istore_n 3, 1) := by decide +kernel
theorem dL_law_18 : decode cL_law 18 = .ok (.iload_n 3, 1) := by decide +kernel
theorem dL_law_19 : decode cL_law 19 = .ok (.aload_n 0, 1) := by decide +kernel
theorem dL_law_20 : decode cL_law 20 = .ok (.arraylength, 1) := by decide +kernel
theorem dL_law_21 : decode cL_law 21 = .ok (.iconst 5, 1) := by decide +kernel
theorem dL_law_22 : decode cL_law 22 = .ok (.isub, 1) := by decide +kernel
theorem dL_law_23 : decode cL_law 23 = .ok (.if_icmp .gt 262, 3) := by decide +kernel
theorem dL_law_26 : decode cL_law 26 = .ok (.aload_n 0, 1) := by decide +kernel
theorem dL_law_27 : decode cL_law 27 = .ok (.iload_n 3, 1) := by decide +kernel
theorem dL_law_28 : decode cL_law 28 = .ok (.iaload, 1) := by decide +kernel
theorem dL_law_29 : decode cL_law 29 = .ok (.bipush 15, 2) := by decide +kernel
theorem dL_law_31 : decode cL_law 31 = .ok (.iand, 1) := by decide +kernel
theorem dL_law_32 : decode cL_law 32 = .ok (.tableswitch 247 0 8 #[52, 105, 118, 131, 164, 177, 200, 213, 236], 52) := by decide +kernel
theorem dL_law_84 : decode cL_law 84 = .ok (.aload_n 1, 1) := by decide +kernel
theorem dL_law_85 : decode cL_law 85 = .ok (.aload_n 0, 1) := by decide +kernel
theorem dL_law_86 : decode cL_law 86 = .ok (.iload_n 3, 1) := by decide +kernel
theorem dL_law_87 : decode cL_law 87 = .ok (.iconst 1, 1) := by decide +kernel
theorem dL_law_88 : decode cL_law 88 = .ok (.iadd, 1) := by decide +kernel
theorem dL_law_89 : decode cL_law 89 = .ok (.iaload, 1) := by decide +kernel
theorem dL_law_90 : decode cL_law 90 = .ok (.aload_n 0, 1) := by decide +kernel
theorem dL_law_91 : decode cL_law 91 = .ok (.iload_n 3, 1) := by decide +kernel
theorem dL_law_92 : decode cL_law 92 = .ok (.iconst 2, 1) := by decide +kernel
theorem dL_law_93 : decode cL_law 93 = .ok (.iadd, 1) := by decide +kernel
theorem dL_law_94 : decode cL_law 94 = .ok (.iaload, 1) := by decide +kernel
theorem dL_law_95 : decode cL_law 95 = .ok (.aload_n 0, 1) := by decide +kernel
theorem dL_law_96 : decode cL_law 96 = .ok (.iload_n 3, 1) := by decide +kernel
theorem dL_law_97 : decode cL_law 97 = .ok (.iconst 3, 1) := by decide +kernel
theorem dL_law_98 : decode cL_law 98 = .ok (.iadd, 1) := by decide +kernel
theorem dL_law_99 : decode cL_law 99 = .ok (.iaload, 1) := by decide +kernel
theorem dL_law_100 : decode cL_law 100 = .ok (.aload_n 0, 1) := by decide +kernel
theorem dL_law_101 : decode cL_law 101 = .ok (.iload_n 3, 1) := by decide +kernel
theorem dL_law_102 : decode cL_law 102 = .ok (.iconst 4, 1) := by decide +kernel
theorem dL_law_103 : decode cL_law 103 = .ok (.iadd, 1) := by decide +kernel
theorem dL_law_104 : decode cL_law 104 = .ok (.iaload, 1) := by decide +kernel
theorem dL_law_105 : decode cL_law 105 = .ok (.invokevirtual 13, 3) := by decide +kernel
theorem dL_law_108 : decode cL_law 108 = .ok (.aload_n 2, 1) := by decide +kernel
theorem dL_law_109 : decode cL_law 109 = .ok (.aload_n 0, 1) := by decide +kernel
theorem dL_law_110 : decode cL_law 110 = .ok (.iload_n 3, 1) := by decide +kernel
theorem dL_law_111 : decode cL_law 111 = .ok (.iconst 1, 1) := by decide +kernel
theorem dL_law_112 : decode cL_law 112 = .ok (.iadd, 1) := by decide +kernel
theorem dL_law_113 : decode cL_law 113 = .ok (.iaload, 1) := by decide +kernel
theorem dL_law_114 : decode cL_law 114 = .ok (.aload_n 0, 1) := by decide +kernel
theorem dL_law_115 : decode cL_law 115 = .ok (.iload_n 3, 1) := by decide +kernel
theorem dL_law_116 : decode cL_law 116 = .ok (.iconst 2, 1) := by decide +kernel
theorem dL_law_117 : decode cL_law 117 = .ok (.iadd, 1) := by decide +kernel
theorem dL_law_118 : decode cL_law 118 = .ok (.iaload, 1) := by decide +kernel
theorem dL_law_119 : decode cL_law 119 = .ok (.aload_n 0, 1) := by decide +kernel
theorem dL_law_120 : decode cL_law 120 = .ok (.iload_n 3, 1) := by decide +kernel
theorem dL_law_121 : decode cL_law 121 = .ok (.iconst 3, 1) := by decide +kernel
theorem dL_law_122 : decode cL_law 122 = .ok (.iadd, 1) := by decide +kernel
theorem dL_law_123 : decode cL_law 123 = .ok (.iaload, 1) := by decide +kernel
theorem dL_law_124 : decode cL_law 124 = .ok (.aload_n 0, 1) := by decide +kernel
theorem dL_law_125 : decode cL_law 125 = .ok (.iload_n 3, 1) := by decide +kernel
theorem dL_law_126 : decode cL_law 126 = .ok (.iconst 4, 1) := by decide +kernel
theorem dL_law_127 : decode cL_law 127 = .ok (.iadd, 1) := by decide +kernel
theorem dL_law_128 : decode cL_law 128 = .ok (.iaload, 1) := by decide +kernel
theorem dL_law_129 : decode cL_law 129 = .ok (.invokevirtual 17, 3) := by decide +kernel
theorem dL_law_132 : decode cL_law 132 = .ok (.if_icmp .eq 147, 3) := by decide +kernel
theorem dL_law_135 : decode cL_law 135 = .ok (.iconst 0, 1) := by decide +kernel
theorem dL_law_136 : decode cL_law 136 = .ok (.ireturn, 1) := by decide +kernel
theorem dL_law_137 : decode cL_law 137 = .ok (.aload_n 1, 1) := by decide +kernel
theorem dL_law_138 : decode cL_law 138 = .ok (.invokevirtual 18, 3) := by decide +kernel
theorem dL_law_141 : decode cL_law 141 = .ok (.aload_n 2, 1) := by decide +kernel
theorem dL_law_142 : decode cL_law 142 = .ok (.invokevirtual 22, 3) := by decide +kernel
theorem dL_law_145 : decode cL_law 145 = .ok (.if_icmp .eq 134, 3) := by decide +kernel
theorem dL_law_148 : decode cL_law 148 = .ok (.iconst 0, 1) := by decide +kernel
theorem dL_law_149 : decode cL_law 149 = .ok (.ireturn, 1) := by decide +kernel
theorem dL_law_150 : decode cL_law 150 = .ok (.aload_n 1, 1) := by decide +kernel
theorem dL_law_151 : decode cL_law 151 = .ok (.invokevirtual 23, 3) := by decide +kernel
theorem dL_law_154 : decode cL_law 154 = .ok (.aload_n 2, 1) := by decide +kernel
theorem dL_law_155 : decode cL_law 155 = .ok (.invokevirtual 27, 3) := by decide +kernel
theorem dL_law_158 : decode cL_law 158 = .ok (.if_icmp .eq 121, 3) := by decide +kernel
theorem dL_law_161 : decode cL_law 161 = .ok (.iconst 0, 1) := by decide +kernel
theorem dL_law_162 : decode cL_law 162 = .ok (.ireturn, 1) := by decide +kernel
theorem dL_law_163 : decode cL_law 163 = .ok (.aload_n 1, 1) := by decide +kernel
theorem dL_law_164 : decode cL_law 164 = .ok (.aload_n 0, 1) := by decide +kernel
theorem dL_law_165 : decode cL_law 165 = .ok (.iload_n 3, 1) := by decide +kernel
theorem dL_law_166 : decode cL_law 166 = .ok (.iconst 1, 1) := by decide +kernel
theorem dL_law_167 : decode cL_law 167 = .ok (.iadd, 1) := by decide +kernel
theorem dL_law_168 : decode cL_law 168 = .ok (.iaload, 1) := by decide +kernel
theorem dL_law_169 : decode cL_law 169 = .ok (.aload_n 0, 1) := by decide +kernel
theorem dL_law_170 : decode cL_law 170 = .ok (.iload_n 3, 1) := by decide +kernel
theorem dL_law_171 : decode cL_law 171 = .ok (.iconst 2, 1) := by decide +kernel
theorem dL_law_172 : decode cL_law 172 = .ok (.iadd, 1) := by decide +kernel
theorem dL_law_173 : decode cL_law 173 = .ok (.iaload, 1) := by decide +kernel
theorem dL_law_174 : decode cL_law 174 = .ok (.invokevirtual 28, 3) := by decide +kernel
theorem dL_law_177 : decode cL_law 177 = .ok (.aload_n 2, 1) := by decide +kernel
theorem dL_law_178 : decode cL_law 178 = .ok (.aload_n 0, 1) := by decide +kernel
theorem dL_law_179 : decode cL_law 179 = .ok (.iload_n 3, 1) := by decide +kernel
theorem dL_law_180 : decode cL_law 180 = .ok (.iconst 1, 1) := by decide +kernel
theorem dL_law_181 : decode cL_law 181 = .ok (.iadd, 1) := by decide +kernel
theorem dL_law_182 : decode cL_law 182 = .ok (.iaload, 1) := by decide +kernel
theorem dL_law_183 : decode cL_law 183 = .ok (.aload_n 0, 1) := by decide +kernel
theorem dL_law_184 : decode cL_law 184 = .ok (.iload_n 3, 1) := by decide +kernel
theorem dL_law_185 : decode cL_law 185 = .ok (.iconst 2, 1) := by decide +kernel
theorem dL_law_186 : decode cL_law 186 = .ok (.iadd, 1) := by decide +kernel
theorem dL_law_187 : decode cL_law 187 = .ok (.iaload, 1) := by decide +kernel
theorem dL_law_188 : decode cL_law 188 = .ok (.invokevirtual 32, 3) := by decide +kernel
theorem dL_law_191 : decode cL_law 191 = .ok (.if_icmp .eq 88, 3) := by decide +kernel
theorem dL_law_194 : decode cL_law 194 = .ok (.iconst 0, 1) := by decide +kernel
theorem dL_law_195 : decode cL_law 195 = .ok (.ireturn, 1) := by decide +kernel
theorem dL_law_196 : decode cL_law 196 = .ok (.aload_n 1, 1) := by decide +kernel
theorem dL_law_197 : decode cL_law 197 = .ok (.invokevirtual 33, 3) := by decide +kernel
theorem dL_law_200 : decode cL_law 200 = .ok (.aload_n 2, 1) := by decide +kernel
theorem dL_law_201 : decode cL_law 201 = .ok (.invokevirtual 36, 3) := by decide +kernel
theorem dL_law_204 : decode cL_law 204 = .ok (.if_icmp .eq 75, 3) := by decide +kernel
theorem dL_law_207 : decode cL_law 207 = .ok (.iconst 0, 1) := by decide +kernel
theorem dL_law_208 : decode cL_law 208 = .ok (.ireturn, 1) := by decide +kernel
theorem dL_law_209 : decode cL_law 209 = .ok (.aload_n 1, 1) := by decide +kernel
theorem dL_law_210 : decode cL_law 210 = .ok (.aload_n 0, 1) := by decide +kernel
theorem dL_law_211 : decode cL_law 211 = .ok (.iload_n 3, 1) := by decide +kernel
theorem dL_law_212 : decode cL_law 212 = .ok (.iconst 1, 1) := by decide +kernel
theorem dL_law_213 : decode cL_law 213 = .ok (.iadd, 1) := by decide +kernel
theorem dL_law_214 : decode cL_law 214 = .ok (.iaload, 1) := by decide +kernel
theorem dL_law_215 : decode cL_law 215 = .ok (.invokevirtual 37, 3) := by decide +kernel
theorem dL_law_218 : decode cL_law 218 = .ok (.aload_n 2, 1) := by decide +kernel
theorem dL_law_219 : decode cL_law 219 = .ok (.aload_n 0, 1) := by decide +kernel
theorem dL_law_220 : decode cL_law 220 = .ok (.iload_n 3, 1) := by decide +kernel
theorem dL_law_221 : decode cL_law 221 = .ok (.iconst 1, 1) := by decide +kernel
theorem dL_law_222 : decode cL_law 222 = .ok (.iadd, 1) := by decide +kernel
theorem dL_law_223 : decode cL_law 223 = .ok (.iaload, 1) := by decide +kernel
theorem dL_law_224 : decode cL_law 224 = .ok (.invokevirtual 41, 3) := by decide +kernel
theorem dL_law_227 : decode cL_law 227 = .ok (.if_icmp .eq 52, 3) := by decide +kernel
theorem dL_law_230 : decode cL_law 230 = .ok (.iconst 0, 1) := by decide +kernel
theorem dL_law_231 : decode cL_law 231 = .ok (.ireturn, 1) := by decide +kernel
theorem dL_law_232 : decode cL_law 232 = .ok (.aload_n 1, 1) := by decide +kernel
theorem dL_law_233 : decode cL_law 233 = .ok (.invokevirtual 42, 3) := by decide +kernel
theorem dL_law_236 : decode cL_law 236 = .ok (.aload_n 2, 1) := by decide +kernel
theorem dL_law_237 : decode cL_law 237 = .ok (.invokevirtual 45, 3) := by decide +kernel
theorem dL_law_240 : decode cL_law 240 = .ok (.if_icmp .eq 39, 3) := by decide +kernel
theorem dL_law_243 : decode cL_law 243 = .ok (.iconst 0, 1) := by decide +kernel
theorem dL_law_244 : decode cL_law 244 = .ok (.ireturn, 1) := by decide +kernel
theorem dL_law_245 : decode cL_law 245 = .ok (.aload_n 1, 1) := by decide +kernel
theorem dL_law_246 : decode cL_law 246 = .ok (.aload_n 0, 1) := by decide +kernel
theorem dL_law_247 : decode cL_law 247 = .ok (.iload_n 3, 1) := by decide +kernel
theorem dL_law_248 : decode cL_law 248 = .ok (.iconst 1, 1) := by decide +kernel
theorem dL_law_249 : decode cL_law 249 = .ok (.iadd, 1) := by decide +kernel
theorem dL_law_250 : decode cL_law 250 = .ok (.iaload, 1) := by decide +kernel
theorem dL_law_251 : decode cL_law 251 = .ok (.invokevirtual 46, 3) := by decide +kernel
theorem dL_law_254 : decode cL_law 254 = .ok (.aload_n 2, 1) := by decide +kernel
theorem dL_law_255 : decode cL_law 255 = .ok (.aload_n 0, 1) := by decide +kernel
theorem dL_law_256 : decode cL_law 256 = .ok (.iload_n 3, 1) := by decide +kernel
theorem dL_law_257 : decode cL_law 257 = .ok (.iconst 1, 1) := by decide +kernel
theorem dL_law_258 : decode cL_law 258 = .ok (.iadd, 1) := by decide +kernel
theorem dL_law_259 : decode cL_law 259 = .ok (.iaload, 1) := by decide +kernel
theorem dL_law_260 : decode cL_law 260 = .ok (.invokevirtual 49, 3) := by decide +kernel
theorem dL_law_263 : decode cL_law 263 = .ok (.if_icmp .eq 16, 3) := by decide +kernel
theorem dL_law_266 : decode cL_law 266 = .ok (.iconst 0, 1) := by decide +kernel
theorem dL_law_267 : decode cL_law 267 = .ok (.ireturn, 1) := by decide +kernel
theorem dL_law_268 : decode cL_law 268 = .ok (.aload_n 1, 1) := by decide +kernel
theorem dL_law_269 : decode cL_law 269 = .ok (.invokevirtual 50, 3) := by decide +kernel
theorem dL_law_272 : decode cL_law 272 = .ok (.aload_n 2, 1) := by decide +kernel
theorem dL_law_273 : decode cL_law 273 = .ok (.invokevirtual 53, 3) := by decide +kernel
theorem dL_law_276 : decode cL_law 276 = .ok (.goto 3, 3) := by decide +kernel
theorem dL_law_279 : decode cL_law 279 = .ok (.iinc 3 5, 3) := by decide +kernel
theorem dL_law_282 : decode cL_law 282 = .ok (.goto (-264), 3) := by decide +kernel
theorem dL_law_285 : decode cL_law 285 = .ok (.iconst 1, 1) := by decide +kernel
theorem dL_law_286 : decode cL_law 286 = .ok (.ireturn, 1) := by decide +kernel
theorem dJ0_init_0 : decode cJ0_init 0 = .ok (.return_, 1) := by decide +kernel
end
section
/-! THE WALKING GROUND: a state of one object with its arrays is Sg (row 0: the scalar fields by number, row k: the array held by field k); XW: the machine at pc, from any heap that holds the state -/
abbrev Sg : Type := Nat → Nat → Int32
def su (σ : Sg) (k j : Nat) (v : Int32) : Sg := fun a b => if a = k then (if b = j then v else σ a b) else σ a b
theorem zs_arr (σ : Sg) (k j : Nat) (v : Int32) : su σ k j v k = upd (σ k) j v := by
  funext b
  simp [su, upd]
theorem zs_row {σ : Sg} {k j a : Nat} {v : Int32} (h : a ≠ k) : su σ k j v a = σ a := by
  funext b
  simp [su, h]
theorem zs_eq {σ : Sg} {k j : Nat} {v : Int32} : su σ k j v k j = v := by simp [su]
theorem zs_ne {σ : Sg} {k j b : Nat} {v : Int32} (h : b ≠ j) : su σ k j v k b = σ k b := by simp [su, h]
/-- local values, the latest first -/
def lk : List (Nat × Value) → Nat → Option Value
  | [], _ => none
  | q :: t, i => cond (Nat.beq q.1 i) (some q.2) (lk t i)
def Lh (ls : Array Slot) (nL : Nat) (L : List (Nat × Value)) : Prop := ls.size = nL ∧ lv_wf ls ∧ ∀ i v, lk L i = some v → v.category = 1 ∧ ls[i]? = some (.val v)
theorem lk_mem {L : List (Nat × Value)} {i : Nat} {v : Value} (h : lk L i = some v) : (i, v) ∈ L := by
  induction L with
  | nil => simp [lk] at h
  | cons q t ih =>
    simp only [lk] at h
    cases hq : Nat.beq q.1 i with
    | true =>
      rw [hq] at h
      have : q.1 = i := Nat.eq_of_beq_eq_true hq
      simp at h
      rw [← this, ← h]
      exact List.mem_cons_self
    | false =>
      rw [hq] at h
      exact List.mem_cons_of_mem _ (ih h)
theorem lh_of {ls : Array Slot} {nL : Nat} {L : List (Nat × Value)} (h : lv_has ls nL L) (hc : ∀ q ∈ L, q.2.category = 1) : Lh ls nL L := ⟨h.1, h.2.1, fun _ _ hk => ⟨hc _ (lk_mem hk), h.2.2 _ (lk_mem hk)⟩⟩
/-- the pairs that hold -/
def lp_all (L : List (Nat × Value)) : List (Nat × Value) := L.filterMap (fun q => (lk L q.1).map (fun v => (q.1, v)))
theorem lp_has {ls : Array Slot} {nL : Nat} {L : List (Nat × Value)} (h : Lh ls nL L) : lv_has ls nL (lp_all L) := by
  refine ⟨h.1, h.2.1, fun q hq => ?_⟩
  obtain ⟨p, -, hp⟩ := List.mem_filterMap.mp hq
  cases hk : lk L p.1 with
  | none => rw [hk] at hp; cases hp
  | some v =>
    rw [hk] at hp
    cases hp
    exact (h.2.2 _ _ hk).2
theorem lp_put {ls : Array Slot} {nL i : Nat} {v : Value} {L : List (Nat × Value)} (h0 : Lh ls nL L) {ls' : Array Slot} (hv : v.category = 1) (h : lv_has ls' nL ((i, v) :: (lp_all L).filter (fun q => !(q.1 == i) && !(q.1 + 1 == i && q.2.category == 2)))) : Lh ls' nL ((i, v) :: L) := by
  refine ⟨h.1, h.2.1, fun j w hj => ?_⟩
  simp only [lk] at hj
  cases hb : Nat.beq i j with
  | true =>
    rw [hb] at hj
    have e : i = j := Nat.eq_of_beq_eq_true hb
    simp at hj
    subst e
    subst hj
    exact ⟨hv, h.2.2 (i, v) List.mem_cons_self⟩
  | false =>
    rw [hb] at hj
    have hj : lk L j = some w := hj
    have hc := (h0.2.2 j w hj).1
    refine ⟨hc, h.2.2 (j, w) (List.mem_cons_of_mem _ (List.mem_filter.mpr ⟨List.mem_filterMap.mpr ⟨(j, w), lk_mem hj, by simp [hj]⟩, ?_⟩))⟩
    have hne : ¬ j = i := fun e => by rw [e] at hb; simp at hb
    simp [hne, hc]
/-- fewer values -/
def ag (L : List (Nat × Value)) : List (Nat × Value) → Prop
  | [] => True
  | q :: t => lk L q.1 = some q.2 ∧ ag L t
theorem ag_mem {L L' : List (Nat × Value)} (h : ag L L') : ∀ q ∈ L', lk L q.1 = some q.2 := by
  induction L' with
  | nil => intro q hq; cases hq
  | cons a t ih =>
    intro q hq
    rcases List.mem_cons.mp hq with e | e
    · rw [e]; exact h.1
    · exact ih h.2 q e
theorem lh_ag {ls : Array Slot} {nL : Nat} {L L' : List (Nat × Value)} (h : Lh ls nL L) (ha : ag L L') : Lh ls nL L' := ⟨h.1, h.2.1, fun i v hv => h.2.2 i v (ag_mem ha (i, v) (lk_mem hv))⟩
/-- what stays while a method runs: (program, launch, environment, room, start), (method, arguments, frames below, method, code), (number of locals, free cells, goal, cells, slots) -/
abbrev CX : Type := (Program × Launch × Env × Room × State) × (MethodId × Array Value × List Frame × Method × Code) × (Nat × (Nat → Prop) × (State → Prop) × Nat × Nat)
def XW (X : CX) (P : Heap → Prop) (pc : Nat) (L : List (Nat × Value)) (st : List Value) : Prop :=
  ∀ (H : Heap) (locs : List Loc) (ls : Array Slot), P H → va_S X.2.2.2.1 X.1.2.2.2.2.heap H locs → Lh ls X.2.2.1 L →
    W X.1.1 X.1.2.1 X.1.2.2.1 X.1.2.2.2.1 X.1.2.2.2.2 X.2.1.1 X.2.1.2.1 X.2.1.2.2.1 X.2.1.2.2.2.1 X.2.1.2.2.2.2 H locs X.2.2.2.2.2.1 X.2.2.2.2.2.2 X.2.2.2.2.1 (F0 X.2.1.1 pc ls st)
def Bx (X : CX) (cc : ByteArray) (nL : Nat) : Prop := X.1.1.tables.exec = Jvm.exec ∧ X.2.1.2.2.2.2.code = cc ∧ X.2.2.1 = nL
section XWR
variable {X : CX} {cc : ByteArray} {nL : Nat} {P : Heap → Prop} {pc : Nat} {L : List (Nat × Value)} {rest : List Value}
theorem xw_loc (L' : List (Nat × Value)) (h : ag L L') (k : XW X P pc L' rest) : XW X P pc L rest := fun H locs ls hP hS hl => k H locs ls hP hS (lh_ag hl h)
theorem xw_iconst (B : Bx X cc nL) {n : Int} {v : Int32} (d : decode cc pc = .ok (.iconst n, 1)) (hv : Int32.ofInt n = v) (k : XW X P (pc + 1) L (.int v :: rest)) : XW X P pc L rest := fun H locs ls hP hS hl => lv_iconst B.1 B.2.1 d hv (k H locs ls hP hS hl)
theorem xw_bipush (B : Bx X cc nL) {n : Int} {v : Int32} (d : decode cc pc = .ok (.bipush n, 2)) (hv : (Int8.ofInt n).toInt32 = v) (k : XW X P (pc + 2) L (.int v :: rest)) : XW X P pc L rest := fun H locs ls hP hS hl => lv_bipush B.1 B.2.1 d hv (k H locs ls hP hS hl)
theorem xw_sipush (B : Bx X cc nL) {n : Int} {v : Int32} (d : decode cc pc = .ok (.sipush n, 3)) (hv : (Int16.ofInt n).toInt32 = v) (k : XW X P (pc + 3) L (.int v :: rest)) : XW X P pc L rest := fun H locs ls hP hS hl => lv_sipush B.1 B.2.1 d hv (k H locs ls hP hS hl)
theorem xw_ldc (B : Bx X cc nL) {own : String} {index : Nat} {v : Int32} (hown : X.1.2.2.2.2.vm.findClass own = some X.2.1.1.cls) (hc : (Jvm.Cond.constant own index v).before X.2.1.2.1 X.1.2.2.2.2 = true) (d : decode cc pc = .ok (.ldc index, 2)) (k : XW X P (pc + 2) L (.int v :: rest)) : XW X P pc L rest := fun H locs ls hP hS hl => lv_ldc B.1 B.2.1 hown hc d (k H locs ls hP hS hl)
theorem xw_iload_n (B : Bx X cc nL) {i : Fin 4} {x : Int32} (d : decode cc pc = .ok (.iload_n i, 1)) (hx : lk L (i : Nat) = some (.int x)) (k : XW X P (pc + 1) L (.int x :: rest)) : XW X P pc L rest := fun H locs ls hP hS hl => lv_iload_n B.1 B.2.1 d rfl (hl.2.2 _ _ hx).2 (k H locs ls hP hS hl)
theorem xw_iload (B : Bx X cc nL) {i : Nat} {x : Int32} (d : decode cc pc = .ok (.iload i, 2)) (hx : lk L i = some (.int x)) (k : XW X P (pc + 2) L (.int x :: rest)) : XW X P pc L rest := fun H locs ls hP hS hl => lv_iload B.1 B.2.1 d (hl.2.2 _ _ hx).2 (k H locs ls hP hS hl)
theorem xw_aload_n (B : Bx X cc nL) {i : Fin 4} {x : Nat} (d : decode cc pc = .ok (.aload_n i, 1)) (hx : lk L (i : Nat) = some (.ref x)) (k : XW X P (pc + 1) L (.ref x :: rest)) : XW X P pc L rest := fun H locs ls hP hS hl => lv_aload_n B.1 B.2.1 d rfl (hl.2.2 _ _ hx).2 (k H locs ls hP hS hl)
theorem xw_istore_n (B : Bx X cc nL) {k : Fin 4} {i : Nat} {x : Int32} (d : decode cc pc = .ok (.istore_n k, 1)) (hi : (k : Nat) = i) (hn : i < nL) (kk : XW X P (pc + 1) ((i, .int x) :: L) rest) : XW X P pc L (.int x :: rest) := fun H locs ls hP hS hl => lv_istore_n B.1 B.2.1 d hi (lp_has hl) (by rw [B.2.2]; exact hn) rfl (fun ls' h' => kk H locs ls' hP hS (lp_put hl rfl h'))
theorem xw_istore (B : Bx X cc nL) {i : Nat} {x : Int32} (d : decode cc pc = .ok (.istore i, 2)) (hn : i < nL) (kk : XW X P (pc + 2) ((i, .int x) :: L) rest) : XW X P pc L (.int x :: rest) := fun H locs ls hP hS hl => lv_istore B.1 B.2.1 d (lp_has hl) (by rw [B.2.2]; exact hn) rfl (fun ls' h' => kk H locs ls' hP hS (lp_put hl rfl h'))
theorem xw_astore_n (B : Bx X cc nL) {k : Fin 4} {i : Nat} {x : Nat} (d : decode cc pc = .ok (.astore_n k, 1)) (hi : (k : Nat) = i) (hn : i < nL) (kk : XW X P (pc + 1) ((i, .ref x) :: L) rest) : XW X P pc L (.ref x :: rest) := fun H locs ls hP hS hl => lv_astore_n B.1 B.2.1 d hi (lp_has hl) (by rw [B.2.2]; exact hn) rfl (fun ls' h' => kk H locs ls' hP hS (lp_put hl rfl h'))
theorem lp_at {l : List (Nat × Value)} {q : Nat × Value} (h : q ∈ l) : ∃ k : Nat, l[k]? = some q := List.getElem?_of_mem h
theorem xw_iinc (B : Bx X cc nL) {i : Nat} {n : Int} {x v : Int32} (d : decode cc pc = .ok (.iinc i n, 3)) (hx : lk L i = some (.int x)) (hv : x + Int32.ofInt n = v) (hn : i < nL) (kk : XW X P (pc + 3) ((i, .int v) :: L) rest) : XW X P pc L rest := by
  intro H locs ls hP hS hl
  obtain ⟨k, hk⟩ := lp_at (l := lp_all L) (q := (i, .int x)) (List.mem_filterMap.mpr ⟨(i, .int x), lk_mem hx, by simp [hx]⟩)
  exact lv_iinc B.1 B.2.1 d (lp_has hl) hk hv (by rw [B.2.2]; exact hn) rfl (fun ls' h' => kk H locs ls' hP hS (lp_put hl rfl h'))
theorem xw_iadd (B : Bx X cc nL) {x y z : Int32} (d : decode cc pc = .ok (.iadd, 1)) (hz : x + y = z) (k : XW X P (pc + 1) L (.int z :: rest)) : XW X P pc L (.int y :: .int x :: rest) := fun H locs ls hP hS hl => lv_iadd B.1 B.2.1 d (by rw [hz]; exact k H locs ls hP hS hl)
theorem xw_isub (B : Bx X cc nL) {x y z : Int32} (d : decode cc pc = .ok (.isub, 1)) (hz : x - y = z) (k : XW X P (pc + 1) L (.int z :: rest)) : XW X P pc L (.int y :: .int x :: rest) := fun H locs ls hP hS hl => lv_isub B.1 B.2.1 d (by rw [hz]; exact k H locs ls hP hS hl)
theorem xw_imul (B : Bx X cc nL) {x y z : Int32} (d : decode cc pc = .ok (.imul, 1)) (hz : x * y = z) (k : XW X P (pc + 1) L (.int z :: rest)) : XW X P pc L (.int y :: .int x :: rest) := fun H locs ls hP hS hl => lv_imul B.1 B.2.1 d (by rw [hz]; exact k H locs ls hP hS hl)
theorem xw_ixor (B : Bx X cc nL) {x y z : Int32} (d : decode cc pc = .ok (.ixor, 1)) (hz : x ^^^ y = z) (k : XW X P (pc + 1) L (.int z :: rest)) : XW X P pc L (.int y :: .int x :: rest) := fun H locs ls hP hS hl => lv_ixor B.1 B.2.1 d (by rw [hz]; exact k H locs ls hP hS hl)
theorem xw_iand (B : Bx X cc nL) {x y z : Int32} (d : decode cc pc = .ok (.iand, 1)) (hz : x &&& y = z) (k : XW X P (pc + 1) L (.int z :: rest)) : XW X P pc L (.int y :: .int x :: rest) := fun H locs ls hP hS hl => lv_iand B.1 B.2.1 d (by rw [hz]; exact k H locs ls hP hS hl)
theorem xw_i2b (B : Bx X cc nL) {x v : Int32} (d : decode cc pc = .ok (.i2b, 1)) (hv : x.toInt8.toInt32 = v) (k : XW X P (pc + 1) L (.int v :: rest)) : XW X P pc L (.int x :: rest) := fun H locs ls hP hS hl => lv_i2b B.1 B.2.1 d hv (k H locs ls hP hS hl)
theorem xw_i2s (B : Bx X cc nL) {x v : Int32} (d : decode cc pc = .ok (.i2s, 1)) (hv : x.toInt16.toInt32 = v) (k : XW X P (pc + 1) L (.int v :: rest)) : XW X P pc L (.int x :: rest) := fun H locs ls hP hS hl => lv_i2s B.1 B.2.1 d hv (k H locs ls hP hS hl)
theorem xw_dup (B : Bx X cc nL) {v : Value} (d : decode cc pc = .ok (.dup, 1)) (hv : v.category = 1) (k : XW X P (pc + 1) L (v :: v :: rest)) : XW X P pc L (v :: rest) := fun H locs ls hP hS hl => lv_dup B.1 B.2.1 d hv (k H locs ls hP hS hl)
theorem xw_dup2 (B : Bx X cc nL) {v w : Value} (d : decode cc pc = .ok (.dup2, 1)) (hv : v.category = 1) (hw : w.category = 1) (k : XW X P (pc + 1) L (v :: w :: v :: w :: rest)) : XW X P pc L (v :: w :: rest) := fun H locs ls hP hS hl => lv_dup2_11 B.1 B.2.1 d hv hw (k H locs ls hP hS hl)
theorem xw_goto (B : Bx X cc nL) {off : Int} {tgt : Nat} (d : decode cc pc = .ok (.goto off, 3)) (ht : (pc : Int) + off = (tgt : Int)) (k : XW X P tgt L rest) : XW X P pc L rest := fun H locs ls hP hS hl => lv_goto B.1 B.2.1 d ht (k H locs ls hP hS hl)
theorem xw_icmp_eq (B : Bx X cc nL) {x y : Int32} {off : Int} {tgt : Nat} (d : decode cc pc = .ok (.if_icmp .eq off, 3)) (ht : (pc : Int) + off = (tgt : Int)) (kt : x = y → XW X P tgt L rest) (kf : ¬ x = y → XW X P (pc + 3) L rest) : XW X P pc L (.int y :: .int x :: rest) := fun H locs ls hP hS hl => lv_icmp_eq B.1 B.2.1 d ht (fun q => kt q H locs ls hP hS hl) (fun q => kf q H locs ls hP hS hl)
theorem xw_if_eq (B : Bx X cc nL) {x : Int32} {off : Int} {tgt : Nat} (d : decode cc pc = .ok (.ifCond .eq off, 3)) (ht : (pc : Int) + off = (tgt : Int)) (kt : x = 0 → XW X P tgt L rest) (kf : ¬ x = 0 → XW X P (pc + 3) L rest) : XW X P pc L (.int x :: rest) := fun H locs ls hP hS hl => lv_if_eq B.1 B.2.1 d ht (fun q => kt q H locs ls hP hS hl) (fun q => kf q H locs ls hP hS hl)
theorem xw_icmp_ne (B : Bx X cc nL) {x y : Int32} {off : Int} {tgt : Nat} (d : decode cc pc = .ok (.if_icmp .ne off, 3)) (ht : (pc : Int) + off = (tgt : Int)) (kt : ¬ x = y → XW X P tgt L rest) (kf : x = y → XW X P (pc + 3) L rest) : XW X P pc L (.int y :: .int x :: rest) := fun H locs ls hP hS hl => lv_icmp_ne B.1 B.2.1 d ht (fun q => kt q H locs ls hP hS hl) (fun q => kf q H locs ls hP hS hl)
theorem xw_if_ne (B : Bx X cc nL) {x : Int32} {off : Int} {tgt : Nat} (d : decode cc pc = .ok (.ifCond .ne off, 3)) (ht : (pc : Int) + off = (tgt : Int)) (kt : ¬ x = 0 → XW X P tgt L rest) (kf : x = 0 → XW X P (pc + 3) L rest) : XW X P pc L (.int x :: rest) := fun H locs ls hP hS hl => lv_if_ne B.1 B.2.1 d ht (fun q => kt q H locs ls hP hS hl) (fun q => kf q H locs ls hP hS hl)
theorem xw_icmp_lt (B : Bx X cc nL) {x y : Int32} {off : Int} {tgt : Nat} (d : decode cc pc = .ok (.if_icmp .lt off, 3)) (ht : (pc : Int) + off = (tgt : Int)) (kt : x < y → XW X P tgt L rest) (kf : ¬ x < y → XW X P (pc + 3) L rest) : XW X P pc L (.int y :: .int x :: rest) := fun H locs ls hP hS hl => lv_icmp_lt B.1 B.2.1 d ht (fun q => kt q H locs ls hP hS hl) (fun q => kf q H locs ls hP hS hl)
theorem xw_if_lt (B : Bx X cc nL) {x : Int32} {off : Int} {tgt : Nat} (d : decode cc pc = .ok (.ifCond .lt off, 3)) (ht : (pc : Int) + off = (tgt : Int)) (kt : x < 0 → XW X P tgt L rest) (kf : ¬ x < 0 → XW X P (pc + 3) L rest) : XW X P pc L (.int x :: rest) := fun H locs ls hP hS hl => lv_if_lt B.1 B.2.1 d ht (fun q => kt q H locs ls hP hS hl) (fun q => kf q H locs ls hP hS hl)
theorem xw_icmp_ge (B : Bx X cc nL) {x y : Int32} {off : Int} {tgt : Nat} (d : decode cc pc = .ok (.if_icmp .ge off, 3)) (ht : (pc : Int) + off = (tgt : Int)) (kt : y ≤ x → XW X P tgt L rest) (kf : ¬ y ≤ x → XW X P (pc + 3) L rest) : XW X P pc L (.int y :: .int x :: rest) := fun H locs ls hP hS hl => lv_icmp_ge B.1 B.2.1 d ht (fun q => kt q H locs ls hP hS hl) (fun q => kf q H locs ls hP hS hl)
theorem xw_if_ge (B : Bx X cc nL) {x : Int32} {off : Int} {tgt : Nat} (d : decode cc pc = .ok (.ifCond .ge off, 3)) (ht : (pc : Int) + off = (tgt : Int)) (kt : 0 ≤ x → XW X P tgt L rest) (kf : ¬ 0 ≤ x → XW X P (pc + 3) L rest) : XW X P pc L (.int x :: rest) := fun H locs ls hP hS hl => lv_if_ge B.1 B.2.1 d ht (fun q => kt q H locs ls hP hS hl) (fun q => kf q H locs ls hP hS hl)
theorem xw_icmp_gt (B : Bx X cc nL) {x y : Int32} {off : Int} {tgt : Nat} (d : decode cc pc = .ok (.if_icmp .gt off, 3)) (ht : (pc : Int) + off = (tgt : Int)) (kt : y < x → XW X P tgt L rest) (kf : ¬ y < x → XW X P (pc + 3) L rest) : XW X P pc L (.int y :: .int x :: rest) := fun H locs ls hP hS hl => lv_icmp_gt B.1 B.2.1 d ht (fun q => kt q H locs ls hP hS hl) (fun q => kf q H locs ls hP hS hl)
theorem xw_if_gt (B : Bx X cc nL) {x : Int32} {off : Int} {tgt : Nat} (d : decode cc pc = .ok (.ifCond .gt off, 3)) (ht : (pc : Int) + off = (tgt : Int)) (kt : 0 < x → XW X P tgt L rest) (kf : ¬ 0 < x → XW X P (pc + 3) L rest) : XW X P pc L (.int x :: rest) := fun H locs ls hP hS hl => lv_if_gt B.1 B.2.1 d ht (fun q => kt q H locs ls hP hS hl) (fun q => kf q H locs ls hP hS hl)
theorem xw_icmp_le (B : Bx X cc nL) {x y : Int32} {off : Int} {tgt : Nat} (d : decode cc pc = .ok (.if_icmp .le off, 3)) (ht : (pc : Int) + off = (tgt : Int)) (kt : x ≤ y → XW X P tgt L rest) (kf : ¬ x ≤ y → XW X P (pc + 3) L rest) : XW X P pc L (.int y :: .int x :: rest) := fun H locs ls hP hS hl => lv_icmp_le B.1 B.2.1 d ht (fun q => kt q H locs ls hP hS hl) (fun q => kf q H locs ls hP hS hl)
theorem xw_if_le (B : Bx X cc nL) {x : Int32} {off : Int} {tgt : Nat} (d : decode cc pc = .ok (.ifCond .le off, 3)) (ht : (pc : Int) + off = (tgt : Int)) (kt : x ≤ 0 → XW X P tgt L rest) (kf : ¬ x ≤ 0 → XW X P (pc + 3) L rest) : XW X P pc L (.int x :: rest) := fun H locs ls hP hS hl => lv_if_le B.1 B.2.1 d ht (fun q => kt q H locs ls hP hS hl) (fun q => kf q H locs ls hP hS hl)
end XWR
end
section
def rmL (lv : Nat) : Room := { frames := lv, cells := 0, slots := 0, locals := 28 * lv }
/-- worlds at the same addresses -/
theorem xd_map {A : Nat → Prop} {ws ws' : va_W} (he : ws.map Prod.fst = ws'.map Prod.fst) (h : va_D A ws) : va_D A ws' := by
  have key : ∀ (k : Nat) (q : Nat × va_E), ws'[k]? = some q → ∃ q0, ws[k]? = some q0 ∧ q0.1 = q.1 := by
    intro k q hk
    have h1 : (ws'.map Prod.fst)[k]? = some q.1 := by rw [List.getElem?_map, hk]; rfl
    rw [← he, List.getElem?_map] at h1
    cases hw : ws[k]? with
    | none => rw [hw] at h1; cases h1
    | some q0 => rw [hw] at h1; exact ⟨q0, rfl, Option.some.inj h1⟩
  refine ⟨fun i j p q hi hj hpq => ?_, fun k q hk => ?_⟩
  · obtain ⟨p0, a1, a2⟩ := key i p hi
    obtain ⟨q0, b1, b2⟩ := key j q hj
    exact h.1 i j p0 q0 a1 b1 (by rw [a2, b2, hpq])
  · obtain ⟨q0, a1, a2⟩ := key k q hk
    rw [← a2]
    exact h.2 k q0 a1
/-! the walking rows of class RX0 -/
def xaF (h : Nat → Nat) (σ : Sg) : List Value := [.int (σ 0 0), .ref (h 1), .ref (h 2), .ref (h 3), .ref (h 4), .ref (h 5), .int (σ 0 6), .int (σ 0 7), .int (σ 0 8), .ref (h 9), .ref (h 10), .ref (h 11), .int (σ 0 12), .int (σ 0 13), .int (σ 0 14), .ref (h 15), .ref (h 16), .ref (h 17), .int (σ 0 18), .int (σ 0 19), .ref (h 20)]
def xaW (h : Nat → Nat) (d : Nat → ClassId) (σ : Sg) : va_W := [(h 0, .inr (0, xaF h σ)), (h 1, .inl (d 1, 40, .inl (σ 1))), (h 2, .inl (d 2, 40, .inl (σ 2))), (h 3, .inl (d 3, 40, .inl (σ 3))), (h 4, .inl (d 4, 40, .inl (σ 4))), (h 5, .inl (d 5, 6, .inl (σ 5))), (h 9, .inl (d 9, 560, .inl (σ 9))), (h 10, .inl (d 10, 560, .inl (σ 10))), (h 11, .inl (d 11, 16, .inl (σ 11))), (h 15, .inl (d 15, 4, .inl (σ 15))), (h 16, .inl (d 16, 4, .inl (σ 16))), (h 17, .inl (d 17, 16, .inl (σ 17))), (h 20, .inl (d 20, 64, .inl (σ 20)))]
def xaT (d : Nat → ClassId) : List (ClassId × FieldType) := [(d 1, .byte), (d 2, .int), (d 3, .byte), (d 4, .byte), (d 5, .int), (d 9, .byte), (d 10, .int), (d 11, .byte), (d 15, .byte), (d 16, .short), (d 17, .int), (d 20, .int)]
def PA (D : va_G) (h : Nat → Nat) (d : Nat → ClassId) (σ : Sg) (H : Heap) : Prop := va_P D vwCl (xaW h d σ) H
theorem xa_addr (h : Nat → Nat) (d : Nat → ClassId) (σ τ : Sg) : (xaW h d σ).map Prod.fst = (xaW h d τ).map Prod.fst := rfl
theorem xa_f0 (h : Nat → Nat) (d : Nat → ClassId) (σ : Sg) (v : Int32) : (xaW h d σ).set 0 (h 0, .inr (0, (xaF h σ).set 0 (.int v))) = xaW h d (su σ 0 0 v) := rfl
theorem xa_f6 (h : Nat → Nat) (d : Nat → ClassId) (σ : Sg) (v : Int32) : (xaW h d σ).set 0 (h 0, .inr (0, (xaF h σ).set 6 (.int v))) = xaW h d (su σ 0 6 v) := rfl
theorem xa_f7 (h : Nat → Nat) (d : Nat → ClassId) (σ : Sg) (v : Int32) : (xaW h d σ).set 0 (h 0, .inr (0, (xaF h σ).set 7 (.int v))) = xaW h d (su σ 0 7 v) := rfl
theorem xa_f8 (h : Nat → Nat) (d : Nat → ClassId) (σ : Sg) (v : Int32) : (xaW h d σ).set 0 (h 0, .inr (0, (xaF h σ).set 8 (.int v))) = xaW h d (su σ 0 8 v) := rfl
theorem xa_f12 (h : Nat → Nat) (d : Nat → ClassId) (σ : Sg) (v : Int32) : (xaW h d σ).set 0 (h 0, .inr (0, (xaF h σ).set 12 (.int v))) = xaW h d (su σ 0 12 v) := rfl
theorem xa_f13 (h : Nat → Nat) (d : Nat → ClassId) (σ : Sg) (v : Int32) : (xaW h d σ).set 0 (h 0, .inr (0, (xaF h σ).set 13 (.int v))) = xaW h d (su σ 0 13 v) := rfl
theorem xa_f14 (h : Nat → Nat) (d : Nat → ClassId) (σ : Sg) (v : Int32) : (xaW h d σ).set 0 (h 0, .inr (0, (xaF h σ).set 14 (.int v))) = xaW h d (su σ 0 14 v) := rfl
theorem xa_f18 (h : Nat → Nat) (d : Nat → ClassId) (σ : Sg) (v : Int32) : (xaW h d σ).set 0 (h 0, .inr (0, (xaF h σ).set 18 (.int v))) = xaW h d (su σ 0 18 v) := rfl
theorem xa_f19 (h : Nat → Nat) (d : Nat → ClassId) (σ : Sg) (v : Int32) : (xaW h d σ).set 0 (h 0, .inr (0, (xaF h σ).set 19 (.int v))) = xaW h d (su σ 0 19 v) := rfl
theorem xa_s1 (h : Nat → Nat) (d : Nat → ClassId) (σ : Sg) (j : Nat) (v : Int32) : (xaW h d σ).set 1 (h 1, .inl (d 1, 40, .inl (upd (σ 1) j v))) = xaW h d (su σ 1 j v) := rfl
theorem xa_s2 (h : Nat → Nat) (d : Nat → ClassId) (σ : Sg) (j : Nat) (v : Int32) : (xaW h d σ).set 2 (h 2, .inl (d 2, 40, .inl (upd (σ 2) j v))) = xaW h d (su σ 2 j v) := rfl
theorem xa_s3 (h : Nat → Nat) (d : Nat → ClassId) (σ : Sg) (j : Nat) (v : Int32) : (xaW h d σ).set 3 (h 3, .inl (d 3, 40, .inl (upd (σ 3) j v))) = xaW h d (su σ 3 j v) := rfl
theorem xa_s4 (h : Nat → Nat) (d : Nat → ClassId) (σ : Sg) (j : Nat) (v : Int32) : (xaW h d σ).set 4 (h 4, .inl (d 4, 40, .inl (upd (σ 4) j v))) = xaW h d (su σ 4 j v) := rfl
theorem xa_s5 (h : Nat → Nat) (d : Nat → ClassId) (σ : Sg) (j : Nat) (v : Int32) : (xaW h d σ).set 5 (h 5, .inl (d 5, 6, .inl (upd (σ 5) j v))) = xaW h d (su σ 5 j v) := rfl
theorem xa_s9 (h : Nat → Nat) (d : Nat → ClassId) (σ : Sg) (j : Nat) (v : Int32) : (xaW h d σ).set 6 (h 9, .inl (d 9, 560, .inl (upd (σ 9) j v))) = xaW h d (su σ 9 j v) := rfl
theorem xa_s10 (h : Nat → Nat) (d : Nat → ClassId) (σ : Sg) (j : Nat) (v : Int32) : (xaW h d σ).set 7 (h 10, .inl (d 10, 560, .inl (upd (σ 10) j v))) = xaW h d (su σ 10 j v) := rfl
theorem xa_s11 (h : Nat → Nat) (d : Nat → ClassId) (σ : Sg) (j : Nat) (v : Int32) : (xaW h d σ).set 8 (h 11, .inl (d 11, 16, .inl (upd (σ 11) j v))) = xaW h d (su σ 11 j v) := rfl
theorem xa_s15 (h : Nat → Nat) (d : Nat → ClassId) (σ : Sg) (j : Nat) (v : Int32) : (xaW h d σ).set 9 (h 15, .inl (d 15, 4, .inl (upd (σ 15) j v))) = xaW h d (su σ 15 j v) := rfl
theorem xa_s16 (h : Nat → Nat) (d : Nat → ClassId) (σ : Sg) (j : Nat) (v : Int32) : (xaW h d σ).set 10 (h 16, .inl (d 16, 4, .inl (upd (σ 16) j v))) = xaW h d (su σ 16 j v) := rfl
theorem xa_s17 (h : Nat → Nat) (d : Nat → ClassId) (σ : Sg) (j : Nat) (v : Int32) : (xaW h d σ).set 11 (h 17, .inl (d 17, 16, .inl (upd (σ 17) j v))) = xaW h d (su σ 17 j v) := rfl
theorem xa_s20 (h : Nat → Nat) (d : Nat → ClassId) (σ : Sg) (j : Nat) (v : Int32) : (xaW h d σ).set 12 (h 20, .inl (d 20, 64, .inl (upd (σ 20) j v))) = xaW h d (su σ 20 j v) := rfl
/-- what a method of this class ends with -/
def xaQ (ret : Option FieldType) (post : Option Int32 → Sg → Prop) (B : Sg → State → Prop) (A : Nat → Prop) : Array Value → State → Outcome → State → Prop := match ret with
  | none => va_Qv (fun u => post none u) B A
  | some _ => va_Qi (fun r u => post (some r) u) B A
/-- THE CONTRACT of a method of this class: called with the arguments 'as' on an object that holds σ it returns, with the answer and the state that 'post' says; nothing else changes -/
def XA (lv : Nat) (y : MethodName) (cc : ByteArray) (nL : Nat) (ret : Option FieldType) (as : List Value) (σ : Sg) (post : Option Int32 → Sg → Prop) : Prop :=
  ∀ (l : Launch) (dC : Nat → ClassId) (dI : Nat → Nat → Nat) (h : Nat → Nat) (d : Nat → ClassId) (sz : Nat), Met l y (ws_ y cc nL ret) (rmL lv) (va_Pc (.ref (h 0) :: as) (fun U => U.heap.size = sz ∧ va_P (dC, dI) vwCl (xaW h d σ) U.heap ∧ va_K (dC, dI) vwCl (xaT d) U ∧ va_D (fun _ => True) (xaW h d σ)))
    (xaQ ret post (fun u t => va_P (dC, dI) vwCl (xaW h d u) t.heap ∧ va_K (dC, dI) vwCl (xaT d) t ∧ va_D (va_A (xaW h d σ) sz) (xaW h d u)) (va_A (xaW h d σ) sz)) 0 0 (va_A (xaW h d σ) sz)
/-- what a method's body stands on -/
def CA (X : CX) (cc : ByteArray) (nL : Nat) (ret : Option FieldType) (lv : Nat) (D : va_G) (h : Nat → Nat) (d : Nat → ClassId) (post : Option Int32 → Sg → Prop) : Prop :=
  Bx X cc nL ∧ X.2.1.2.2.2.2.maxLocals = nL ∧ X.1.2.2.2.2.vm.findClass RX0 = some X.2.1.1.cls ∧ (∀ w ∈ lw_all, w.before X.2.1.2.1 X.1.2.2.2.2 = true) ∧ va_K D vwCl (xaT d) X.1.2.2.2.2 ∧ (∀ τ, va_D X.2.2.2.1 (xaW h d τ)) ∧ (∀ q : Nat, X.1.2.2.2.2.heap.size ≤ q → X.2.2.2.1 q) ∧ X.1.2.2.2.1 = rmL lv ∧ (X.2.2.2.2.2.1 = 0 ∧ X.2.2.2.2.2.2 = 0) ∧
  (∀ ty, ret = some ty → ∀ (r : Int32) (τ : Sg) (pc : Nat) (L : List (Nat × Value)), post (some r) τ → narrow ty (.int r) = .int r → decode cc pc = .ok (.ireturn, 1) → XW X (PA D h d τ) pc L [.int r]) ∧
  (ret = none → ∀ (τ : Sg) (pc : Nat) (L : List (Nat × Value)), post none τ → decode cc pc = .ok (.return_, 1) → XW X (PA D h d τ) pc L [])
set_option maxHeartbeats 4000000 in
theorem xa_of {lv : Nat} {y : MethodName} {cc : ByteArray} {nL : Nat} {ret : Option FieldType} {as : List Value} {σ : Sg} {post : Option Int32 → Sg → Prop} (hy : plainName y.cls = true) (hyc : y.cls = RX0) (hL : ∀ a : Nat, (lg_sl (.ref a :: as)).length ≤ nL) (hcat : ∀ a : Nat, ∀ q ∈ lv_args 0 (.ref a :: as), q.2.category = 1)
    (body : ∀ (X : CX) (D : va_G) (h : Nat → Nat) (d : Nat → ClassId), CA X cc nL ret lv D h d post → XW X (PA D h d σ) 0 (lv_args 0 (.ref (h 0) :: as)) []) : XA lv y cc nL ret as σ post := by
  intro l dC dI h d sz
  refine Met.ofW (cc := cc) (maxL := nL) (ret := ret) hy rfl ?_
  intro p e s m args below meth c s₁ B hml hv
  obtain ⟨rfl, hsz, hP, hK, hD0⟩ := hv
  have hx := B.exec
  have hb := B.bytes
  have hr := B.returns
  have hts := atoms_spec (ws := ws_ y cc nL ret) B.pre
  have hts : ∀ w ∈ lw_all, w.before _ s = true := fun w h => hts w (List.mem_cons_of_mem _ h)
  have hown : s.vm.findClass y.cls = some m.cls := findClass_of_methodNamed B.named
  rw [hyc] at hown
  have hlocks := B.notSynchronized
  subst hsz
  have hD : ∀ τ, va_D (va_A (xaW h d σ) s.heap.size) (xaW h d τ) := fun τ => xd_map (xa_addr h d σ τ) (hD0.self (sz := s.heap.size))
  generalize hAe : va_A (xaW h d σ) s.heap.size = A at hD ⊢
  have hA : ∀ q : Nat, s.heap.size ≤ q → A q := fun q h => by rw [← hAe]; exact Or.inr h
  have hl := lv_entry (.ref (h 0) :: as) (n := nL) (hL _)
  rw [lg_entry_eq]
  generalize (lg_sl (.ref (h 0) :: as) ++ List.replicate (nL - (lg_sl (.ref (h 0) :: as)).length) Slot.unset).toArray = ls at hl ⊢
  refine body ((p, l, e, (headSpec (ws_ y cc nL ret) (rmL lv)).room, s), (m, (.ref (h 0) :: as).toArray, below, meth, c), (nL, A, MQ below (xaQ ret post (fun u t => va_P (dC, dI) vwCl (xaW h d u) t.heap ∧ va_K (dC, dI) vwCl (xaT d) t ∧ va_D A (xaW h d u)) A) (.ref (h 0) :: as).toArray s 0 0 A, 0, 0)) (dC, dI) h d ⟨⟨hx, hb, rfl⟩, hml, hown, hts, hK, hD, hA, rfl, ⟨rfl, rfl⟩, ?_, ?_⟩ s.heap [] ls hP va_S.rf (lh_of hl (hcat _))
  · intro ty hret r τ pc L hpost hn hdec H locs ls2 hP2 hS2 hl2
    subst hret
    exact W.zret (v := r) hx hb hr hn (fun t ht hW => ⟨⟨r, τ, rfl, hpost, by rw [ht]; exact hP2, va_K.moved hW.alike hK, hD τ⟩, hS2.F ht⟩) hS2.2.2 hdec
  · intro hret τ pc L hpost hdec H locs ls2 hP2 hS2 hl2
    subst hret
    exact W.vret hx hb hr (fun t ht hW => ⟨⟨τ, rfl, hpost, by rw [ht]; exact hP2, va_K.moved hW.alike hK, hD τ⟩, hS2.F ht⟩) hS2.2.2 hdec
section AR
variable {X : CX} {cc : ByteArray} {nL : Nat} {ret : Option FieldType} {lv : Nat} {D : va_G} {h : Nat → Nat} {d : Nat → ClassId} {post : Option Int32 → Sg → Prop} {σ : Sg} {pc : Nat} {L : List (Nat × Value)} {rest : List Value}
theorem xa_iret (C : CA X cc nL ret lv D h d post) {ty : FieldType} (hr : ret = some ty) {r : Int32} (hn : narrow ty (.int r) = .int r) (dd : decode cc pc = .ok (.ireturn, 1)) (hp : post (some r) σ) : XW X (PA D h d σ) pc L [.int r] := C.2.2.2.2.2.2.2.2.2.1 ty hr r σ pc L hp hn dd
theorem xa_vret (C : CA X cc nL ret lv D h d post) (hr : ret = none) (dd : decode cc pc = .ok (.return_, 1)) (hp : post none σ) : XW X (PA D h d σ) pc L [] := C.2.2.2.2.2.2.2.2.2.2 hr σ pc L hp dd
/-- a field that holds an array -/
theorem xa_getA (C : CA X cc nL ret lv D h d post) (k : Nat) {index : Nat} (hk : k < 21) (hv : (xaF h σ)[k]? = some (.ref (h k))) (hl : Cond.fieldLink RX0 index (TX0 k).1 (TX0 k).2.1 (TX0 k).2.2.1 ∈ lw_all) (dd : decode cc pc = .ok (.getfield index, 3)) (kk : XW X (PA D h d σ) (pc + 3) L (.ref (h k) :: rest)) : XW X (PA D h d σ) pc L (.ref (h 0) :: rest) := by
  intro H locs ls hP hS hL
  obtain ⟨⟨hx, hb, hnL⟩, hml, hown, hts, hK, hD, hA, hR, ⟨hc0, hs0⟩, -, -⟩ := C
  exact va_get (D := D) (ci := 0) (C := RX0) (T := TX0) (N := 21) hx hb hts in_X0 hown hK hP 0 rfl rfl k hk (hts _ hl) (fun _ h9 => h9) hv dd (kk H locs ls hP hS hL)
/-- a whole number's field -/
theorem xa_getS (C : CA X cc nL ret lv D h d post) (k : Nat) {index : Nat} {z : Int32} (hk : k < 21) (hv : (xaF h σ)[k]? = some (.int (σ 0 k))) (hl : Cond.fieldLink RX0 index (TX0 k).1 (TX0 k).2.1 (TX0 k).2.2.1 ∈ lw_all) (dd : decode cc pc = .ok (.getfield index, 3)) (hz : σ 0 k = z) (kk : XW X (PA D h d σ) (pc + 3) L (.int z :: rest)) : XW X (PA D h d σ) pc L (.ref (h 0) :: rest) := by
  intro H locs ls hP hS hL
  obtain ⟨⟨hx, hb, hnL⟩, hml, hown, hts, hK, hD, hA, hR, ⟨hc0, hs0⟩, -, -⟩ := C
  subst hz
  exact va_get (D := D) (ci := 0) (C := RX0) (T := TX0) (N := 21) hx hb hts in_X0 hown hK hP 0 rfl rfl k hk (hts _ hl) (fun _ h9 => h9) hv dd (kk H locs ls hP hS hL)
theorem xa_put (C : CA X cc nL ret lv D h d post) (k : Nat) {index : Nat} {ty : FieldType} {v : Int32} (hk : k < 21) (hset : (xaW h d σ).set 0 (h 0, .inr (0, (xaF h σ).set k (.int v))) = xaW h d (su σ 0 k v)) (hl : Cond.fieldLink RX0 index (TX0 k).1 (TX0 k).2.1 (TX0 k).2.2.1 ∈ lw_all) (hfin : (TX0 k).2.2.2 = false) (hty : parseFieldDescriptor (TX0 k).2.2.1 = some ty) (hn : narrow ty (.int v) = .int v) (hf : fits ty (.int v) = true) (dd : decode cc pc = .ok (.putfield index, 3)) (kk : XW X (PA D h d (su σ 0 k v)) (pc + 3) L rest) : XW X (PA D h d σ) pc L (.int v :: .ref (h 0) :: rest) := by
  intro H locs ls hP hS hL
  obtain ⟨⟨hx, hb, hnL⟩, hml, hown, hts, hK, hD, hA, hR, ⟨hc0, hs0⟩, -, -⟩ := C
  refine va_put (D := D) (ci := 0) (v := .int v) (ty := ty) (C := RX0) (T := TX0) (N := 21) hx hb hts in_X0 tyX0 tyX0_ok nmX0 hown hK hP (hD σ) hS 0 rfl rfl k hk (hts _ hl) (fun _ h9 => h9) hfin hty hn hf hk dd (fun H1 locs1 hP1 hD1 hS1 => ?_)
  rw [hset] at hP1
  exact kk H1 locs1 ls hP1 hS1 hL
theorem xa_iald (C : CA X cc nL ret lv D h d post) (q t k : Nat) {n : Nat} (ha : (xaW h d σ)[q]? = some (h k, .inl (d k, n, .inl (σ k)))) (ht : (xaT d)[t]? = some (d k, .int)) (hn : n < 2 ^ 31) (dd : decode cc pc = .ok (.iaload, 1)) (j : Nat) {i z : Int32} (hi : i = nI j) (hj : j < n) (hz : σ k j = z) (kk : XW X (PA D h d σ) (pc + 1) L (.int z :: rest)) : XW X (PA D h d σ) pc L (.int i :: .ref (h k) :: rest) := by
  intro H locs ls hP hS hL
  obtain ⟨⟨hx, hb, hnL⟩, hml, hown, hts, hK, hD, hA, hR, ⟨hc0, hs0⟩, -, -⟩ := C
  subst hi
  subst hz
  refine va_iald hx hb hK hP q t ha ht (vp_in_nI hj hn) dd ?_
  rw [nI_clamp (Nat.lt_trans hj hn)]
  exact kk H locs ls hP hS hL
theorem xa_iast (C : CA X cc nL ret lv D h d post) (q t k : Nat) {n : Nat} (ha : (xaW h d σ)[q]? = some (h k, .inl (d k, n, .inl (σ k)))) (ht : (xaT d)[t]? = some (d k, .int)) (hset : ∀ (j : Nat) (v : Int32), (xaW h d σ).set q (h k, .inl (d k, n, .inl (upd (σ k) j v))) = xaW h d (su σ k j v)) (hn : n < 2 ^ 31) (dd : decode cc pc = .ok (.iastore, 1)) (j : Nat) {i x : Int32} (hi : i = nI j) (hj : j < n) (kk : XW X (PA D h d (su σ k j x)) (pc + 1) L rest) : XW X (PA D h d σ) pc L (.int x :: .int i :: .ref (h k) :: rest) := by
  intro H locs ls hP hS hL
  obtain ⟨⟨hx, hb, hnL⟩, hml, hown, hts, hK, hD, hA, hR, ⟨hc0, hs0⟩, -, -⟩ := C
  subst hi
  refine va_iast hx hb hK hP (hD σ) hS q t ha ht (vp_in_nI hj hn) dd (fun H1 locs1 hP1 hD1 hS1 => ?_)
  rw [nI_clamp (Nat.lt_trans hj hn), hset] at hP1
  exact kk H1 locs1 ls hP1 hS1 hL
theorem xa_bald (C : CA X cc nL ret lv D h d post) (q t k : Nat) {n : Nat} (ha : (xaW h d σ)[q]? = some (h k, .inl (d k, n, .inl (σ k)))) (ht : (xaT d)[t]? = some (d k, .byte)) (hn : n < 2 ^ 31) (dd : decode cc pc = .ok (.baload, 1)) (j : Nat) {i z : Int32} (hi : i = nI j) (hj : j < n) (hz : σ k j = z) (kk : XW X (PA D h d σ) (pc + 1) L (.int z :: rest)) : XW X (PA D h d σ) pc L (.int i :: .ref (h k) :: rest) := by
  intro H locs ls hP hS hL
  obtain ⟨⟨hx, hb, hnL⟩, hml, hown, hts, hK, hD, hA, hR, ⟨hc0, hs0⟩, -, -⟩ := C
  subst hi
  subst hz
  refine va_bald hx hb hK hP q t ha ht (vp_in_nI hj hn) dd ?_
  rw [nI_clamp (Nat.lt_trans hj hn)]
  exact kk H locs ls hP hS hL
theorem xa_bast (C : CA X cc nL ret lv D h d post) (q t k : Nat) {n : Nat} (ha : (xaW h d σ)[q]? = some (h k, .inl (d k, n, .inl (σ k)))) (ht : (xaT d)[t]? = some (d k, .byte)) (hset : ∀ (j : Nat) (v : Int32), (xaW h d σ).set q (h k, .inl (d k, n, .inl (upd (σ k) j v))) = xaW h d (su σ k j v)) (hn : n < 2 ^ 31) (dd : decode cc pc = .ok (.bastore, 1)) (j : Nat) {i x w : Int32} (hi : i = nI j) (hj : j < n) (hw : vp_nar .byte x = w) (kk : XW X (PA D h d (su σ k j w)) (pc + 1) L rest) : XW X (PA D h d σ) pc L (.int x :: .int i :: .ref (h k) :: rest) := by
  intro H locs ls hP hS hL
  obtain ⟨⟨hx, hb, hnL⟩, hml, hown, hts, hK, hD, hA, hR, ⟨hc0, hs0⟩, -, -⟩ := C
  subst hi
  refine va_bast hx hb hK hP (hD σ) hS q t ha ht (vp_in_nI hj hn) dd (fun H1 locs1 hP1 hD1 hS1 => ?_)
  rw [hw, nI_clamp (Nat.lt_trans hj hn), hset] at hP1
  exact kk H1 locs1 ls hP1 hS1 hL
theorem xa_sald (C : CA X cc nL ret lv D h d post) (q t k : Nat) {n : Nat} (ha : (xaW h d σ)[q]? = some (h k, .inl (d k, n, .inl (σ k)))) (ht : (xaT d)[t]? = some (d k, .short)) (hn : n < 2 ^ 31) (dd : decode cc pc = .ok (.saload, 1)) (j : Nat) {i z : Int32} (hi : i = nI j) (hj : j < n) (hz : σ k j = z) (kk : XW X (PA D h d σ) (pc + 1) L (.int z :: rest)) : XW X (PA D h d σ) pc L (.int i :: .ref (h k) :: rest) := by
  intro H locs ls hP hS hL
  obtain ⟨⟨hx, hb, hnL⟩, hml, hown, hts, hK, hD, hA, hR, ⟨hc0, hs0⟩, -, -⟩ := C
  subst hi
  subst hz
  refine va_sald hx hb hK hP q t ha ht (vp_in_nI hj hn) dd ?_
  rw [nI_clamp (Nat.lt_trans hj hn)]
  exact kk H locs ls hP hS hL
theorem xa_sast (C : CA X cc nL ret lv D h d post) (q t k : Nat) {n : Nat} (ha : (xaW h d σ)[q]? = some (h k, .inl (d k, n, .inl (σ k)))) (ht : (xaT d)[t]? = some (d k, .short)) (hset : ∀ (j : Nat) (v : Int32), (xaW h d σ).set q (h k, .inl (d k, n, .inl (upd (σ k) j v))) = xaW h d (su σ k j v)) (hn : n < 2 ^ 31) (dd : decode cc pc = .ok (.sastore, 1)) (j : Nat) {i x w : Int32} (hi : i = nI j) (hj : j < n) (hw : vp_nar .short x = w) (kk : XW X (PA D h d (su σ k j w)) (pc + 1) L rest) : XW X (PA D h d σ) pc L (.int x :: .int i :: .ref (h k) :: rest) := by
  intro H locs ls hP hS hL
  obtain ⟨⟨hx, hb, hnL⟩, hml, hown, hts, hK, hD, hA, hR, ⟨hc0, hs0⟩, -, -⟩ := C
  subst hi
  refine va_sast hx hb hK hP (hD σ) hS q t ha ht (vp_in_nI hj hn) dd (fun H1 locs1 hP1 hD1 hS1 => ?_)
  rw [hw, nI_clamp (Nat.lt_trans hj hn), hset] at hP1
  exact kk H1 locs1 ls hP1 hS1 hL
set_option maxHeartbeats 4000000 in
theorem xa_calli (C : CA X cc nL ret lv D h d post) {lv' : Nat} {y : MethodName} {cc' : ByteArray} {nL' idx nA : Nat} {ty : FieldType} {as st : List Value} {post' : Option Int32 → Sg → Prop} (hG : GoodIn lw_all (wsV RX0 idx RX0 y (ws_ y cc' nL' (some ty)))) (hd : y.cls = RX0 ∧ y.cls ≠ "java/lang/invoke/MethodHandle" ∧ y.cls ≠ "java/lang/invoke/VarHandle" ∧ (parseMethodDescriptor y.desc).map (fun d => d.parameters.length) = some nA) (hlv : lv' + 1 ≤ lv) (hn : nL' ≤ 9) (hst : st = as.reverse ++ .ref (h 0) :: rest) (hro : (rest.map fun v => v.category).sum ≤ 8) (dd : decode cc pc = .ok (.invokevirtual idx, 3)) (M : XA lv' y cc' nL' (some ty) as σ post') (hlen : as.length = nA) (kk : ∀ (r : Int32) (τ : Sg), post' (some r) τ → XW X (PA D h d τ) (pc + 3) L (.int r :: rest)) : XW X (PA D h d σ) pc L st := by
  intro H locs ls hP hS hL
  obtain ⟨⟨hx, hb, hnL⟩, hml, hown, hts, hK, hD, hA, hR, ⟨hc0, hs0⟩, -, -⟩ := C
  subst hst
  subst hlen
  have hFc : ∀ q, va_A (xaW h d σ) H.size q → X.2.2.2.1 q := by
    intro q hq
    rcases hq with ⟨k, e, hq⟩ | hq
    · exact (hD σ).2 k _ hq
    · exact hA q (Nat.le_trans hS.1 hq)
  have hRf : (rmL lv').frames + 1 ≤ X.1.2.2.2.1.frames := by rw [hR]; exact hlv
  have hRl : 8 + (nL' + 11) + (rmL lv').locals ≤ X.1.2.2.2.1.locals := by
    rw [hR]
    show 8 + (nL' + 11) + 28 * lv' ≤ 28 * lv
    omega
  refine va_calli (va_runV (As := as) (rest := rest) ⟨hx, hb, hml, hown, hts⟩ (M _ D.1 D.2 h d H.size) (cwV as.length hts hG rfl rfl rfl hd ⟨hRf, hRl⟩) ⟨fun a U g mk q => by obtain ⟨q0, q1, qP, qK, qD⟩ := q; exact ⟨q0, q1, qP, va_K.moved (u := U) (U := U.calling g mk a) (Vm.Alike.refl U.vm) qK, qD⟩, va_recv hK hP (ci := 0) (q0 := 0) rfl rfl, fun U hU hW => ⟨rfl, by rw [hU], by rw [hU]; exact hP, va_K.moved hW.alike hK, (hD σ).weaken (fun _ _ _ _ => trivial)⟩⟩ rfl rfl (hL.1.trans hnL) rfl (lv_room hro) dd ⟨by rw [hc0, hR]; exact Nat.le_refl _, by rw [hs0, hR]; exact Nat.le_refl _⟩) hS (fun q _ h => hFc q h) hFc (fun r u t H1 locs1 ht hvm hw hB hz1 hk1 hS1 => ?_)
  refine kk r u hw H1 locs1 ls ?_ hS1 hL
  rw [← ht]
  exact hB.1
set_option maxHeartbeats 4000000 in
theorem xa_callv (C : CA X cc nL ret lv D h d post) {lv' : Nat} {y : MethodName} {cc' : ByteArray} {nL' idx nA : Nat} {as st : List Value} {post' : Option Int32 → Sg → Prop} (hG : GoodIn lw_all (wsV RX0 idx RX0 y (ws_ y cc' nL' none))) (hd : y.cls = RX0 ∧ y.cls ≠ "java/lang/invoke/MethodHandle" ∧ y.cls ≠ "java/lang/invoke/VarHandle" ∧ (parseMethodDescriptor y.desc).map (fun d => d.parameters.length) = some nA) (hlv : lv' + 1 ≤ lv) (hn : nL' ≤ 9) (hst : st = as.reverse ++ .ref (h 0) :: rest) (hro : (rest.map fun v => v.category).sum ≤ 8) (dd : decode cc pc = .ok (.invokevirtual idx, 3)) (M : XA lv' y cc' nL' none as σ post') (hlen : as.length = nA) (kk : ∀ (τ : Sg), post' none τ → XW X (PA D h d τ) (pc + 3) L rest) : XW X (PA D h d σ) pc L st := by
  intro H locs ls hP hS hL
  obtain ⟨⟨hx, hb, hnL⟩, hml, hown, hts, hK, hD, hA, hR, ⟨hc0, hs0⟩, -, -⟩ := C
  subst hst
  subst hlen
  have hFc : ∀ q, va_A (xaW h d σ) H.size q → X.2.2.2.1 q := by
    intro q hq
    rcases hq with ⟨k, e, hq⟩ | hq
    · exact (hD σ).2 k _ hq
    · exact hA q (Nat.le_trans hS.1 hq)
  have hRf : (rmL lv').frames + 1 ≤ X.1.2.2.2.1.frames := by rw [hR]; exact hlv
  have hRl : 8 + (nL' + 11) + (rmL lv').locals ≤ X.1.2.2.2.1.locals := by
    rw [hR]
    show 8 + (nL' + 11) + 28 * lv' ≤ 28 * lv
    omega
  refine va_callv (va_runV (As := as) (rest := rest) ⟨hx, hb, hml, hown, hts⟩ (M _ D.1 D.2 h d H.size) (cwV as.length hts hG rfl rfl rfl hd ⟨hRf, hRl⟩) ⟨fun a U g mk q => by obtain ⟨q0, q1, qP, qK, qD⟩ := q; exact ⟨q0, q1, qP, va_K.moved (u := U) (U := U.calling g mk a) (Vm.Alike.refl U.vm) qK, qD⟩, va_recv hK hP (ci := 0) (q0 := 0) rfl rfl, fun U hU hW => ⟨rfl, by rw [hU], by rw [hU]; exact hP, va_K.moved hW.alike hK, (hD σ).weaken (fun _ _ _ _ => trivial)⟩⟩ rfl rfl (hL.1.trans hnL) rfl (lv_room hro) dd ⟨by rw [hc0, hR]; exact Nat.le_refl _, by rw [hs0, hR]; exact Nat.le_refl _⟩) hS (fun q _ h => hFc q h) hFc (fun u t H1 locs1 ht hvm hw hB hz1 hk1 hS1 => ?_)
  refine kk u hw H1 locs1 ls ?_ hS1 hL
  rw [← ht]
  exact hB.1
end AR
/-! the walking rows of class RX1 -/
def xbF (h : Nat → Nat) (σ : Sg) : List Value := [.int (σ 0 0), .ref (h 1), .ref (h 2), .ref (h 3), .ref (h 4), .ref (h 5), .ref (h 6), .int (σ 0 7), .ref (h 8)]
def xbW (h : Nat → Nat) (d : Nat → ClassId) (σ : Sg) : va_W := [(h 0, .inr (1, xbF h σ)), (h 1, .inl (d 1, 40, .inl (σ 1))), (h 2, .inl (d 2, 40, .inl (σ 2))), (h 3, .inl (d 3, 40, .inl (σ 3))), (h 4, .inl (d 4, 40, .inl (σ 4))), (h 5, .inl (d 5, 6, .inl (σ 5))), (h 6, .inl (d 6, 64, .inl (σ 6))), (h 8, .inl (d 8, 40, .inl (σ 8)))]
def xbT (d : Nat → ClassId) : List (ClassId × FieldType) := [(d 1, .int), (d 2, .int), (d 3, .int), (d 4, .int), (d 5, .int), (d 6, .int), (d 8, .int)]
def PB (D : va_G) (h : Nat → Nat) (d : Nat → ClassId) (σ : Sg) (H : Heap) : Prop := va_P D vwCl (xbW h d σ) H
theorem xb_addr (h : Nat → Nat) (d : Nat → ClassId) (σ τ : Sg) : (xbW h d σ).map Prod.fst = (xbW h d τ).map Prod.fst := rfl
theorem xb_f0 (h : Nat → Nat) (d : Nat → ClassId) (σ : Sg) (v : Int32) : (xbW h d σ).set 0 (h 0, .inr (1, (xbF h σ).set 0 (.int v))) = xbW h d (su σ 0 0 v) := rfl
theorem xb_f7 (h : Nat → Nat) (d : Nat → ClassId) (σ : Sg) (v : Int32) : (xbW h d σ).set 0 (h 0, .inr (1, (xbF h σ).set 7 (.int v))) = xbW h d (su σ 0 7 v) := rfl
theorem xb_s1 (h : Nat → Nat) (d : Nat → ClassId) (σ : Sg) (j : Nat) (v : Int32) : (xbW h d σ).set 1 (h 1, .inl (d 1, 40, .inl (upd (σ 1) j v))) = xbW h d (su σ 1 j v) := rfl
theorem xb_s2 (h : Nat → Nat) (d : Nat → ClassId) (σ : Sg) (j : Nat) (v : Int32) : (xbW h d σ).set 2 (h 2, .inl (d 2, 40, .inl (upd (σ 2) j v))) = xbW h d (su σ 2 j v) := rfl
theorem xb_s3 (h : Nat → Nat) (d : Nat → ClassId) (σ : Sg) (j : Nat) (v : Int32) : (xbW h d σ).set 3 (h 3, .inl (d 3, 40, .inl (upd (σ 3) j v))) = xbW h d (su σ 3 j v) := rfl
theorem xb_s4 (h : Nat → Nat) (d : Nat → ClassId) (σ : Sg) (j : Nat) (v : Int32) : (xbW h d σ).set 4 (h 4, .inl (d 4, 40, .inl (upd (σ 4) j v))) = xbW h d (su σ 4 j v) := rfl
theorem xb_s5 (h : Nat → Nat) (d : Nat → ClassId) (σ : Sg) (j : Nat) (v : Int32) : (xbW h d σ).set 5 (h 5, .inl (d 5, 6, .inl (upd (σ 5) j v))) = xbW h d (su σ 5 j v) := rfl
theorem xb_s6 (h : Nat → Nat) (d : Nat → ClassId) (σ : Sg) (j : Nat) (v : Int32) : (xbW h d σ).set 6 (h 6, .inl (d 6, 64, .inl (upd (σ 6) j v))) = xbW h d (su σ 6 j v) := rfl
theorem xb_s8 (h : Nat → Nat) (d : Nat → ClassId) (σ : Sg) (j : Nat) (v : Int32) : (xbW h d σ).set 7 (h 8, .inl (d 8, 40, .inl (upd (σ 8) j v))) = xbW h d (su σ 8 j v) := rfl
/-- what a method of this class ends with -/
def xbQ (ret : Option FieldType) (post : Option Int32 → Sg → Prop) (B : Sg → State → Prop) (A : Nat → Prop) : Array Value → State → Outcome → State → Prop := match ret with
  | none => va_Qv (fun u => post none u) B A
  | some _ => va_Qi (fun r u => post (some r) u) B A
/-- THE CONTRACT of a method of this class: called with the arguments 'as' on an object that holds σ it returns, with the answer and the state that 'post' says; nothing else changes -/
def XB (lv : Nat) (y : MethodName) (cc : ByteArray) (nL : Nat) (ret : Option FieldType) (as : List Value) (σ : Sg) (post : Option Int32 → Sg → Prop) : Prop :=
  ∀ (l : Launch) (dC : Nat → ClassId) (dI : Nat → Nat → Nat) (h : Nat → Nat) (d : Nat → ClassId) (sz : Nat), Met l y (ws_ y cc nL ret) (rmL lv) (va_Pc (.ref (h 0) :: as) (fun U => U.heap.size = sz ∧ va_P (dC, dI) vwCl (xbW h d σ) U.heap ∧ va_K (dC, dI) vwCl (xbT d) U ∧ va_D (fun _ => True) (xbW h d σ)))
    (xbQ ret post (fun u t => va_P (dC, dI) vwCl (xbW h d u) t.heap ∧ va_K (dC, dI) vwCl (xbT d) t ∧ va_D (va_A (xbW h d σ) sz) (xbW h d u)) (va_A (xbW h d σ) sz)) 0 0 (va_A (xbW h d σ) sz)
/-- what a method's body stands on -/
def CB (X : CX) (cc : ByteArray) (nL : Nat) (ret : Option FieldType) (lv : Nat) (D : va_G) (h : Nat → Nat) (d : Nat → ClassId) (post : Option Int32 → Sg → Prop) : Prop :=
  Bx X cc nL ∧ X.2.1.2.2.2.2.maxLocals = nL ∧ X.1.2.2.2.2.vm.findClass RX1 = some X.2.1.1.cls ∧ (∀ w ∈ lw_all, w.before X.2.1.2.1 X.1.2.2.2.2 = true) ∧ va_K D vwCl (xbT d) X.1.2.2.2.2 ∧ (∀ τ, va_D X.2.2.2.1 (xbW h d τ)) ∧ (∀ q : Nat, X.1.2.2.2.2.heap.size ≤ q → X.2.2.2.1 q) ∧ X.1.2.2.2.1 = rmL lv ∧ (X.2.2.2.2.2.1 = 0 ∧ X.2.2.2.2.2.2 = 0) ∧
  (∀ ty, ret = some ty → ∀ (r : Int32) (τ : Sg) (pc : Nat) (L : List (Nat × Value)), post (some r) τ → narrow ty (.int r) = .int r → decode cc pc = .ok (.ireturn, 1) → XW X (PB D h d τ) pc L [.int r]) ∧
  (ret = none → ∀ (τ : Sg) (pc : Nat) (L : List (Nat × Value)), post none τ → decode cc pc = .ok (.return_, 1) → XW X (PB D h d τ) pc L [])
set_option maxHeartbeats 4000000 in
theorem xb_of {lv : Nat} {y : MethodName} {cc : ByteArray} {nL : Nat} {ret : Option FieldType} {as : List Value} {σ : Sg} {post : Option Int32 → Sg → Prop} (hy : plainName y.cls = true) (hyc : y.cls = RX1) (hL : ∀ a : Nat, (lg_sl (.ref a :: as)).length ≤ nL) (hcat : ∀ a : Nat, ∀ q ∈ lv_args 0 (.ref a :: as), q.2.category = 1)
    (body : ∀ (X : CX) (D : va_G) (h : Nat → Nat) (d : Nat → ClassId), CB X cc nL ret lv D h d post → XW X (PB D h d σ) 0 (lv_args 0 (.ref (h 0) :: as)) []) : XB lv y cc nL ret as σ post := by
  intro l dC dI h d sz
  refine Met.ofW (cc := cc) (maxL := nL) (ret := ret) hy rfl ?_
  intro p e s m args below meth c s₁ B hml hv
  obtain ⟨rfl, hsz, hP, hK, hD0⟩ := hv
  have hx := B.exec
  have hb := B.bytes
  have hr := B.returns
  have hts := atoms_spec (ws := ws_ y cc nL ret) B.pre
  have hts : ∀ w ∈ lw_all, w.before _ s = true := fun w h => hts w (List.mem_cons_of_mem _ h)
  have hown : s.vm.findClass y.cls = some m.cls := findClass_of_methodNamed B.named
  rw [hyc] at hown
  have hlocks := B.notSynchronized
  subst hsz
  have hD : ∀ τ, va_D (va_A (xbW h d σ) s.heap.size) (xbW h d τ) := fun τ => xd_map (xb_addr h d σ τ) (hD0.self (sz := s.heap.size))
  generalize hAe : va_A (xbW h d σ) s.heap.size = A at hD ⊢
  have hA : ∀ q : Nat, s.heap.size ≤ q → A q := fun q h => by rw [← hAe]; exact Or.inr h
  have hl := lv_entry (.ref (h 0) :: as) (n := nL) (hL _)
  rw [lg_entry_eq]
  generalize (lg_sl (.ref (h 0) :: as) ++ List.replicate (nL - (lg_sl (.ref (h 0) :: as)).length) Slot.unset).toArray = ls at hl ⊢
  refine body ((p, l, e, (headSpec (ws_ y cc nL ret) (rmL lv)).room, s), (m, (.ref (h 0) :: as).toArray, below, meth, c), (nL, A, MQ below (xbQ ret post (fun u t => va_P (dC, dI) vwCl (xbW h d u) t.heap ∧ va_K (dC, dI) vwCl (xbT d) t ∧ va_D A (xbW h d u)) A) (.ref (h 0) :: as).toArray s 0 0 A, 0, 0)) (dC, dI) h d ⟨⟨hx, hb, rfl⟩, hml, hown, hts, hK, hD, hA, rfl, ⟨rfl, rfl⟩, ?_, ?_⟩ s.heap [] ls hP va_S.rf (lh_of hl (hcat _))
  · intro ty hret r τ pc L hpost hn hdec H locs ls2 hP2 hS2 hl2
    subst hret
    exact W.zret (v := r) hx hb hr hn (fun t ht hW => ⟨⟨r, τ, rfl, hpost, by rw [ht]; exact hP2, va_K.moved hW.alike hK, hD τ⟩, hS2.F ht⟩) hS2.2.2 hdec
  · intro hret τ pc L hpost hdec H locs ls2 hP2 hS2 hl2
    subst hret
    exact W.vret hx hb hr (fun t ht hW => ⟨⟨τ, rfl, hpost, by rw [ht]; exact hP2, va_K.moved hW.alike hK, hD τ⟩, hS2.F ht⟩) hS2.2.2 hdec
section BR
variable {X : CX} {cc : ByteArray} {nL : Nat} {ret : Option FieldType} {lv : Nat} {D : va_G} {h : Nat → Nat} {d : Nat → ClassId} {post : Option Int32 → Sg → Prop} {σ : Sg} {pc : Nat} {L : List (Nat × Value)} {rest : List Value}
theorem xb_iret (C : CB X cc nL ret lv D h d post) {ty : FieldType} (hr : ret = some ty) {r : Int32} (hn : narrow ty (.int r) = .int r) (dd : decode cc pc = .ok (.ireturn, 1)) (hp : post (some r) σ) : XW X (PB D h d σ) pc L [.int r] := C.2.2.2.2.2.2.2.2.2.1 ty hr r σ pc L hp hn dd
theorem xb_vret (C : CB X cc nL ret lv D h d post) (hr : ret = none) (dd : decode cc pc = .ok (.return_, 1)) (hp : post none σ) : XW X (PB D h d σ) pc L [] := C.2.2.2.2.2.2.2.2.2.2 hr σ pc L hp dd
/-- a field that holds an array -/
theorem xb_getA (C : CB X cc nL ret lv D h d post) (k : Nat) {index : Nat} (hk : k < 9) (hv : (xbF h σ)[k]? = some (.ref (h k))) (hl : Cond.fieldLink RX1 index (TX1 k).1 (TX1 k).2.1 (TX1 k).2.2.1 ∈ lw_all) (dd : decode cc pc = .ok (.getfield index, 3)) (kk : XW X (PB D h d σ) (pc + 3) L (.ref (h k) :: rest)) : XW X (PB D h d σ) pc L (.ref (h 0) :: rest) := by
  intro H locs ls hP hS hL
  obtain ⟨⟨hx, hb, hnL⟩, hml, hown, hts, hK, hD, hA, hR, ⟨hc0, hs0⟩, -, -⟩ := C
  exact va_get (D := D) (ci := 1) (C := RX1) (T := TX1) (N := 9) hx hb hts in_X1 hown hK hP 0 rfl rfl k hk (hts _ hl) (fun _ h9 => h9) hv dd (kk H locs ls hP hS hL)
/-- a whole number's field -/
theorem xb_getS (C : CB X cc nL ret lv D h d post) (k : Nat) {index : Nat} {z : Int32} (hk : k < 9) (hv : (xbF h σ)[k]? = some (.int (σ 0 k))) (hl : Cond.fieldLink RX1 index (TX1 k).1 (TX1 k).2.1 (TX1 k).2.2.1 ∈ lw_all) (dd : decode cc pc = .ok (.getfield index, 3)) (hz : σ 0 k = z) (kk : XW X (PB D h d σ) (pc + 3) L (.int z :: rest)) : XW X (PB D h d σ) pc L (.ref (h 0) :: rest) := by
  intro H locs ls hP hS hL
  obtain ⟨⟨hx, hb, hnL⟩, hml, hown, hts, hK, hD, hA, hR, ⟨hc0, hs0⟩, -, -⟩ := C
  subst hz
  exact va_get (D := D) (ci := 1) (C := RX1) (T := TX1) (N := 9) hx hb hts in_X1 hown hK hP 0 rfl rfl k hk (hts _ hl) (fun _ h9 => h9) hv dd (kk H locs ls hP hS hL)
theorem xb_put (C : CB X cc nL ret lv D h d post) (k : Nat) {index : Nat} {ty : FieldType} {v : Int32} (hk : k < 9) (hset : (xbW h d σ).set 0 (h 0, .inr (1, (xbF h σ).set k (.int v))) = xbW h d (su σ 0 k v)) (hl : Cond.fieldLink RX1 index (TX1 k).1 (TX1 k).2.1 (TX1 k).2.2.1 ∈ lw_all) (hfin : (TX1 k).2.2.2 = false) (hty : parseFieldDescriptor (TX1 k).2.2.1 = some ty) (hn : narrow ty (.int v) = .int v) (hf : fits ty (.int v) = true) (dd : decode cc pc = .ok (.putfield index, 3)) (kk : XW X (PB D h d (su σ 0 k v)) (pc + 3) L rest) : XW X (PB D h d σ) pc L (.int v :: .ref (h 0) :: rest) := by
  intro H locs ls hP hS hL
  obtain ⟨⟨hx, hb, hnL⟩, hml, hown, hts, hK, hD, hA, hR, ⟨hc0, hs0⟩, -, -⟩ := C
  refine va_put (D := D) (ci := 1) (v := .int v) (ty := ty) (C := RX1) (T := TX1) (N := 9) hx hb hts in_X1 tyX1 tyX1_ok nmX1 hown hK hP (hD σ) hS 0 rfl rfl k hk (hts _ hl) (fun _ h9 => h9) hfin hty hn hf hk dd (fun H1 locs1 hP1 hD1 hS1 => ?_)
  rw [hset] at hP1
  exact kk H1 locs1 ls hP1 hS1 hL
theorem xb_iald (C : CB X cc nL ret lv D h d post) (q t k : Nat) {n : Nat} (ha : (xbW h d σ)[q]? = some (h k, .inl (d k, n, .inl (σ k)))) (ht : (xbT d)[t]? = some (d k, .int)) (hn : n < 2 ^ 31) (dd : decode cc pc = .ok (.iaload, 1)) (j : Nat) {i z : Int32} (hi : i = nI j) (hj : j < n) (hz : σ k j = z) (kk : XW X (PB D h d σ) (pc + 1) L (.int z :: rest)) : XW X (PB D h d σ) pc L (.int i :: .ref (h k) :: rest) := by
  intro H locs ls hP hS hL
  obtain ⟨⟨hx, hb, hnL⟩, hml, hown, hts, hK, hD, hA, hR, ⟨hc0, hs0⟩, -, -⟩ := C
  subst hi
  subst hz
  refine va_iald hx hb hK hP q t ha ht (vp_in_nI hj hn) dd ?_
  rw [nI_clamp (Nat.lt_trans hj hn)]
  exact kk H locs ls hP hS hL
theorem xb_iast (C : CB X cc nL ret lv D h d post) (q t k : Nat) {n : Nat} (ha : (xbW h d σ)[q]? = some (h k, .inl (d k, n, .inl (σ k)))) (ht : (xbT d)[t]? = some (d k, .int)) (hset : ∀ (j : Nat) (v : Int32), (xbW h d σ).set q (h k, .inl (d k, n, .inl (upd (σ k) j v))) = xbW h d (su σ k j v)) (hn : n < 2 ^ 31) (dd : decode cc pc = .ok (.iastore, 1)) (j : Nat) {i x : Int32} (hi : i = nI j) (hj : j < n) (kk : XW X (PB D h d (su σ k j x)) (pc + 1) L rest) : XW X (PB D h d σ) pc L (.int x :: .int i :: .ref (h k) :: rest) := by
  intro H locs ls hP hS hL
  obtain ⟨⟨hx, hb, hnL⟩, hml, hown, hts, hK, hD, hA, hR, ⟨hc0, hs0⟩, -, -⟩ := C
  subst hi
  refine va_iast hx hb hK hP (hD σ) hS q t ha ht (vp_in_nI hj hn) dd (fun H1 locs1 hP1 hD1 hS1 => ?_)
  rw [nI_clamp (Nat.lt_trans hj hn), hset] at hP1
  exact kk H1 locs1 ls hP1 hS1 hL
set_option maxHeartbeats 4000000 in
theorem xb_calli (C : CB X cc nL ret lv D h d post) {lv' : Nat} {y : MethodName} {cc' : ByteArray} {nL' idx nA : Nat} {ty : FieldType} {as st : List Value} {post' : Option Int32 → Sg → Prop} (hG : GoodIn lw_all (wsV RX1 idx RX1 y (ws_ y cc' nL' (some ty)))) (hd : y.cls = RX1 ∧ y.cls ≠ "java/lang/invoke/MethodHandle" ∧ y.cls ≠ "java/lang/invoke/VarHandle" ∧ (parseMethodDescriptor y.desc).map (fun d => d.parameters.length) = some nA) (hlv : lv' + 1 ≤ lv) (hn : nL' ≤ 9) (hst : st = as.reverse ++ .ref (h 0) :: rest) (hro : (rest.map fun v => v.category).sum ≤ 8) (dd : decode cc pc = .ok (.invokevirtual idx, 3)) (M : XB lv' y cc' nL' (some ty) as σ post') (hlen : as.length = nA) (kk : ∀ (r : Int32) (τ : Sg), post' (some r) τ → XW X (PB D h d τ) (pc + 3) L (.int r :: rest)) : XW X (PB D h d σ) pc L st := by
  intro H locs ls hP hS hL
  obtain ⟨⟨hx, hb, hnL⟩, hml, hown, hts, hK, hD, hA, hR, ⟨hc0, hs0⟩, -, -⟩ := C
  subst hst
  subst hlen
  have hFc : ∀ q, va_A (xbW h d σ) H.size q → X.2.2.2.1 q := by
    intro q hq
    rcases hq with ⟨k, e, hq⟩ | hq
    · exact (hD σ).2 k _ hq
    · exact hA q (Nat.le_trans hS.1 hq)
  have hRf : (rmL lv').frames + 1 ≤ X.1.2.2.2.1.frames := by rw [hR]; exact hlv
  have hRl : 8 + (nL' + 11) + (rmL lv').locals ≤ X.1.2.2.2.1.locals := by
    rw [hR]
    show 8 + (nL' + 11) + 28 * lv' ≤ 28 * lv
    omega
  refine va_calli (va_runV (As := as) (rest := rest) ⟨hx, hb, hml, hown, hts⟩ (M _ D.1 D.2 h d H.size) (cwV as.length hts hG rfl rfl rfl hd ⟨hRf, hRl⟩) ⟨fun a U g mk q => by obtain ⟨q0, q1, qP, qK, qD⟩ := q; exact ⟨q0, q1, qP, va_K.moved (u := U) (U := U.calling g mk a) (Vm.Alike.refl U.vm) qK, qD⟩, va_recv hK hP (ci := 1) (q0 := 0) rfl rfl, fun U hU hW => ⟨rfl, by rw [hU], by rw [hU]; exact hP, va_K.moved hW.alike hK, (hD σ).weaken (fun _ _ _ _ => trivial)⟩⟩ rfl rfl (hL.1.trans hnL) rfl (lv_room hro) dd ⟨by rw [hc0, hR]; exact Nat.le_refl _, by rw [hs0, hR]; exact Nat.le_refl _⟩) hS (fun q _ h => hFc q h) hFc (fun r u t H1 locs1 ht hvm hw hB hz1 hk1 hS1 => ?_)
  refine kk r u hw H1 locs1 ls ?_ hS1 hL
  rw [← ht]
  exact hB.1
set_option maxHeartbeats 4000000 in
theorem xb_callv (C : CB X cc nL ret lv D h d post) {lv' : Nat} {y : MethodName} {cc' : ByteArray} {nL' idx nA : Nat} {as st : List Value} {post' : Option Int32 → Sg → Prop} (hG : GoodIn lw_all (wsV RX1 idx RX1 y (ws_ y cc' nL' none))) (hd : y.cls = RX1 ∧ y.cls ≠ "java/lang/invoke/MethodHandle" ∧ y.cls ≠ "java/lang/invoke/VarHandle" ∧ (parseMethodDescriptor y.desc).map (fun d => d.parameters.length) = some nA) (hlv : lv' + 1 ≤ lv) (hn : nL' ≤ 9) (hst : st = as.reverse ++ .ref (h 0) :: rest) (hro : (rest.map fun v => v.category).sum ≤ 8) (dd : decode cc pc = .ok (.invokevirtual idx, 3)) (M : XB lv' y cc' nL' none as σ post') (hlen : as.length = nA) (kk : ∀ (τ : Sg), post' none τ → XW X (PB D h d τ) (pc + 3) L rest) : XW X (PB D h d σ) pc L st := by
  intro H locs ls hP hS hL
  obtain ⟨⟨hx, hb, hnL⟩, hml, hown, hts, hK, hD, hA, hR, ⟨hc0, hs0⟩, -, -⟩ := C
  subst hst
  subst hlen
  have hFc : ∀ q, va_A (xbW h d σ) H.size q → X.2.2.2.1 q := by
    intro q hq
    rcases hq with ⟨k, e, hq⟩ | hq
    · exact (hD σ).2 k _ hq
    · exact hA q (Nat.le_trans hS.1 hq)
  have hRf : (rmL lv').frames + 1 ≤ X.1.2.2.2.1.frames := by rw [hR]; exact hlv
  have hRl : 8 + (nL' + 11) + (rmL lv').locals ≤ X.1.2.2.2.1.locals := by
    rw [hR]
    show 8 + (nL' + 11) + 28 * lv' ≤ 28 * lv
    omega
  refine va_callv (va_runV (As := as) (rest := rest) ⟨hx, hb, hml, hown, hts⟩ (M _ D.1 D.2 h d H.size) (cwV as.length hts hG rfl rfl rfl hd ⟨hRf, hRl⟩) ⟨fun a U g mk q => by obtain ⟨q0, q1, qP, qK, qD⟩ := q; exact ⟨q0, q1, qP, va_K.moved (u := U) (U := U.calling g mk a) (Vm.Alike.refl U.vm) qK, qD⟩, va_recv hK hP (ci := 1) (q0 := 0) rfl rfl, fun U hU hW => ⟨rfl, by rw [hU], by rw [hU]; exact hP, va_K.moved hW.alike hK, (hD σ).weaken (fun _ _ _ _ => trivial)⟩⟩ rfl rfl (hL.1.trans hnL) rfl (lv_room hro) dd ⟨by rw [hc0, hR]; exact Nat.le_refl _, by rw [hs0, hR]; exact Nat.le_refl _⟩) hS (fun q _ h => hFc q h) hFc (fun u t H1 locs1 ht hvm hw hB hz1 hk1 hS1 => ?_)
  refine kk u hw H1 locs1 ls ?_ hS1 hL
  rw [← ht]
  exact hB.1
end BR
end
section
/-! what a call asks of a method of ours, by its name -/
theorem hdX0_add : yX0_add.cls = RX0 ∧ yX0_add.cls ≠ "java/lang/invoke/MethodHandle" ∧ yX0_add.cls ≠ "java/lang/invoke/VarHandle" ∧ (parseMethodDescriptor yX0_add.desc).map (fun d => d.parameters.length) = some 4 := by decide +kernel
theorem hdX0_arrange : yX0_arrange.cls = RX0 ∧ yX0_arrange.cls ≠ "java/lang/invoke/MethodHandle" ∧ yX0_arrange.cls ≠ "java/lang/invoke/VarHandle" ∧ (parseMethodDescriptor yX0_arrange.desc).map (fun d => d.parameters.length) = some 0 := by decide +kernel
theorem hdX0_blocksFit : yX0_blocksFit.cls = RX0 ∧ yX0_blocksFit.cls ≠ "java/lang/invoke/MethodHandle" ∧ yX0_blocksFit.cls ≠ "java/lang/invoke/VarHandle" ∧ (parseMethodDescriptor yX0_blocksFit.desc).map (fun d => d.parameters.length) = some 0 := by decide +kernel
theorem hdX0_clear : yX0_clear.cls = RX0 ∧ yX0_clear.cls ≠ "java/lang/invoke/MethodHandle" ∧ yX0_clear.cls ≠ "java/lang/invoke/VarHandle" ∧ (parseMethodDescriptor yX0_clear.desc).map (fun d => d.parameters.length) = some 0 := by decide +kernel
theorem hdX0_closeBlock : yX0_closeBlock.cls = RX0 ∧ yX0_closeBlock.cls ≠ "java/lang/invoke/MethodHandle" ∧ yX0_closeBlock.cls ≠ "java/lang/invoke/VarHandle" ∧ (parseMethodDescriptor yX0_closeBlock.desc).map (fun d => d.parameters.length) = some 0 := by decide +kernel
theorem hdX0_compile : yX0_compile.cls = RX0 ∧ yX0_compile.cls ≠ "java/lang/invoke/MethodHandle" ∧ yX0_compile.cls ≠ "java/lang/invoke/VarHandle" ∧ (parseMethodDescriptor yX0_compile.desc).map (fun d => d.parameters.length) = some 0 := by decide +kernel
theorem hdX0_compileArithmetic : yX0_compileArithmetic.cls = RX0 ∧ yX0_compileArithmetic.cls ≠ "java/lang/invoke/MethodHandle" ∧ yX0_compileArithmetic.cls ≠ "java/lang/invoke/VarHandle" ∧ (parseMethodDescriptor yX0_compileArithmetic.desc).map (fun d => d.parameters.length) = some 1 := by decide +kernel
theorem hdX0_compileBoundary : yX0_compileBoundary.cls = RX0 ∧ yX0_compileBoundary.cls ≠ "java/lang/invoke/MethodHandle" ∧ yX0_compileBoundary.cls ≠ "java/lang/invoke/VarHandle" ∧ (parseMethodDescriptor yX0_compileBoundary.desc).map (fun d => d.parameters.length) = some 1 := by decide +kernel
theorem hdX0_compileStraight : yX0_compileStraight.cls = RX0 ∧ yX0_compileStraight.cls ≠ "java/lang/invoke/MethodHandle" ∧ yX0_compileStraight.cls ≠ "java/lang/invoke/VarHandle" ∧ (parseMethodDescriptor yX0_compileStraight.desc).map (fun d => d.parameters.length) = some 1 := by decide +kernel
theorem hdX0_compute : yX0_compute.cls = RX0 ∧ yX0_compute.cls ≠ "java/lang/invoke/MethodHandle" ∧ yX0_compute.cls ≠ "java/lang/invoke/VarHandle" ∧ (parseMethodDescriptor yX0_compute.desc).map (fun d => d.parameters.length) = some 3 := by decide +kernel
theorem hdX0_distance : yX0_distance.cls = RX0 ∧ yX0_distance.cls ≠ "java/lang/invoke/MethodHandle" ∧ yX0_distance.cls ≠ "java/lang/invoke/VarHandle" ∧ (parseMethodDescriptor yX0_distance.desc).map (fun d => d.parameters.length) = some 1 := by decide +kernel
theorem hdX0_fetch : yX0_fetch.cls = RX0 ∧ yX0_fetch.cls ≠ "java/lang/invoke/MethodHandle" ∧ yX0_fetch.cls ≠ "java/lang/invoke/VarHandle" ∧ (parseMethodDescriptor yX0_fetch.desc).map (fun d => d.parameters.length) = some 3 := by decide +kernel
theorem hdX0_isBoundary : yX0_isBoundary.cls = RX0 ∧ yX0_isBoundary.cls ≠ "java/lang/invoke/MethodHandle" ∧ yX0_isBoundary.cls ≠ "java/lang/invoke/VarHandle" ∧ (parseMethodDescriptor yX0_isBoundary.desc).map (fun d => d.parameters.length) = some 1 := by decide +kernel
theorem hdX0_openBlock : yX0_openBlock.cls = RX0 ∧ yX0_openBlock.cls ≠ "java/lang/invoke/MethodHandle" ∧ yX0_openBlock.cls ≠ "java/lang/invoke/VarHandle" ∧ (parseMethodDescriptor yX0_openBlock.desc).map (fun d => d.parameters.length) = some 1 := by decide +kernel
theorem hdX0_output : yX0_output.cls = RX0 ∧ yX0_output.cls ≠ "java/lang/invoke/MethodHandle" ∧ yX0_output.cls ≠ "java/lang/invoke/VarHandle" ∧ (parseMethodDescriptor yX0_output.desc).map (fun d => d.parameters.length) = some 1 := by decide +kernel
theorem hdX0_perform : yX0_perform.cls = RX0 ∧ yX0_perform.cls ≠ "java/lang/invoke/MethodHandle" ∧ yX0_perform.cls ≠ "java/lang/invoke/VarHandle" ∧ (parseMethodDescriptor yX0_perform.desc).map (fun d => d.parameters.length) = some 1 := by decide +kernel
theorem hdX0_print : yX0_print.cls = RX0 ∧ yX0_print.cls ≠ "java/lang/invoke/MethodHandle" ∧ yX0_print.cls ≠ "java/lang/invoke/VarHandle" ∧ (parseMethodDescriptor yX0_print.desc).map (fun d => d.parameters.length) = some 1 := by decide +kernel
theorem hdX0_printed : yX0_printed.cls = RX0 ∧ yX0_printed.cls ≠ "java/lang/invoke/MethodHandle" ∧ yX0_printed.cls ≠ "java/lang/invoke/VarHandle" ∧ (parseMethodDescriptor yX0_printed.desc).map (fun d => d.parameters.length) = some 0 := by decide +kernel
theorem hdX0_pull : yX0_pull.cls = RX0 ∧ yX0_pull.cls ≠ "java/lang/invoke/MethodHandle" ∧ yX0_pull.cls ≠ "java/lang/invoke/VarHandle" ∧ (parseMethodDescriptor yX0_pull.desc).map (fun d => d.parameters.length) = some 1 := by decide +kernel
theorem hdX0_pullUp : yX0_pullUp.cls = RX0 ∧ yX0_pullUp.cls ≠ "java/lang/invoke/MethodHandle" ∧ yX0_pullUp.cls ≠ "java/lang/invoke/VarHandle" ∧ (parseMethodDescriptor yX0_pullUp.desc).map (fun d => d.parameters.length) = some 1 := by decide +kernel
theorem hdX0_pushLayout : yX0_pushLayout.cls = RX0 ∧ yX0_pushLayout.cls ≠ "java/lang/invoke/MethodHandle" ∧ yX0_pushLayout.cls ≠ "java/lang/invoke/VarHandle" ∧ (parseMethodDescriptor yX0_pushLayout.desc).map (fun d => d.parameters.length) = some 1 := by decide +kernel
theorem hdX0_put : yX0_put.cls = RX0 ∧ yX0_put.cls ≠ "java/lang/invoke/MethodHandle" ∧ yX0_put.cls ≠ "java/lang/invoke/VarHandle" ∧ (parseMethodDescriptor yX0_put.desc).map (fun d => d.parameters.length) = some 2 := by decide +kernel
theorem hdX0_reads : yX0_reads.cls = RX0 ∧ yX0_reads.cls ≠ "java/lang/invoke/MethodHandle" ∧ yX0_reads.cls ≠ "java/lang/invoke/VarHandle" ∧ (parseMethodDescriptor yX0_reads.desc).map (fun d => d.parameters.length) = some 2 := by decide +kernel
theorem hdX0_retract : yX0_retract.cls = RX0 ∧ yX0_retract.cls ≠ "java/lang/invoke/MethodHandle" ∧ yX0_retract.cls ≠ "java/lang/invoke/VarHandle" ∧ (parseMethodDescriptor yX0_retract.desc).map (fun d => d.parameters.length) = some 0 := by decide +kernel
theorem hdX0_run : yX0_run.cls = RX0 ∧ yX0_run.cls ≠ "java/lang/invoke/MethodHandle" ∧ yX0_run.cls ≠ "java/lang/invoke/VarHandle" ∧ (parseMethodDescriptor yX0_run.desc).map (fun d => d.parameters.length) = some 0 := by decide +kernel
theorem hdX0_settle : yX0_settle.cls = RX0 ∧ yX0_settle.cls ≠ "java/lang/invoke/MethodHandle" ∧ yX0_settle.cls ≠ "java/lang/invoke/VarHandle" ∧ (parseMethodDescriptor yX0_settle.desc).map (fun d => d.parameters.length) = some 1 := by decide +kernel
theorem hdX0_sound : yX0_sound.cls = RX0 ∧ yX0_sound.cls ≠ "java/lang/invoke/MethodHandle" ∧ yX0_sound.cls ≠ "java/lang/invoke/VarHandle" ∧ (parseMethodDescriptor yX0_sound.desc).map (fun d => d.parameters.length) = some 0 := by decide +kernel
theorem hdX0_variable : yX0_variable.cls = RX0 ∧ yX0_variable.cls ≠ "java/lang/invoke/MethodHandle" ∧ yX0_variable.cls ≠ "java/lang/invoke/VarHandle" ∧ (parseMethodDescriptor yX0_variable.desc).map (fun d => d.parameters.length) = some 1 := by decide +kernel
theorem hdX0_wantedAfter : yX0_wantedAfter.cls = RX0 ∧ yX0_wantedAfter.cls ≠ "java/lang/invoke/MethodHandle" ∧ yX0_wantedAfter.cls ≠ "java/lang/invoke/VarHandle" ∧ (parseMethodDescriptor yX0_wantedAfter.desc).map (fun d => d.parameters.length) = some 2 := by decide +kernel
theorem hdX0_write : yX0_write.cls = RX0 ∧ yX0_write.cls ≠ "java/lang/invoke/MethodHandle" ∧ yX0_write.cls ≠ "java/lang/invoke/VarHandle" ∧ (parseMethodDescriptor yX0_write.desc).map (fun d => d.parameters.length) = some 2 := by decide +kernel
theorem hdX0_writes : yX0_writes.cls = RX0 ∧ yX0_writes.cls ≠ "java/lang/invoke/MethodHandle" ∧ yX0_writes.cls ≠ "java/lang/invoke/VarHandle" ∧ (parseMethodDescriptor yX0_writes.desc).map (fun d => d.parameters.length) = some 1 := by decide +kernel
theorem hdX1_add : yX1_add.cls = RX1 ∧ yX1_add.cls ≠ "java/lang/invoke/MethodHandle" ∧ yX1_add.cls ≠ "java/lang/invoke/VarHandle" ∧ (parseMethodDescriptor yX1_add.desc).map (fun d => d.parameters.length) = some 4 := by decide +kernel
theorem hdX1_clear : yX1_clear.cls = RX1 ∧ yX1_clear.cls ≠ "java/lang/invoke/MethodHandle" ∧ yX1_clear.cls ≠ "java/lang/invoke/VarHandle" ∧ (parseMethodDescriptor yX1_clear.desc).map (fun d => d.parameters.length) = some 0 := by decide +kernel
theorem hdX1_elseFits : yX1_elseFits.cls = RX1 ∧ yX1_elseFits.cls ≠ "java/lang/invoke/MethodHandle" ∧ yX1_elseFits.cls ≠ "java/lang/invoke/VarHandle" ∧ (parseMethodDescriptor yX1_elseFits.desc).map (fun d => d.parameters.length) = some 1 := by decide +kernel
theorem hdX1_elseOf : yX1_elseOf.cls = RX1 ∧ yX1_elseOf.cls ≠ "java/lang/invoke/MethodHandle" ∧ yX1_elseOf.cls ≠ "java/lang/invoke/VarHandle" ∧ (parseMethodDescriptor yX1_elseOf.desc).map (fun d => d.parameters.length) = some 1 := by decide +kernel
theorem hdX1_endOf : yX1_endOf.cls = RX1 ∧ yX1_endOf.cls ≠ "java/lang/invoke/MethodHandle" ∧ yX1_endOf.cls ≠ "java/lang/invoke/VarHandle" ∧ (parseMethodDescriptor yX1_endOf.desc).map (fun d => d.parameters.length) = some 1 := by decide +kernel
theorem hdX1_fits : yX1_fits.cls = RX1 ∧ yX1_fits.cls ≠ "java/lang/invoke/MethodHandle" ∧ yX1_fits.cls ≠ "java/lang/invoke/VarHandle" ∧ (parseMethodDescriptor yX1_fits.desc).map (fun d => d.parameters.length) = some 4 := by decide +kernel
theorem hdX1_isVariable : yX1_isVariable.cls = RX1 ∧ yX1_isVariable.cls ≠ "java/lang/invoke/MethodHandle" ∧ yX1_isVariable.cls ≠ "java/lang/invoke/VarHandle" ∧ (parseMethodDescriptor yX1_isVariable.desc).map (fun d => d.parameters.length) = some 1 := by decide +kernel
theorem hdX1_openerOf : yX1_openerOf.cls = RX1 ∧ yX1_openerOf.cls ≠ "java/lang/invoke/MethodHandle" ∧ yX1_openerOf.cls ≠ "java/lang/invoke/VarHandle" ∧ (parseMethodDescriptor yX1_openerOf.desc).map (fun d => d.parameters.length) = some 1 := by decide +kernel
theorem hdX1_opens : yX1_opens.cls = RX1 ∧ yX1_opens.cls ≠ "java/lang/invoke/MethodHandle" ∧ yX1_opens.cls ≠ "java/lang/invoke/VarHandle" ∧ (parseMethodDescriptor yX1_opens.desc).map (fun d => d.parameters.length) = some 1 := by decide +kernel
theorem hdX1_output : yX1_output.cls = RX1 ∧ yX1_output.cls ≠ "java/lang/invoke/MethodHandle" ∧ yX1_output.cls ≠ "java/lang/invoke/VarHandle" ∧ (parseMethodDescriptor yX1_output.desc).map (fun d => d.parameters.length) = some 1 := by decide +kernel
theorem hdX1_pass : yX1_pass.cls = RX1 ∧ yX1_pass.cls ≠ "java/lang/invoke/MethodHandle" ∧ yX1_pass.cls ≠ "java/lang/invoke/VarHandle" ∧ (parseMethodDescriptor yX1_pass.desc).map (fun d => d.parameters.length) = some 1 := by decide +kernel
theorem hdX1_plain : yX1_plain.cls = RX1 ∧ yX1_plain.cls ≠ "java/lang/invoke/MethodHandle" ∧ yX1_plain.cls ≠ "java/lang/invoke/VarHandle" ∧ (parseMethodDescriptor yX1_plain.desc).map (fun d => d.parameters.length) = some 1 := by decide +kernel
theorem hdX1_printed : yX1_printed.cls = RX1 ∧ yX1_printed.cls ≠ "java/lang/invoke/MethodHandle" ∧ yX1_printed.cls ≠ "java/lang/invoke/VarHandle" ∧ (parseMethodDescriptor yX1_printed.desc).map (fun d => d.parameters.length) = some 0 := by decide +kernel
theorem hdX1_put : yX1_put.cls = RX1 ∧ yX1_put.cls ≠ "java/lang/invoke/MethodHandle" ∧ yX1_put.cls ≠ "java/lang/invoke/VarHandle" ∧ (parseMethodDescriptor yX1_put.desc).map (fun d => d.parameters.length) = some 2 := by decide +kernel
theorem hdX1_retract : yX1_retract.cls = RX1 ∧ yX1_retract.cls ≠ "java/lang/invoke/MethodHandle" ∧ yX1_retract.cls ≠ "java/lang/invoke/VarHandle" ∧ (parseMethodDescriptor yX1_retract.desc).map (fun d => d.parameters.length) = some 0 := by decide +kernel
theorem hdX1_run : yX1_run.cls = RX1 ∧ yX1_run.cls ≠ "java/lang/invoke/MethodHandle" ∧ yX1_run.cls ≠ "java/lang/invoke/VarHandle" ∧ (parseMethodDescriptor yX1_run.desc).map (fun d => d.parameters.length) = some 0 := by decide +kernel
theorem hdX1_sound : yX1_sound.cls = RX1 ∧ yX1_sound.cls ≠ "java/lang/invoke/MethodHandle" ∧ yX1_sound.cls ≠ "java/lang/invoke/VarHandle" ∧ (parseMethodDescriptor yX1_sound.desc).map (fun d => d.parameters.length) = some 0 := by decide +kernel
theorem hdX1_variable : yX1_variable.cls = RX1 ∧ yX1_variable.cls ≠ "java/lang/invoke/MethodHandle" ∧ yX1_variable.cls ≠ "java/lang/invoke/VarHandle" ∧ (parseMethodDescriptor yX1_variable.desc).map (fun d => d.parameters.length) = some 1 := by decide +kernel
theorem lv_ai (xs : List Int32) : ∀ i, ∀ q ∈ lv_args i (xs.map Value.int), q.2.category = 1 := by
  induction xs with
  | nil => intro i q hq; cases hq
  | cons a t ih =>
    intro i q hq
    simp only [List.map_cons, lv_args] at hq
    rcases List.mem_cons.mp hq with e | e
    · rw [e]; rfl
    · exact ih _ q e
theorem lv_ci (a : Nat) (xs : List Int32) : ∀ q ∈ lv_args 0 (.ref a :: xs.map Value.int), q.2.category = 1 := by
  intro q hq
  simp only [lv_args] at hq
  rcases List.mem_cons.mp hq with e | e
  · rw [e]; rfl
  · exact lv_ai xs _ q e
theorem lg_si (a : Nat) (xs : List Int32) : (lg_sl (.ref a :: xs.map Value.int)).length = xs.length + 1 := by
  have h : ∀ ys : List Int32, (lg_sl (ys.map Value.int)).length = ys.length := by
    intro ys
    induction ys with
    | nil => rfl
    | cons b t ih =>
      have : lg_sl ((b :: t).map Value.int) = .val (.int b) :: lg_sl (t.map Value.int) := rfl
      rw [this, List.length_cons, ih, List.length_cons]
  have : lg_sl (.ref a :: xs.map Value.int) = .val (.ref a) :: lg_sl (xs.map Value.int) := rfl
  rw [this, List.length_cons, h]
theorem xa_ofI (xs : List Int32) {lv : Nat} {y : MethodName} {cc : ByteArray} {nL : Nat} {ret : Option FieldType} {σ : Sg} {post : Option Int32 → Sg → Prop} (hy : plainName y.cls = true) (hyc : y.cls = RX0) (hL : xs.length + 1 ≤ nL)
    (body : ∀ (X : CX) (D : va_G) (h : Nat → Nat) (d : Nat → ClassId), CA X cc nL ret lv D h d post → XW X (PA D h d σ) 0 (lv_args 0 (.ref (h 0) :: xs.map Value.int)) []) : XA lv y cc nL ret (xs.map Value.int) σ post := xa_of hy hyc (fun a => by rw [lg_si]; exact hL) (fun a => lv_ci a xs) body
theorem xb_ofI (xs : List Int32) {lv : Nat} {y : MethodName} {cc : ByteArray} {nL : Nat} {ret : Option FieldType} {σ : Sg} {post : Option Int32 → Sg → Prop} (hy : plainName y.cls = true) (hyc : y.cls = RX1) (hL : xs.length + 1 ≤ nL)
    (body : ∀ (X : CX) (D : va_G) (h : Nat → Nat) (d : Nat → ClassId), CB X cc nL ret lv D h d post → XW X (PB D h d σ) 0 (lv_args 0 (.ref (h 0) :: xs.map Value.int)) []) : XB lv y cc nL ret (xs.map Value.int) σ post := xb_of hy hyc (fun a => by rw [lg_si]; exact hL) (fun a => lv_ci a xs) body
end
section
/-! numbers -/
theorem z8 : ∀ o, o < 128 → (nI o).toInt8.toInt32 = nI o := by decide +kernel
theorem z8n : ∀ o, o < 128 → vp_nar .byte (nI o) = nI o := by decide +kernel
theorem z16 : ∀ o, o < 1024 → (nI o).toInt16.toInt32 = nI o := by decide +kernel
theorem z16n : ∀ o, o < 1024 → vp_nar .short (nI o) = nI o := by decide +kernel
theorem zinc (j : Nat) : nI j + Int32.ofInt 1 = nI (j + 1) := by
  have : Int32.ofInt 1 = 1 := by decide
  rw [this]
  exact nI_1 j
theorem zsub {a b : Nat} (h : b ≤ a) : nI a - nI b = nI (a - b) := pk_sub h
theorem zlt {a b : Nat} (ha : a < 2 ^ 31) (hb : b < 2 ^ 31) : nI a < nI b ↔ a < b := nI_ltI ha hb
theorem zle {a b : Nat} (ha : a < 2 ^ 31) (hb : b < 2 ^ 31) : nI a ≤ nI b ↔ a ≤ b := nI_leI ha hb
theorem zeq {a b : Nat} (ha : a < 2 ^ 31) (hb : b < 2 ^ 31) : nI a = nI b ↔ a = b := nI_eq ha hb
end
section
/-! the compiler's state: the layout y (top first) and the code c -/
def St (σ : Sg) (y : List Nat) (c : List (Nat × Int32)) : Prop :=
  (σ 0 12 = nI y.length ∧ y.length ≤ 16 ∧ ∀ j v, y[j]? = some v → σ 11 (y.length - 1 - j) = nI v ∧ v < 128) ∧
  (σ 0 8 = nI c.length ∧ c.length ≤ 560 ∧ ∀ (i o : Nat) (n : Int32), c[i]? = some (o, n) → σ 9 i = nI o ∧ σ 10 i = n ∧ o < 128)
/-- all but the layout and the code is as it was -/
def Fr (σ τ : Sg) : Prop := (∀ k j, k ≠ 0 → k ≠ 9 → k ≠ 10 → k ≠ 11 → τ k j = σ k j) ∧ ∀ j, j ≠ 8 → j ≠ 12 → τ 0 j = σ 0 j
theorem Fr.rf (σ : Sg) : Fr σ σ := ⟨fun _ _ _ _ _ _ => rfl, fun _ _ _ => rfl⟩
theorem Fr.tr {σ τ υ : Sg} (h : Fr σ τ) (g : Fr τ υ) : Fr σ υ := ⟨fun k j a b c e => (g.1 k j a b c e).trans (h.1 k j a b c e), fun j a b => (g.2 j a b).trans (h.2 j a b)⟩
theorem lt_of_q {α : Type} {l : List α} {i : Nat} {v : α} (h : l[i]? = some v) : i < l.length := (List.getElem?_eq_some_iff.mp h).1
theorem St.write {σ : Sg} {y : List Nat} {c : List (Nat × Int32)} (h : St σ y c) {o : Nat} {n : Int32} (hc : c.length < 560) (ho : o < 128) : St (su (su (su σ 9 c.length (nI o)) 10 c.length n) 0 8 (nI (c.length + 1))) y (c ++ [(o, n)]) ∧ Fr σ (su (su (su σ 9 c.length (nI o)) 10 c.length n) 0 8 (nI (c.length + 1))) := by
  obtain ⟨⟨a1, a2, a3⟩, b1, b2, b3⟩ := h
  refine ⟨⟨⟨?_, a2, fun j v hj => ?_⟩, ?_, ?_, fun i o' n' hi => ?_⟩, fun k j h1 h2 h3 h4 => ?_, fun j h1 h2 => ?_⟩
  · simpa [su] using a1
  · simpa [su] using a3 j v hj
  · simp [su]
  · simp; omega
  · by_cases hl : i < c.length
    · rw [List.getElem?_append_left hl] at hi
      have := b3 i o' n' hi
      simp [su, Nat.ne_of_lt hl]
      exact this
    · rw [List.getElem?_append_right (by omega)] at hi
      have hl2 := lt_of_q hi
      simp at hl2
      have e : i = c.length := by omega
      subst e
      simp at hi
      obtain ⟨e1, e2⟩ := hi
      subst e1; subst e2
      simp [su]
      exact ho
  · simp [su, h1, h2, h3]
  · simp [su, h1]
theorem St.push {σ : Sg} {y : List Nat} {c : List (Nat × Int32)} (h : St σ y c) {w : Nat} (hy : y.length < 16) (hw : w < 128) : St (su (su σ 11 y.length (nI w)) 0 12 (nI (y.length + 1))) (w :: y) c ∧ Fr σ (su (su σ 11 y.length (nI w)) 0 12 (nI (y.length + 1))) := by
  obtain ⟨⟨a1, a2, a3⟩, b1, b2, b3⟩ := h
  refine ⟨⟨⟨?_, ?_, fun j v hj => ?_⟩, ?_, b2, fun i o' n' hi => ?_⟩, fun k j h1 h2 h3 h4 => ?_, fun j h1 h2 => ?_⟩
  · simp [su]
  · simp; omega
  · cases j with
    | zero =>
      simp at hj
      subst hj
      simp [su]
      exact hw
    | succ j =>
      rw [List.getElem?_cons_succ] at hj
      have hl := lt_of_q hj
      have := a3 j v hj
      have e : (w :: y).length - 1 - (j + 1) = y.length - 1 - j := by simp; omega
      have e2 : ¬ y.length - 1 - j = y.length := by omega
      rw [e]
      simp [su, e2]
      exact this
  · simpa [su] using b1
  · simpa [su] using b3 i o' n' hi
  · simp [su, h1, h4]
  · simp [su, h2]
/-- where a thing is, from the top -/
def dx : List Nat → Nat → Nat
  | [], _ => 0
  | a :: l, w => if a = w then 0 else dx l w + 1
theorem dx_in {l : List Nat} {w : Nat} (h : w ∈ l) : l[dx l w]? = some w := by
  induction l with
  | nil => cases h
  | cons a t ih =>
    by_cases e : a = w
    · simp [dx, e]
    · rw [dx, if_neg e, List.getElem?_cons_succ]
      exact ih (by rcases List.mem_cons.mp h with q | q; exact absurd q.symm e; exact q)
theorem dx_lt {l : List Nat} {w : Nat} (h : w ∈ l) : dx l w < l.length := lt_of_q (dx_in h)
theorem dx_is {l : List Nat} {w d : Nat} (h : l[d]? = some w) (hf : ∀ t, t < d → l[t]? ≠ some w) : dx l w = d := by
  induction l generalizing d with
  | nil => simp at h
  | cons a t ih =>
    cases d with
    | zero =>
      simp at h
      simp [dx, h]
    | succ d =>
      have h0 := hf 0 (by omega)
      simp at h0
      rw [dx, if_neg h0, ih (by simpa using h) (fun t ht => by simpa using hf (t + 1) (by omega))]
theorem dx_out {l : List Nat} {w : Nat} (h : ∀ t, t < l.length → l[t]? ≠ some w) : w ∉ l := by
  intro hm
  obtain ⟨t, ht⟩ := List.getElem?_of_mem hm
  exact h t (lt_of_q ht) ht
end
section
/-! a source program: its length, kinds, a, b, c, and the values of SET -/
abbrev Pg : Type := Nat × (Nat → Nat) × (Nat → Nat) × (Nat → Nat) × (Nat → Nat) × (Nat → Int32)
def pN (g : Pg) : Nat := g.1
def pK (g : Pg) : Nat → Nat := g.2.1
def pA (g : Pg) : Nat → Nat := g.2.2.1
def pB (g : Pg) : Nat → Nat := g.2.2.2.1
def pC (g : Pg) : Nat → Nat := g.2.2.2.2.1
def pI (g : Pg) : Nat → Int32 := g.2.2.2.2.2
def Pok (g : Pg) : Prop := pN g ≤ 40 ∧ ∀ i, i < pN g → pK g i ≤ 11 ∧ (pK g i ≠ 9 → pK g i ≠ 11 → pA g i ≤ 5) ∧ (1 ≤ pK g i → pK g i ≤ 6 → pB g i ≤ 5) ∧ (2 ≤ pK g i → pK g i ≤ 6 → pC g i ≤ 5)
/-- StackScheduler holds the program -/
def Sx (σ : Sg) (g : Pg) : Prop := Pok g ∧ σ 0 0 = nI (pN g) ∧ ∀ i, i < pN g → σ 1 i = nI (pK g i) ∧ (pK g i = 0 → σ 2 i = pI g i ∧ σ 3 i = nI (pA g i)) ∧ (pK g i ≠ 0 → pK g i ≠ 9 → pK g i ≠ 11 → σ 2 i = nI (pA g i)) ∧ (1 ≤ pK g i → pK g i ≤ 6 → σ 3 i = nI (pB g i)) ∧ (2 ≤ pK g i → pK g i ≤ 6 → σ 4 i = nI (pC g i))
theorem Sx.of {σ τ : Sg} {g : Pg} (h : Sx σ g) (e0 : τ 0 0 = σ 0 0) (e1 : ∀ j, τ 1 j = σ 1 j) (e2 : ∀ j, τ 2 j = σ 2 j) (e3 : ∀ j, τ 3 j = σ 3 j) (e4 : ∀ j, τ 4 j = σ 4 j) : Sx τ g := by
  refine ⟨h.1, by rw [e0]; exact h.2.1, fun i hi => ?_⟩
  rw [e1, e2, e3, e4]
  exact h.2.2 i hi
theorem Sx.fr {σ τ : Sg} {g : Pg} (h : Sx σ g) (f : Fr σ τ) : Sx τ g := h.of (f.2 0 (by decide) (by decide)) (fun j => f.1 1 j (by decide) (by decide) (by decide) (by decide)) (fun j => f.1 2 j (by decide) (by decide) (by decide) (by decide)) (fun j => f.1 3 j (by decide) (by decide) (by decide) (by decide)) (fun j => f.1 4 j (by decide) (by decide) (by decide) (by decide))
def bI (b : Bool) : Int32 := if b then 1 else 0
theorem bI_0 {b : Bool} : bI b = 0 ↔ b = false := by cases b <;> decide
theorem bI_nar (b : Bool) : narrow .boolean (.int (bI b)) = .int (bI b) := by cases b <;> rfl
theorem z0eq {k : Nat} (hk : k < 2 ^ 31) : nI k = 0 ↔ k = 0 := zeq (b := 0) hk (by decide)
theorem z0le {k : Nat} (hk : k < 2 ^ 31) : nI k ≤ 0 ↔ k ≤ 0 := zle (b := 0) hk (by decide)
theorem z0lt {k : Nat} (hk : k < 2 ^ 31) : 0 < nI k ↔ 0 < k := zlt (a := 0) (by decide) hk
theorem z0nl {k : Nat} (hk : k < 2 ^ 31) : ¬ nI k < 0 := nI_pos hk
/-- does statement i read variable v -/
def rd (g : Pg) (i v : Nat) : Bool := if pK g i = 7 ∨ pK g i = 8 then pA g i == v else if pK g i = 1 then pB g i == v else if 2 ≤ pK g i ∧ pK g i ≤ 6 then (pB g i == v || pC g i == v) else false
/-- does statement i write variable v -/
def wrt (g : Pg) (i v : Nat) : Bool := decide (pK g i ≤ 6) && (pA g i == v)
def wtd (g : Pg) (v : Nat) : Nat → Nat → Bool
  | 0, _ => true
  | f + 1, j => if 8 ≤ pK g j then true else if rd g j v then true else if wrt g j v then false else wtd g v f (j + 1)
/-- is variable v's value ahead of statement j wanted -/
def wan (g : Pg) (j v : Nat) : Bool := wtd g v (pN g - j) j
theorem wan_end {g : Pg} {j v : Nat} (h : pN g ≤ j) : wan g j v = true := by
  unfold wan
  rw [show pN g - j = 0 by omega]
  rfl
theorem wan_bd {g : Pg} {j v : Nat} (h : 8 ≤ pK g j) : wan g j v = true := by
  unfold wan
  cases pN g - j with
  | zero => rfl
  | succ f => simp [wtd, h]
theorem wan_st {g : Pg} {j v : Nat} (h : j < pN g) (h2 : ¬ 8 ≤ pK g j) : wan g j v = if rd g j v then true else if wrt g j v then false else wan g (j + 1) v := by
  unfold wan
  rw [show pN g - j = (pN g - (j + 1)) + 1 by omega, wtd, if_neg h2]
/-- rows shifted down by one place from lo up to i -/
def sh (σ : Sg) (k lo i : Nat) : Sg := fun a b => if a = k ∧ lo ≤ b ∧ b < i then σ a (b + 1) else σ a b
theorem sh_0 (σ : Sg) (k lo : Nat) : sh σ k lo lo = σ := by
  funext a b
  simp only [sh]
  rw [if_neg (by omega)]
theorem sh_s (σ : Sg) {k lo i : Nat} (h : lo ≤ i) : su (sh σ k lo i) k i (σ k (i + 1)) = sh σ k lo (i + 1) := by
  funext a b
  simp only [su, sh]
  by_cases ha : a = k
  · subst ha
    by_cases hb : b = i
    · subst hb
      simp [h]
    · by_cases hc : lo ≤ b ∧ b < i
      · simp [hb, hc.1, hc.2]
        omega
      · rw [if_pos rfl, if_neg hb, if_neg (by omega), if_neg (by omega)]
  · simp [ha]
theorem sh_at (σ : Sg) {k lo i : Nat} : sh σ k lo i k (i + 1) = σ k (i + 1) := by
  simp only [sh]
  rw [if_neg (by omega)]
theorem sh_o (σ : Sg) {k lo i a b : Nat} (h : a ≠ k) : sh σ k lo i a b = σ a b := by
  simp [sh, h]
def plC (d : Nat) : List (Nat × Int32) := if d = 0 then [] else [(7, nI d)]
theorem St.pop {σ : Sg} {a : Nat} {y : List Nat} {c : List (Nat × Int32)} (h : St σ (a :: y) c) : St (su σ 0 12 (nI y.length)) y c ∧ Fr σ (su σ 0 12 (nI y.length)) := by
  obtain ⟨⟨a1, a2, a3⟩, b1, b2, b3⟩ := h
  refine ⟨⟨⟨by simp [su], by simp at a2; omega, fun j v hj => ?_⟩, by simpa [su] using b1, b2, fun i o' n' hi => by simpa [su] using b3 i o' n' hi⟩, fun k j h1 h2 h3 h4 => by simp [su, h1], fun j h1 h2 => by simp [su, h2]⟩
  have := a3 (j + 1) v (by simpa using hj)
  have hl := lt_of_q hj
  have e : (a :: y).length - 1 - (j + 1) = y.length - 1 - j := by simp; omega
  rw [e] at this
  simpa [su] using this
theorem St.top {σ : Sg} {a w : Nat} {y : List Nat} {c : List (Nat × Int32)} (h : St σ (a :: y) c) (hw : w < 128) : St (su σ 11 y.length (nI w)) (w :: y) c ∧ Fr σ (su σ 11 y.length (nI w)) := by
  obtain ⟨⟨a1, a2, a3⟩, b1, b2, b3⟩ := h
  refine ⟨⟨⟨by simpa [su] using a1, by simpa using a2, fun j v hj => ?_⟩, by simpa [su] using b1, b2, fun i o' n' hi => by simpa [su] using b3 i o' n' hi⟩, fun k j h1 h2 h3 h4 => by simp [su, h4], fun j h1 h2 => by simp [su]⟩
  cases j with
  | zero =>
    simp at hj
    subst hj
    simp [su]
    exact hw
  | succ j =>
    have := a3 (j + 1) v (by simpa using hj)
    have hl := lt_of_q hj
    simp at hl
    have e : (w :: y).length - 1 - (j + 1) = y.length - 1 - j := by simp; omega
    have e' : (a :: y).length - 1 - (j + 1) = y.length - 1 - j := by simp; omega
    rw [e'] at this
    rw [e]
    have e2 : ¬ y.length - 1 - j = y.length := by omega
    simp [su, e2]
    exact this
theorem St.pull {σ : Sg} {w dd : Nat} {y : List Nat} {c : List (Nat × Int32)} (h : St σ y c) (hd : y[dd]? = some w) : St (su (sh σ 11 (y.length - 1 - dd) (y.length - 1)) 11 (y.length - 1) (nI w)) (w :: y.eraseIdx dd) c ∧ Fr σ (su (sh σ 11 (y.length - 1 - dd) (y.length - 1)) 11 (y.length - 1) (nI w)) := by
  obtain ⟨⟨a1, a2, a3⟩, b1, b2, b3⟩ := h
  have hdl := lt_of_q hd
  have hlen : (w :: y.eraseIdx dd).length = y.length := by
    rw [List.length_cons, List.length_eraseIdx, if_pos hdl]
    omega
  refine ⟨⟨⟨by rw [hlen]; simpa [su, sh] using a1, by rw [hlen]; exact a2, fun j v hj => ?_⟩, by simpa [su, sh] using b1, b2, fun i o' n' hi => by simpa [su, sh] using b3 i o' n' hi⟩, fun k j h1 h2 h3 h4 => by simp [su, sh, h4], fun j h1 h2 => by simp [su, sh]⟩
  rw [hlen]
  cases j with
  | zero =>
    simp at hj
    subst hj
    simp [su]
    exact (a3 dd w hd).2
  | succ j =>
    rw [List.getElem?_cons_succ, List.getElem?_eraseIdx] at hj
    have e2 : ¬ y.length - 1 - (j + 1) = y.length - 1 := by
      split at hj
      · omega
      · have := lt_of_q hj; omega
    simp only [su, sh]
    rw [if_pos trivial, if_neg e2]
    split at hj
    · have := a3 j v hj
      have hl := lt_of_q hj
      rw [if_pos ⟨trivial, by omega, by omega⟩, show y.length - 1 - (j + 1) + 1 = y.length - 1 - j by omega]
      exact this
    · have := a3 (j + 1) v hj
      have hl := lt_of_q hj
      rw [if_neg (fun q => by have := q.2.1; omega)]
      exact this
end
section
/-! the compiler's small methods -/
theorem c_write (σ : Sg) (o : Nat) (n : Int32) {y : List Nat} {c : List (Nat × Int32)} (S : St σ y c) (hce : c.length < 560) (ho : o < 128) : XA 0 yX0_write cX0_write 3 none [.int (nI o), .int n] σ (fun r τ => r = none ∧ St τ y (c ++ [(o, n)]) ∧ Fr σ τ) := by
  have h8 := S.2.1
  refine xa_ofI [nI o, n] (by decide) rfl (Nat.le_of_ble_eq_true rfl) (fun X D h d C => ?_)
  have B := C.1
  show XW X _ 0 [(0, .ref (h 0)), (1, .int (nI o)), (2, .int (n))] []
  refine xw_aload_n B dX0_write_0 rfl ?_
  refine xa_getA C 9 (by decide) rfl q51 dX0_write_1 ?_
  refine xw_aload_n B dX0_write_4 rfl ?_
  refine xa_getS C 8 (by decide) rfl q50 dX0_write_5 (h8) ?_
  refine xw_iload_n B dX0_write_8 rfl ?_
  refine xw_i2b B dX0_write_9 (z8 o ho) ?_
  refine xa_bast C 6 5 9 rfl rfl (xa_s9 h d _) (by decide) dX0_write_10 (c.length) (rfl) (hce) (z8n o ho) ?_
  refine xw_aload_n B dX0_write_11 rfl ?_
  refine xa_getA C 10 (by decide) rfl q52 dX0_write_12 ?_
  refine xw_aload_n B dX0_write_15 rfl ?_
  refine xa_getS C 8 (by decide) rfl q50 dX0_write_16 (h8) ?_
  refine xw_iload_n B dX0_write_19 rfl ?_
  refine xa_iast C 7 6 10 rfl rfl (xa_s10 h d _) (by decide) dX0_write_20 (c.length) (rfl) (hce) ?_
  refine xw_aload_n B dX0_write_21 rfl ?_
  refine xw_dup B dX0_write_22 rfl ?_
  refine xa_getS C 8 (by decide) rfl q50 dX0_write_23 (h8) ?_
  refine xw_iconst (v := nI 1) B dX0_write_26 (by decide) ?_
  refine xw_iadd B dX0_write_27 (nI_add c.length 1) ?_
  refine xa_put (ty := .int) C 8 (by decide) (xa_f8 h d _ _) q50 rfl (by decide +kernel) (rfl) (rfl) dX0_write_28 ?_
  exact xa_vret C rfl dX0_write_31 (⟨rfl, S.write hce ho⟩)
theorem c_pushLayout (σ : Sg) (w : Nat) {y : List Nat} {c : List (Nat × Int32)} (S : St σ y c) (hld : y.length < 16) (hw : w < 128) : XA 0 yX0_pushLayout cX0_pushLayout 2 none [.int (nI w)] σ (fun r τ => r = none ∧ St τ (w :: y) c ∧ Fr σ τ) := by
  have h12 := S.1.1
  refine xa_ofI [nI w] (by decide) rfl (Nat.le_of_ble_eq_true rfl) (fun X D h d C => ?_)
  have B := C.1
  show XW X _ 0 [(0, .ref (h 0)), (1, .int (nI w))] []
  refine xw_aload_n B dX0_pushLayout_0 rfl ?_
  refine xa_getA C 11 (by decide) rfl q53 dX0_pushLayout_1 ?_
  refine xw_aload_n B dX0_pushLayout_4 rfl ?_
  refine xa_getS C 12 (by decide) rfl q54 dX0_pushLayout_5 (h12) ?_
  refine xw_iload_n B dX0_pushLayout_8 rfl ?_
  refine xw_i2b B dX0_pushLayout_9 (z8 w hw) ?_
  refine xa_bast C 8 7 11 rfl rfl (xa_s11 h d _) (by decide) dX0_pushLayout_10 (y.length) (rfl) (hld) (z8n w hw) ?_
  refine xw_aload_n B dX0_pushLayout_11 rfl ?_
  refine xw_dup B dX0_pushLayout_12 rfl ?_
  refine xa_getS C 12 (by decide) rfl q54 dX0_pushLayout_13 (h12) ?_
  refine xw_iconst (v := nI 1) B dX0_pushLayout_16 (by decide) ?_
  refine xw_iadd B dX0_pushLayout_17 (nI_add y.length 1) ?_
  refine xa_put (ty := .int) C 12 (by decide) (xa_f12 h d _ _) q54 rfl (by decide +kernel) (rfl) (rfl) dX0_pushLayout_18 ?_
  exact xa_vret C rfl dX0_pushLayout_21 (⟨rfl, S.push hld hw⟩)
theorem c_isBoundary (σ : Sg) (n i k : Nat) (h0 : σ 0 0 = nI n) (hn : n ≤ 40) (hi : i ≤ 40) (hk : i < n → σ 1 i = nI k ∧ k ≤ 11) : XA 0 yX0_isBoundary cX0_isBoundary 2 (some .boolean) [.int (nI i)] σ (fun r τ => τ = σ ∧ r = some (if n ≤ i ∨ 8 ≤ k then 1 else 0)) := by
  refine xa_ofI [nI i] (by decide) rfl (Nat.le_of_ble_eq_true rfl) (fun X D h d C => ?_)
  have B := C.1
  show XW X _ 0 [(0, .ref (h 0)), (1, .int (nI i))] []
  refine xw_iload_n B dX0_isBoundary_0 rfl ?_
  refine xw_aload_n B dX0_isBoundary_1 rfl ?_
  refine xa_getS C 0 (by decide) rfl q42 dX0_isBoundary_2 (h0) ?_
  refine xw_icmp_ge (tgt := 19) B dX0_isBoundary_5 (by decide) (fun c1 => ?_) (fun c1 => ?_)
  · rw [zle (by omega) (by omega)] at c1
    refine xw_iconst (v := nI 1) B dX0_isBoundary_19 (by decide) ?_
    refine xw_goto (tgt := 24) B dX0_isBoundary_20 (by decide) ?_
    exact xa_iret C rfl (rfl) dX0_isBoundary_24 (⟨rfl, by rw [if_pos (Or.inl c1)]; rfl⟩)
  · rw [zle (by omega) (by omega)] at c1
    refine xw_aload_n B dX0_isBoundary_8 rfl ?_
    refine xa_getA C 1 (by decide) rfl q43 dX0_isBoundary_9 ?_
    refine xw_iload_n B dX0_isBoundary_12 rfl ?_
    refine xa_bald C 1 0 1 rfl rfl (by decide) dX0_isBoundary_13 (i) (rfl) (by omega) ((hk (by omega)).1) ?_
    refine xw_bipush (v := nI 8) B dX0_isBoundary_14 (by decide) ?_
    have hk2 := (hk (by omega)).2
    refine xw_icmp_lt (tgt := 23) B dX0_isBoundary_16 (by decide) (fun c2 => ?_) (fun c2 => ?_)
    · rw [zlt (by omega) (by omega)] at c2
      refine xw_iconst (v := nI 0) B dX0_isBoundary_23 (by decide) ?_
      exact xa_iret C rfl (rfl) dX0_isBoundary_24 (⟨rfl, by rw [if_neg (by omega)]; rfl⟩)
    · rw [zlt (by omega) (by omega)] at c2
      refine xw_iconst (v := nI 1) B dX0_isBoundary_19 (by decide) ?_
      refine xw_goto (tgt := 24) B dX0_isBoundary_20 (by decide) ?_
      exact xa_iret C rfl (rfl) dX0_isBoundary_24 (⟨rfl, by rw [if_pos (by omega)]; rfl⟩)
theorem c_distance_loop (σ : Sg) (w : Nat) {y : List Nat} {c : List (Nat × Int32)} (S : St σ y c) (hw : w < 128) {X : CX} {D : va_G} {h : Nat → Nat} {d : Nat → ClassId} {lv : Nat}
    (C : CA X cX0_distance 3 (some .int) lv D h d (fun r τ => τ = σ ∧ (w ∈ y → r = some (nI (dx y w))) ∧ (w ∉ y → r = some (-1)))) :
    ∀ (f j : Nat), j ≤ y.length → y.length < j + f → (∀ t, t < j → y[t]? ≠ some w) → XW X (PA D h d σ) 2 [(2, .int (nI j)), (0, .ref (h 0)), (1, .int (nI w))] [] := by
  have B := C.1
  obtain ⟨⟨h12, hld, hlay⟩, -⟩ := S
  intro f
  induction f with
  | zero => intro j h1 h2; omega
  | succ f ih =>
    intro j h1 h2 h3
    refine xw_iload_n B dX0_distance_2 rfl ?_
    refine xw_aload_n B dX0_distance_3 rfl ?_
    refine xa_getS C 12 (by decide) rfl q54 dX0_distance_4 (h12) ?_
    refine xw_icmp_ge (tgt := 35) B dX0_distance_7 (by decide) (fun c1 => ?_) (fun c1 => ?_)
    · rw [zle (by omega) (by omega)] at c1
      have hnm : w ∉ y := dx_out (fun t ht => h3 t (by omega))
      refine xw_iconst (v := (-1)) B dX0_distance_35 (by decide) ?_
      exact xa_iret C rfl (rfl) dX0_distance_36 (⟨rfl, fun q => absurd q hnm, fun _ => rfl⟩)
    · rw [zle (by omega) (by omega)] at c1
      have hj : j < y.length := by omega
      obtain ⟨v, hv⟩ : ∃ v, y[j]? = some v := ⟨_, List.getElem?_eq_getElem hj⟩
      refine xw_aload_n B dX0_distance_10 rfl ?_
      refine xa_getA C 11 (by decide) rfl q53 dX0_distance_11 ?_
      refine xw_aload_n B dX0_distance_14 rfl ?_
      refine xa_getS C 12 (by decide) rfl q54 dX0_distance_15 (h12) ?_
      refine xw_iconst (v := nI 1) B dX0_distance_18 (by decide) ?_
      refine xw_isub B dX0_distance_19 (zsub (by omega)) ?_
      refine xw_iload_n B dX0_distance_20 rfl ?_
      refine xw_isub B dX0_distance_21 (zsub (by omega)) ?_
      refine xa_bald C 8 7 11 rfl rfl (by decide) dX0_distance_22 (y.length - 1 - j) (rfl) (by omega) ((hlay j v hv).1) ?_
      refine xw_iload_n B dX0_distance_23 rfl ?_
      have hb := (hlay j v hv).2
      refine xw_icmp_ne (tgt := 29) B dX0_distance_24 (by decide) (fun c2 => ?_) (fun c2 => ?_)
      · rw [zeq (by omega) (by omega)] at c2
        refine xw_iinc B dX0_distance_29 rfl (zinc j) (by decide) ?_
        refine xw_goto (tgt := 2) B dX0_distance_32 (by decide) ?_
        refine xw_loc [(2, .int (nI (j + 1))), (0, .ref (h 0)), (1, .int (nI w))] ⟨rfl, rfl, rfl, trivial⟩ ?_
        refine ih (j + 1) (by omega) (by omega) (fun t ht => ?_)
        by_cases q : t < j
        · exact h3 t q
        · rw [show t = j by omega, hv]
          exact fun e => c2 (Option.some.inj e)
      · rw [zeq (by omega) (by omega)] at c2
        rw [c2] at hv
        refine xw_iload_n B dX0_distance_27 rfl ?_
        exact xa_iret C rfl (rfl) dX0_distance_28 (⟨rfl, fun _ => by rw [dx_is hv h3], fun q => absurd (List.mem_of_getElem? hv) q⟩)
theorem c_distance (σ : Sg) (w : Nat) {y : List Nat} {c : List (Nat × Int32)} (S : St σ y c) (hw : w < 128) : XA 0 yX0_distance cX0_distance 3 (some .int) [.int (nI w)] σ (fun r τ => τ = σ ∧ (w ∈ y → r = some (nI (dx y w))) ∧ (w ∉ y → r = some (-1))) := by
  refine xa_ofI [nI w] (by decide) rfl (Nat.le_of_ble_eq_true rfl) (fun X D h d C => ?_)
  have B := C.1
  show XW X _ 0 [(0, .ref (h 0)), (1, .int (nI w))] []
  refine xw_iconst (v := nI 0) B dX0_distance_0 (by decide) ?_
  refine xw_istore_n (i := 2) B dX0_distance_1 rfl (by decide) ?_
  refine xw_loc [(2, .int (nI 0)), (0, .ref (h 0)), (1, .int (nI w))] ⟨rfl, rfl, rfl, trivial⟩ ?_
  exact c_distance_loop σ w S hw C (y.length + 1) 0 (by omega) (by omega) (fun t ht => by omega)
end
section
/-! what statements read and write; the compiler's straight part -/
theorem c_writes (σ : Sg) (g : Pg) (S : Sx σ g) (i : Nat) (hi : i < pN g) : XA 0 yX0_writes cX0_writes 3 (some .int) [.int (nI i)] σ (fun r τ => τ = σ ∧ (pK g i ≤ 6 → r = some (nI (pA g i))) ∧ (7 ≤ pK g i → r = some (-1))) := by
  obtain ⟨⟨hn, hok⟩, h0, hs⟩ := S
  obtain ⟨k1, k2, k3, k4⟩ := hok i hi
  obtain ⟨s1, s2, s3, s4, s5⟩ := hs i hi
  refine xa_ofI [nI i] (by decide) rfl (Nat.le_of_ble_eq_true rfl) (fun X D h d C => ?_)
  have B := C.1
  show XW X _ 0 [(0, .ref (h 0)), (1, .int (nI i))] []
  refine xw_aload_n B dX0_writes_0 rfl ?_
  refine xa_getA C 1 (by decide) rfl q43 dX0_writes_1 ?_
  refine xw_iload_n B dX0_writes_4 rfl ?_
  refine xa_bald C 1 0 1 rfl rfl (by decide) dX0_writes_5 (i) (rfl) (by omega) (s1) ?_
  refine xw_istore_n (i := 2) B dX0_writes_6 rfl (by decide) ?_
  refine xw_iload_n B dX0_writes_7 rfl ?_
  refine xw_if_ne (tgt := 18) B dX0_writes_8 (by decide) (fun c1 => ?_) (fun c1 => ?_)
  · rw [z0eq (by omega)] at c1
    refine xw_iload_n B dX0_writes_18 rfl ?_
    refine xw_bipush (v := nI 6) B dX0_writes_19 (by decide) ?_
    refine xw_icmp_gt (tgt := 33) B dX0_writes_21 (by decide) (fun c2 => ?_) (fun c2 => ?_)
    · rw [zlt (by omega) (by omega)] at c2
      refine xw_iconst (v := (-1)) B dX0_writes_33 (by decide) ?_
      exact xa_iret C rfl (rfl) dX0_writes_34 (⟨rfl, fun q => by omega, fun _ => rfl⟩)
    · rw [zlt (by omega) (by omega)] at c2
      refine xw_aload_n B dX0_writes_24 rfl ?_
      refine xa_getA C 2 (by decide) rfl q44 dX0_writes_25 ?_
      refine xw_iload_n B dX0_writes_28 rfl ?_
      refine xa_iald C 2 1 2 rfl rfl (by decide) dX0_writes_29 (i) (rfl) (by omega) (s3 (by omega) (by omega) (by omega)) ?_
      refine xw_goto (tgt := 34) B dX0_writes_30 (by decide) ?_
      exact xa_iret C rfl (rfl) dX0_writes_34 (⟨rfl, fun _ => rfl, fun q => by omega⟩)
  · rw [z0eq (by omega)] at c1
    refine xw_aload_n B dX0_writes_11 rfl ?_
    refine xa_getA C 3 (by decide) rfl q45 dX0_writes_12 ?_
    refine xw_iload_n B dX0_writes_15 rfl ?_
    refine xa_bald C 3 2 3 rfl rfl (by decide) dX0_writes_16 (i) (rfl) (by omega) ((s2 c1).2) ?_
    exact xa_iret C rfl (rfl) dX0_writes_17 (⟨rfl, fun _ => rfl, fun q => by omega⟩)
theorem c_reads (σ : Sg) (g : Pg) (S : Sx σ g) (i v : Nat) (hi : i < pN g) (hv : v ≤ 5) : XA 0 yX0_reads cX0_reads 4 (some .boolean) [.int (nI i), .int (nI v)] σ (fun r τ => τ = σ ∧ r = some (bI (rd g i v))) := by
  obtain ⟨⟨hn, hok⟩, h0, hs⟩ := S
  obtain ⟨k1, k2, k3, k4⟩ := hok i hi
  obtain ⟨s1, s2, s3, s4, s5⟩ := hs i hi
  refine xa_ofI [nI i, nI v] (by decide) rfl (Nat.le_of_ble_eq_true rfl) (fun X D h d C => ?_)
  have B := C.1
  show XW X _ 0 [(0, .ref (h 0)), (1, .int (nI i)), (2, .int (nI v))] []
  have J19 : pK g i = 7 ∨ pK g i = 8 → XW X (PA D h d σ) 19 [(3, .int (nI (pK g i))), (0, .ref (h 0)), (1, .int (nI i)), (2, .int (nI v))] [] := by
    intro hk
    refine xw_aload_n B dX0_reads_19 rfl ?_
    refine xa_getA C 2 (by decide) rfl q44 dX0_reads_20 ?_
    refine xw_iload_n B dX0_reads_23 rfl ?_
    refine xa_iald C 2 1 2 rfl rfl (by decide) dX0_reads_24 (i) (rfl) (by omega) (s3 (by omega) (by omega) (by omega)) ?_
    refine xw_iload_n B dX0_reads_25 rfl ?_
    refine xw_icmp_ne (tgt := 33) B dX0_reads_26 (by decide) (fun c3 => ?_) (fun c3 => ?_)
    · rw [zeq (by omega) (by omega)] at c3
      refine xw_iconst (v := nI 0) B dX0_reads_33 (by decide) ?_
      exact xa_iret C rfl (rfl) dX0_reads_34 (⟨rfl, by rw [show rd g i v = false by simp [rd, hk, c3]]; rfl⟩)
    · rw [zeq (by omega) (by omega)] at c3
      refine xw_iconst (v := nI 1) B dX0_reads_29 (by decide) ?_
      refine xw_goto (tgt := 34) B dX0_reads_30 (by decide) ?_
      exact xa_iret C rfl (rfl) dX0_reads_34 (⟨rfl, by rw [show rd g i v = true by simp [rd, hk, c3]]; rfl⟩)
  refine xw_aload_n B dX0_reads_0 rfl ?_
  refine xa_getA C 1 (by decide) rfl q43 dX0_reads_1 ?_
  refine xw_iload_n B dX0_reads_4 rfl ?_
  refine xa_bald C 1 0 1 rfl rfl (by decide) dX0_reads_5 (i) (rfl) (by omega) (s1) ?_
  refine xw_istore_n (i := 3) B dX0_reads_6 rfl (by decide) ?_
  refine xw_iload_n B dX0_reads_7 rfl ?_
  refine xw_bipush (v := nI 7) B dX0_reads_8 (by decide) ?_
  refine xw_loc [(3, .int (nI (pK g i))), (0, .ref (h 0)), (1, .int (nI i)), (2, .int (nI v))] ⟨rfl, rfl, rfl, rfl, trivial⟩ ?_
  refine xw_icmp_eq (tgt := 19) B dX0_reads_10 (by decide) (fun c1 => ?_) (fun c1 => ?_)
  · rw [zeq (by omega) (by omega)] at c1
    exact J19 (Or.inl c1)
  · rw [zeq (by omega) (by omega)] at c1
    refine xw_iload_n B dX0_reads_13 rfl ?_
    refine xw_bipush (v := nI 8) B dX0_reads_14 (by decide) ?_
    refine xw_icmp_ne (tgt := 35) B dX0_reads_16 (by decide) (fun c2 => ?_) (fun c2 => ?_)
    · rw [zeq (by omega) (by omega)] at c2
      refine xw_iload_n B dX0_reads_35 rfl ?_
      refine xw_iconst (v := nI 1) B dX0_reads_36 (by decide) ?_
      refine xw_icmp_ne (tgt := 56) B dX0_reads_37 (by decide) (fun c3 => ?_) (fun c3 => ?_)
      · rw [zeq (by omega) (by omega)] at c3
        have J93 : ¬ (2 ≤ pK g i ∧ pK g i ≤ 6) → XW X (PA D h d σ) 93 [(3, .int (nI (pK g i))), (0, .ref (h 0)), (1, .int (nI i)), (2, .int (nI v))] [] := by
          intro hk
          refine xw_iconst (v := nI 0) B dX0_reads_93 (by decide) ?_
          exact xa_iret C rfl (rfl) dX0_reads_94 (⟨rfl, by rw [show rd g i v = false by simp only [rd]; rw [if_neg (by omega), if_neg c3, if_neg hk]]; rfl⟩)
        refine xw_iload_n B dX0_reads_56 rfl ?_
        refine xw_iconst (v := nI 2) B dX0_reads_57 (by decide) ?_
        refine xw_icmp_lt (tgt := 93) B dX0_reads_58 (by decide) (fun c4 => ?_) (fun c4 => ?_)
        · rw [zlt (by omega) (by omega)] at c4
          exact J93 (by omega)
        · rw [zlt (by omega) (by omega)] at c4
          refine xw_iload_n B dX0_reads_61 rfl ?_
          refine xw_bipush (v := nI 6) B dX0_reads_62 (by decide) ?_
          refine xw_icmp_gt (tgt := 93) B dX0_reads_64 (by decide) (fun c5 => ?_) (fun c5 => ?_)
          · rw [zlt (by omega) (by omega)] at c5
            exact J93 (by omega)
          · rw [zlt (by omega) (by omega)] at c5
            have hb := k3 (by omega) (by omega)
            have hc := k4 (by omega) (by omega)
            have hr : rd g i v = (pB g i == v || pC g i == v) := by
              simp only [rd]
              rw [if_neg (by omega), if_neg c3, if_pos (by omega)]
            refine xw_aload_n B dX0_reads_67 rfl ?_
            refine xa_getA C 3 (by decide) rfl q45 dX0_reads_68 ?_
            refine xw_iload_n B dX0_reads_71 rfl ?_
            refine xa_bald C 3 2 3 rfl rfl (by decide) dX0_reads_72 (i) (rfl) (by omega) (s4 (by omega) (by omega)) ?_
            refine xw_iload_n B dX0_reads_73 rfl ?_
            refine xw_icmp_eq (tgt := 87) B dX0_reads_74 (by decide) (fun c6 => ?_) (fun c6 => ?_)
            · rw [zeq (by omega) (by omega)] at c6
              refine xw_iconst (v := nI 1) B dX0_reads_87 (by decide) ?_
              refine xw_goto (tgt := 92) B dX0_reads_88 (by decide) ?_
              exact xa_iret C rfl (rfl) dX0_reads_92 (⟨rfl, by rw [hr, show (pB g i == v || pC g i == v) = true by simp [c6]]; rfl⟩)
            · rw [zeq (by omega) (by omega)] at c6
              refine xw_aload_n B dX0_reads_77 rfl ?_
              refine xa_getA C 4 (by decide) rfl q46 dX0_reads_78 ?_
              refine xw_iload_n B dX0_reads_81 rfl ?_
              refine xa_bald C 4 3 4 rfl rfl (by decide) dX0_reads_82 (i) (rfl) (by omega) (s5 (by omega) (by omega)) ?_
              refine xw_iload_n B dX0_reads_83 rfl ?_
              refine xw_icmp_ne (tgt := 91) B dX0_reads_84 (by decide) (fun c7 => ?_) (fun c7 => ?_)
              · rw [zeq (by omega) (by omega)] at c7
                refine xw_iconst (v := nI 0) B dX0_reads_91 (by decide) ?_
                exact xa_iret C rfl (rfl) dX0_reads_92 (⟨rfl, by rw [hr, show (pB g i == v || pC g i == v) = false by simp [c6, c7]]; rfl⟩)
              · rw [zeq (by omega) (by omega)] at c7
                refine xw_iconst (v := nI 1) B dX0_reads_87 (by decide) ?_
                refine xw_goto (tgt := 92) B dX0_reads_88 (by decide) ?_
                exact xa_iret C rfl (rfl) dX0_reads_92 (⟨rfl, by rw [hr, show (pB g i == v || pC g i == v) = true by simp [c7]]; rfl⟩)
      · rw [zeq (by omega) (by omega)] at c3
        have hb := k3 (by omega) (by omega)
        have hr : rd g i v = (pB g i == v) := by
          simp only [rd]
          rw [if_neg (by omega), if_pos c3]
        refine xw_aload_n B dX0_reads_40 rfl ?_
        refine xa_getA C 3 (by decide) rfl q45 dX0_reads_41 ?_
        refine xw_iload_n B dX0_reads_44 rfl ?_
        refine xa_bald C 3 2 3 rfl rfl (by decide) dX0_reads_45 (i) (rfl) (by omega) (s4 (by omega) (by omega)) ?_
        refine xw_iload_n B dX0_reads_46 rfl ?_
        refine xw_icmp_ne (tgt := 54) B dX0_reads_47 (by decide) (fun c4 => ?_) (fun c4 => ?_)
        · rw [zeq (by omega) (by omega)] at c4
          refine xw_iconst (v := nI 0) B dX0_reads_54 (by decide) ?_
          exact xa_iret C rfl (rfl) dX0_reads_55 (⟨rfl, by rw [hr, show (pB g i == v) = false by simp [c4]]; rfl⟩)
        · rw [zeq (by omega) (by omega)] at c4
          refine xw_iconst (v := nI 1) B dX0_reads_50 (by decide) ?_
          refine xw_goto (tgt := 55) B dX0_reads_51 (by decide) ?_
          exact xa_iret C rfl (rfl) dX0_reads_55 (⟨rfl, by rw [hr, show (pB g i == v) = true by simp [c4]]; rfl⟩)
    · rw [zeq (by omega) (by omega)] at c2
      exact J19 (Or.inr c2)
end
section
theorem c_wantedAfter_loop (σ : Sg) (g : Pg) (S : Sx σ g) (i v : Nat) (hi : i < pN g) (hv : v ≤ 5) {X : CX} {D : va_G} {h : Nat → Nat} {d : Nat → ClassId} {lv : Nat} (hlv : 1 ≤ lv)
    (C : CA X cX0_wantedAfter 4 (some .boolean) lv D h d (fun r τ => τ = σ ∧ r = some (bI (wan g (i + 1) v)))) :
    ∀ (f j : Nat), j ≤ pN g → pN g < j + f → wan g j v = wan g (i + 1) v → XW X (PA D h d σ) 4 [(3, .int (nI j)), (0, .ref (h 0)), (1, .int (nI i)), (2, .int (nI v))] [] := by
  have B := C.1
  have hn : pN g ≤ 40 := S.1.1
  intro f
  induction f with
  | zero => intro j h1 h2; omega
  | succ f ih =>
    intro j h1 h2 h3
    refine xw_aload_n B dX0_wantedAfter_4 rfl ?_
    refine xw_iload_n B dX0_wantedAfter_5 rfl ?_
    refine xa_calli C (lw_V q133 q135 qs3 q32 q136) hdX0_isBoundary (by omega) (by decide) rfl (Nat.le_of_ble_eq_true rfl) dX0_wantedAfter_6 (c_isBoundary σ (pN g) j (pK g j) S.2.1 hn (by omega) (fun q => ⟨(S.2.2 j q).1, (S.1.2 j q).1⟩)) rfl (fun r τ hp => ?_)
    obtain ⟨e1, e2⟩ := hp
    cases e2
    rw [e1]
    clear e1
    by_cases hb : pN g ≤ j ∨ 8 ≤ pK g j
    · rw [if_pos hb]
      refine xw_if_ne (tgt := 40) B dX0_wantedAfter_9 (by decide) (fun _ => ?_) (fun q => absurd q (by decide))
      refine xw_iconst (v := nI 1) B dX0_wantedAfter_40 (by decide) ?_
      refine xa_iret C rfl rfl dX0_wantedAfter_41 ⟨rfl, ?_⟩
      rw [← h3]
      have : wan g j v = true := by
        rcases hb with q | q
        · exact wan_end q
        · exact wan_bd q
      rw [this]
      rfl
    · rw [if_neg hb]
      have hj : j < pN g := by omega
      have hw := wan_st (v := v) hj (by omega)
      refine xw_if_ne (tgt := 40) B dX0_wantedAfter_9 (by decide) (fun q => absurd (rfl) q) (fun _ => ?_)
      refine xw_aload_n B dX0_wantedAfter_12 rfl ?_
      refine xw_iload_n B dX0_wantedAfter_13 rfl ?_
      refine xw_iload_n B dX0_wantedAfter_14 rfl ?_
      refine xa_calli C (lw_V q181 q183 qs15 q32 q184) hdX0_reads (by omega) (by decide) rfl (Nat.le_of_ble_eq_true rfl) dX0_wantedAfter_15 (c_reads σ g S j v hj hv) rfl (fun r τ hp => ?_)
      obtain ⟨e1, e2⟩ := hp
      cases e2
      rw [e1]
      clear e1
      refine xw_if_eq (tgt := 23) B dX0_wantedAfter_18 (by decide) (fun c1 => ?_) (fun c1 => ?_)
      · rw [bI_0] at c1
        refine xw_aload_n B dX0_wantedAfter_23 rfl ?_
        refine xw_iload_n B dX0_wantedAfter_24 rfl ?_
        refine xa_calli C (lw_V q173 q175 qs13 q32 q176) hdX0_writes (by omega) (by decide) rfl (Nat.le_of_ble_eq_true rfl) dX0_wantedAfter_25 (c_writes σ g S j hj) rfl (fun r τ hp => ?_)
        obtain ⟨e1, e2, e3⟩ := hp
        rw [e1]
        clear e1
        have hA : pK g j ≤ 6 → pA g j ≤ 5 := fun q => (S.1.2 j hj).2.1 (by omega) (by omega)
        have hr : r = nI v ↔ wrt g j v = true := by
          by_cases hk : pK g j ≤ 6
          · have := e2 hk
            cases this
            have := hA hk
            rw [zeq (by omega) (by omega)]
            simp [wrt, hk]
          · have := e3 (by omega)
            cases this
            simp only [wrt, hk]
            simp
            have : ∀ v, v ≤ 5 → (-1 : Int32) ≠ nI v := by decide
            exact this v hv
        refine xw_iload_n B dX0_wantedAfter_28 rfl ?_
        refine xw_icmp_ne (tgt := 34) B dX0_wantedAfter_29 (by decide) (fun c2 => ?_) (fun c2 => ?_)
        · rw [hr] at c2
          refine xw_iinc B dX0_wantedAfter_34 rfl (zinc j) (by decide) ?_
          refine xw_goto (tgt := 4) B dX0_wantedAfter_37 (by decide) ?_
          refine xw_loc [(3, .int (nI (j + 1))), (0, .ref (h 0)), (1, .int (nI i)), (2, .int (nI v))] ⟨rfl, rfl, rfl, rfl, trivial⟩ ?_
          refine ih (j + 1) (by omega) (by omega) ?_
          rw [← h3, hw, if_neg (by simp [c1]), if_neg c2]
        · rw [hr] at c2
          refine xw_iconst (v := nI 0) B dX0_wantedAfter_32 (by decide) ?_
          refine xa_iret C rfl rfl dX0_wantedAfter_33 ⟨rfl, ?_⟩
          rw [← h3, hw, if_neg (by simp [c1]), if_pos c2]
          rfl
      · rw [bI_0] at c1
        have c1 : rd g j v = true := by
          cases hq : rd g j v
          · exact absurd hq c1
          · rfl
        refine xw_iconst (v := nI 1) B dX0_wantedAfter_21 (by decide) ?_
        refine xa_iret C rfl rfl dX0_wantedAfter_22 ⟨rfl, ?_⟩
        rw [← h3, hw, if_pos c1]
        rfl
theorem c_wantedAfter (σ : Sg) (g : Pg) (S : Sx σ g) (i v : Nat) (hi : i < pN g) (hv : v ≤ 5) : XA 1 yX0_wantedAfter cX0_wantedAfter 4 (some .boolean) [.int (nI i), .int (nI v)] σ (fun r τ => τ = σ ∧ r = some (bI (wan g (i + 1) v))) := by
  refine xa_ofI [nI i, nI v] (by decide) rfl (Nat.le_of_ble_eq_true rfl) (fun X D h d C => ?_)
  have B := C.1
  show XW X _ 0 [(0, .ref (h 0)), (1, .int (nI i)), (2, .int (nI v))] []
  refine xw_iload_n B dX0_wantedAfter_0 rfl ?_
  refine xw_iconst (v := nI 1) B dX0_wantedAfter_1 (by decide) ?_
  refine xw_iadd B dX0_wantedAfter_2 (nI_add i 1) ?_
  refine xw_istore_n (i := 3) B dX0_wantedAfter_3 rfl (by decide) ?_
  refine xw_loc [(3, .int (nI (i + 1))), (0, .ref (h 0)), (1, .int (nI i)), (2, .int (nI v))] ⟨rfl, rfl, rfl, rfl, trivial⟩ ?_
  exact c_wantedAfter_loop σ g S i v hi hv (Nat.le_refl 1) C (pN g + 1) (i + 1) (by omega) (by omega) rfl
theorem c_pullUp_loop (σ σ1 : Sg) (w : Nat) {y : List Nat} {c c1 : List (Nat × Int32)} (F : Fr σ σ1) (S : St σ1 y c1) (hw : w ∈ y) (hw2 : w < 128) {X : CX} {D : va_G} {h : Nat → Nat} {d : Nat → ClassId} {lv : Nat}
    (C : CA X cX0_pullUp 4 none lv D h d (fun r τ => r = none ∧ St τ (w :: y.eraseIdx (dx y w)) c1 ∧ Fr σ τ)) :
    ∀ (f i : Nat), y.length - 1 - dx y w ≤ i → i ≤ y.length - 1 → y.length - 1 < i + f → XW X (PA D h d (sh σ1 11 (y.length - 1 - dx y w) i)) 26 [(3, .int (nI i)), (0, .ref (h 0)), (1, .int (nI w))] [] := by
  have B := C.1
  have hdl := dx_lt hw
  have h12 : ∀ i, sh σ1 11 (y.length - 1 - dx y w) i 0 12 = nI y.length := fun i => by rw [sh_o _ (by decide)]; exact S.1.1
  have hld := S.1.2.1
  intro f
  induction f with
  | zero => intro i h1 h2; omega
  | succ f ih =>
    intro i h1 h2 h3
    refine xw_iload_n B dX0_pullUp_26 rfl ?_
    refine xw_aload_n B dX0_pullUp_27 rfl ?_
    refine xa_getS C 12 (by decide) rfl q54 dX0_pullUp_28 (h12 i) ?_
    refine xw_iconst (v := nI 1) B dX0_pullUp_31 (by decide) ?_
    refine xw_isub B dX0_pullUp_32 (zsub (by omega)) ?_
    refine xw_icmp_ge (tgt := 56) B dX0_pullUp_33 (by decide) (fun q1 => ?_) (fun q1 => ?_)
    · rw [zle (by omega) (by omega)] at q1
      have ei : i = y.length - 1 := by omega
      subst ei
      refine xw_aload_n B dX0_pullUp_56 rfl ?_
      refine xa_getA C 11 (by decide) rfl q53 dX0_pullUp_57 ?_
      refine xw_aload_n B dX0_pullUp_60 rfl ?_
      refine xa_getS C 12 (by decide) rfl q54 dX0_pullUp_61 (h12 _) ?_
      refine xw_iconst (v := nI 1) B dX0_pullUp_64 (by decide) ?_
      refine xw_isub B dX0_pullUp_65 (zsub (by omega)) ?_
      refine xw_iload_n B dX0_pullUp_66 rfl ?_
      refine xw_i2b B dX0_pullUp_67 (z8 w hw2) ?_
      refine xa_bast C 8 7 11 rfl rfl (xa_s11 h d _) (by decide) dX0_pullUp_68 (y.length - 1) (rfl) (by omega) (z8n w hw2) ?_
      exact xa_vret C rfl dX0_pullUp_69 ⟨rfl, (S.pull (dx_in hw)).1, F.tr (S.pull (dx_in hw)).2⟩
    · rw [zle (by omega) (by omega)] at q1
      obtain ⟨v, hv⟩ : ∃ v, y[y.length - 2 - i]? = some v := ⟨_, List.getElem?_eq_getElem (by omega)⟩
      have hs := S.1.2.2 _ v hv
      rw [show y.length - 1 - (y.length - 2 - i) = i + 1 by omega] at hs
      refine xw_aload_n B dX0_pullUp_36 rfl ?_
      refine xa_getA C 11 (by decide) rfl q53 dX0_pullUp_37 ?_
      refine xw_iload_n B dX0_pullUp_40 rfl ?_
      refine xw_aload_n B dX0_pullUp_41 rfl ?_
      refine xa_getA C 11 (by decide) rfl q53 dX0_pullUp_42 ?_
      refine xw_iload_n B dX0_pullUp_45 rfl ?_
      refine xw_iconst (v := nI 1) B dX0_pullUp_46 (by decide) ?_
      refine xw_iadd B dX0_pullUp_47 (nI_add i 1) ?_
      refine xa_bald C 8 7 11 rfl rfl (by decide) dX0_pullUp_48 (i + 1) (rfl) (by omega) ((sh_at σ1).trans hs.1) ?_
      refine xa_bast C 8 7 11 rfl rfl (xa_s11 h d _) (by decide) dX0_pullUp_49 (i) (rfl) (by omega) (z8n v hs.2) ?_
      refine xw_iinc B dX0_pullUp_50 rfl (zinc i) (by decide) ?_
      refine xw_goto (tgt := 26) B dX0_pullUp_53 (by decide) ?_
      rw [← hs.1, sh_s σ1 h1]
      refine xw_loc [(3, .int (nI (i + 1))), (0, .ref (h 0)), (1, .int (nI w))] ⟨rfl, rfl, rfl, trivial⟩ ?_
      exact ih (i + 1) (by omega) (by omega) (by omega)
theorem c_pullUp (σ : Sg) (w : Nat) {y : List Nat} {c : List (Nat × Int32)} (S : St σ y c) (hw : w ∈ y) (hw2 : w < 128) (hc : c.length < 560) : XA 1 yX0_pullUp cX0_pullUp 4 none [.int (nI w)] σ (fun r τ => r = none ∧ St τ (w :: y.eraseIdx (dx y w)) (c ++ plC (dx y w)) ∧ Fr σ τ) := by
  refine xa_ofI [nI w] (by decide) rfl (Nat.le_of_ble_eq_true rfl) (fun X D h d C => ?_)
  have B := C.1
  show XW X _ 0 [(0, .ref (h 0)), (1, .int (nI w))] []
  have hdl := dx_lt hw
  have hld := S.1.2.1
  have J17 : ∀ σ1 : Sg, St σ1 y (c ++ plC (dx y w)) → Fr σ σ1 → XW X (PA D h d σ1) 17 [(2, .int (nI (dx y w))), (0, .ref (h 0)), (1, .int (nI w))] [] := by
    intro σ1 S1 F1
    refine xw_aload_n B dX0_pullUp_17 rfl ?_
    refine xa_getS C 12 (by decide) rfl q54 dX0_pullUp_18 (S1.1.1) ?_
    refine xw_iconst (v := nI 1) B dX0_pullUp_21 (by decide) ?_
    refine xw_isub B dX0_pullUp_22 (zsub (by omega)) ?_
    refine xw_iload_n B dX0_pullUp_23 rfl ?_
    refine xw_isub B dX0_pullUp_24 (zsub (by omega)) ?_
    refine xw_istore_n (i := 3) B dX0_pullUp_25 rfl (by decide) ?_
    refine xw_loc [(3, .int (nI (y.length - 1 - dx y w))), (0, .ref (h 0)), (1, .int (nI w))] ⟨rfl, rfl, rfl, trivial⟩ ?_
    have := c_pullUp_loop (c := c) σ σ1 w F1 S1 hw hw2 C (y.length + 1) (y.length - 1 - dx y w) (Nat.le_refl _) (by omega) (by omega)
    rw [sh_0] at this
    exact this
  refine xw_aload_n B dX0_pullUp_0 rfl ?_
  refine xw_iload_n B dX0_pullUp_1 rfl ?_
  refine xa_calli C (lw_V q149 q151 qs7 q32 q152) hdX0_distance (by decide) (by decide) rfl (Nat.le_of_ble_eq_true rfl) dX0_pullUp_2 (c_distance σ w S hw2) rfl (fun r τ hp => ?_)
  obtain ⟨e1, e2, -⟩ := hp
  have e2 := e2 hw
  cases e2
  rw [e1]
  clear e1
  refine xw_istore_n (i := 2) B dX0_pullUp_5 rfl (by decide) ?_
  refine xw_iload_n B dX0_pullUp_6 rfl ?_
  refine xw_if_le (tgt := 17) B dX0_pullUp_7 (by decide) (fun c1 => ?_) (fun c1 => ?_)
  · rw [z0le (by omega)] at c1
    refine xw_loc [(2, .int (nI (dx y w))), (0, .ref (h 0)), (1, .int (nI w))] ⟨rfl, rfl, rfl, trivial⟩ ?_
    refine J17 σ ?_ (Fr.rf σ)
    rw [show dx y w = 0 by omega]
    simpa [plC] using S
  · rw [z0le (by omega)] at c1
    refine xw_aload_n B dX0_pullUp_10 rfl ?_
    refine xw_bipush (v := nI 7) B dX0_pullUp_11 (by decide) ?_
    refine xw_iload_n B dX0_pullUp_13 rfl ?_
    refine xa_callv C (lw_V q153 q155 qs8 q32 q156) hdX0_write (by decide) (by decide) rfl (Nat.le_of_ble_eq_true rfl) dX0_pullUp_14 (c_write σ 7 (nI (dx y w)) S hc (by decide)) rfl (fun τ hp => ?_)
    refine xw_loc [(2, .int (nI (dx y w))), (0, .ref (h 0)), (1, .int (nI w))] ⟨rfl, rfl, rfl, trivial⟩ ?_
    refine J17 τ ?_ hp.2.2
    rw [plC, if_neg (by omega)]
    exact hp.2.1
end
section
/-! fetch, settle, arithmetic, straight statements -/
abbrev Ly : Type := List Nat × List (Nat × Int32)
def ft (g : Pg) (i v : Nat) (ag : Bool) (s : Ly) : Ly := if (wrt g i v || !wan g (i + 1) v) && !ag then (9 :: s.1.eraseIdx (dx s.1 v), s.2 ++ plC (dx s.1 v)) else (9 :: s.1, s.2 ++ [(1, nI (dx s.1 v))])
theorem c_fetch (σ : Sg) (g : Pg) (S : Sx σ g) (i v : Nat) (ag : Bool) {y : List Nat} {c : List (Nat × Int32)} (T : St σ y c) (hi : i < pN g) (hv : v ≤ 5) (hy : v ∈ y) (hyl : y.length < 16) (hc : c.length < 560) : XA 2 yX0_fetch cX0_fetch 6 none [.int (nI i), .int (nI v), .int (bI ag)] σ (fun r τ => r = none ∧ St τ (ft g i v ag (y, c)).1 (ft g i v ag (y, c)).2 ∧ Fr σ τ) := by
  refine xa_ofI [nI i, nI v, bI ag] (by decide) rfl (Nat.le_of_ble_eq_true rfl) (fun X D h d C => ?_)
  have B := C.1
  show XW X _ 0 [(0, .ref (h 0)), (1, .int (nI i)), (2, .int (nI v)), (3, .int (bI ag))] []
  have hdl := dx_lt hy
  have hn : pN g ≤ 40 := S.1.1
  have J53 : (((wrt g i v || !wan g (i + 1) v) && !ag) = false) → ∀ z : Int32, XW X (PA D h d σ) 53 [(4, .int z), (0, .ref (h 0)), (1, .int (nI i)), (2, .int (nI v)), (3, .int (bI ag))] [] := by
    intro hf z
    refine xw_aload_n B dX0_fetch_53 rfl ?_
    refine xw_iload_n B dX0_fetch_54 rfl ?_
    refine xa_calli C (lw_V q149 q151 qs7 q32 q152) hdX0_distance (by decide) (by decide) rfl (Nat.le_of_ble_eq_true rfl) dX0_fetch_55 (c_distance σ v T (by omega)) rfl (fun r τ hp => ?_)
    obtain ⟨e1, e2, -⟩ := hp
    have e2 := e2 hy
    cases e2
    rw [e1]
    clear e1
    refine xw_istore B dX0_fetch_58 (by decide) ?_
    refine xw_aload_n B dX0_fetch_60 rfl ?_
    refine xw_iconst (v := nI 1) B dX0_fetch_61 (by decide) ?_
    refine xw_iload B dX0_fetch_62 rfl ?_
    refine xa_callv C (lw_V q153 q155 qs8 q32 q156) hdX0_write (by decide) (by decide) rfl (Nat.le_of_ble_eq_true rfl) dX0_fetch_64 (c_write σ 1 (nI (dx y v)) T hc (by decide)) rfl (fun τ hp => ?_)
    refine xw_aload_n B dX0_fetch_67 rfl ?_
    refine xw_bipush (v := nI 9) B dX0_fetch_68 (by decide) ?_
    refine xa_callv C (lw_V q129 q131 qs2 q32 q132) hdX0_pushLayout (by decide) (by decide) rfl (Nat.le_of_ble_eq_true rfl) dX0_fetch_70 (c_pushLayout τ 9 hp.2.1 hyl (by decide)) rfl (fun υ hu => ?_)
    refine xa_vret C rfl dX0_fetch_73 ?_
    rw [show ft g i v ag (y, c) = (9 :: y, c ++ [(1, nI (dx y v))]) by rw [ft, if_neg (by rw [hf]; decide)]]
    exact ⟨rfl, hu.2.1, hp.2.2.tr hu.2.2⟩
  have J23 : XW X (PA D h d σ) 23 [(0, .ref (h 0)), (1, .int (nI i)), (2, .int (nI v)), (3, .int (bI ag))] [.int (bI (wrt g i v || !wan g (i + 1) v))] := by
    generalize hq : (wrt g i v || !wan g (i + 1) v) = last
    refine xw_istore B dX0_fetch_23 (by decide) ?_
    refine xw_iload B dX0_fetch_25 rfl ?_
    refine xw_if_eq (tgt := 53) B dX0_fetch_27 (by decide) (fun c1 => ?_) (fun c1 => ?_)
    · rw [bI_0] at c1
      exact J53 (by rw [hq, c1]; rfl) _
    · rw [bI_0] at c1
      refine xw_iload_n B dX0_fetch_30 rfl ?_
      refine xw_if_ne (tgt := 53) B dX0_fetch_31 (by decide) (fun c2 => ?_) (fun c2 => ?_)
      · rw [bI_0] at c2
        exact J53 (by rw [hq]; cases ag <;> simp_all) _
      · rw [bI_0] at c2
        refine xw_aload_n B dX0_fetch_34 rfl ?_
        refine xw_iload_n B dX0_fetch_35 rfl ?_
        refine xa_callv C (lw_V q145 q147 qs6 q32 q148) hdX0_pullUp (by decide) (by decide) rfl (Nat.le_of_ble_eq_true rfl) dX0_fetch_36 (c_pullUp σ v T hy (by omega) hc) rfl (fun τ hp => ?_)
        have hE := hp.2.1.1.1
        refine xw_aload_n B dX0_fetch_39 rfl ?_
        refine xa_getA C 11 (by decide) rfl q53 dX0_fetch_40 ?_
        refine xw_aload_n B dX0_fetch_43 rfl ?_
        refine xa_getS C 12 (by decide) rfl q54 dX0_fetch_44 (hE) ?_
        refine xw_iconst (v := nI 1) B dX0_fetch_47 (by decide) ?_
        refine xw_isub B dX0_fetch_48 (zsub (by simp)) ?_
        refine xw_bipush (v := nI 9) B dX0_fetch_49 (by decide) ?_
        refine xa_bast C 8 7 11 rfl rfl (xa_s11 h d _) (by decide) dX0_fetch_51 ((y.eraseIdx (dx y v)).length) (rfl) (by have := List.length_eraseIdx_le y (dx y v); omega) (z8n 9 (by decide)) ?_
        refine xa_vret C rfl dX0_fetch_52 ?_
        rw [show ft g i v ag (y, c) = (9 :: y.eraseIdx (dx y v), c ++ plC (dx y v)) by rw [ft, if_pos (by rw [hq]; cases last <;> simp_all)]]
        exact ⟨rfl, (hp.2.1.top (by decide)).1, hp.2.2.tr (hp.2.1.top (by decide)).2⟩
  refine xw_aload_n B dX0_fetch_0 rfl ?_
  refine xw_iload_n B dX0_fetch_1 rfl ?_
  refine xa_calli C (lw_V q173 q175 qs13 q32 q176) hdX0_writes (by decide) (by decide) rfl (Nat.le_of_ble_eq_true rfl) dX0_fetch_2 (c_writes σ g S i hi) rfl (fun r τ hp => ?_)
  obtain ⟨e1, e2, e3⟩ := hp
  rw [e1]
  clear e1
  have hA : pK g i ≤ 6 → pA g i ≤ 5 := fun q => (S.1.2 i hi).2.1 (by omega) (by omega)
  have hr : r = nI v ↔ wrt g i v = true := by
    by_cases hk : pK g i ≤ 6
    · have := e2 hk
      cases this
      have := hA hk
      rw [zeq (by omega) (by omega)]
      simp [wrt, hk]
    · have := e3 (by omega)
      cases this
      simp only [wrt, hk]
      simp
      have : ∀ v, v ≤ 5 → (-1 : Int32) ≠ nI v := by decide
      exact this v hv
  refine xw_iload_n B dX0_fetch_5 rfl ?_
  refine xw_icmp_eq (tgt := 18) B dX0_fetch_6 (by decide) (fun c1 => ?_) (fun c1 => ?_)
  · rw [hr] at c1
    refine xw_iconst (v := nI 1) B dX0_fetch_18 (by decide) ?_
    refine xw_goto (tgt := 23) B dX0_fetch_19 (by decide) ?_
    rw [show (wrt g i v || !wan g (i + 1) v) = true by simp [c1]] at J23
    exact J23
  · rw [hr] at c1
    refine xw_aload_n B dX0_fetch_9 rfl ?_
    refine xw_iload_n B dX0_fetch_10 rfl ?_
    refine xw_iload_n B dX0_fetch_11 rfl ?_
    refine xa_calli C (lw_V q177 q179 qs14 q32 q180) hdX0_wantedAfter (by decide) (by decide) rfl (Nat.le_of_ble_eq_true rfl) dX0_fetch_12 (c_wantedAfter σ g S i v hi hv) rfl (fun r τ hp => ?_)
    obtain ⟨e1, e2⟩ := hp
    cases e2
    rw [e1]
    clear e1
    refine xw_if_ne (tgt := 22) B dX0_fetch_15 (by decide) (fun c2 => ?_) (fun c2 => ?_)
    · rw [bI_0] at c2
      refine xw_iconst (v := nI 0) B dX0_fetch_22 (by decide) ?_
      rw [show (wrt g i v || !wan g (i + 1) v) = false by simp_all] at J23
      exact J23
    · rw [bI_0] at c2
      refine xw_iconst (v := nI 1) B dX0_fetch_18 (by decide) ?_
      refine xw_goto (tgt := 23) B dX0_fetch_19 (by decide) ?_
      rw [show (wrt g i v || !wan g (i + 1) v) = true by simp_all] at J23
      exact J23
def stC (y : List Nat) (v : Nat) : List (Nat × Int32) := if v ∈ y then [(7, nI (dx y v + 1)), (8, 0)] else []
def stl (v : Nat) (s : Ly) : Ly := (v :: s.1.tail.eraseIdx (dx s.1.tail v), s.2 ++ stC s.1.tail v)
theorem dx_no {l : List Nat} {w : Nat} (h : w ∉ l) : dx l w = l.length := by
  induction l with
  | nil => rfl
  | cons a t ih =>
    rw [dx, if_neg (fun e => h (by rw [e]; exact List.mem_cons_self)), ih (fun e => h (List.mem_cons_of_mem _ e))]
    rfl
theorem c_settle (σ : Sg) (v : Nat) {y : List Nat} {c : List (Nat × Int32)} (T : St σ (9 :: y) c) (hv : v ≤ 5) (hc : c.length + 1 < 560) : XA 2 yX0_settle cX0_settle 2 none [.int (nI v)] σ (fun r τ => r = none ∧ St τ (stl v (9 :: y, c)).1 (stl v (9 :: y, c)).2 ∧ Fr σ τ) := by
  refine xa_ofI [nI v] (by decide) rfl (Nat.le_of_ble_eq_true rfl) (fun X D h d C => ?_)
  have B := C.1
  show XW X _ 0 [(0, .ref (h 0)), (1, .int (nI v))] []
  have hyl := T.1.2.1
  simp only [List.length_cons] at hyl
  have J30 : ∀ (σ1 : Sg) (a : Nat) (y1 : List Nat) (c1 : List (Nat × Int32)), St σ1 (a :: y1) c1 → Fr σ σ1 → (stl v (9 :: y, c)) = (v :: y1, c1) → XW X (PA D h d σ1) 30 [(0, .ref (h 0)), (1, .int (nI v))] [] := by
    intro σ1 a y1 c1 T1 F1 e
    have hl := T1.1.2.1
    simp only [List.length_cons] at hl
    refine xw_aload_n B dX0_settle_30 rfl ?_
    refine xa_getA C 11 (by decide) rfl q53 dX0_settle_31 ?_
    refine xw_aload_n B dX0_settle_34 rfl ?_
    refine xa_getS C 12 (by decide) rfl q54 dX0_settle_35 (T1.1.1) ?_
    refine xw_iconst (v := nI 1) B dX0_settle_38 (by decide) ?_
    refine xw_isub B dX0_settle_39 (zsub (by simp)) ?_
    refine xw_iload_n B dX0_settle_40 rfl ?_
    refine xw_i2b B dX0_settle_41 (z8 v (by omega)) ?_
    refine xa_bast C 8 7 11 rfl rfl (xa_s11 h d _) (by decide) dX0_settle_42 (y1.length) (rfl) (by omega) (z8n v (by omega)) ?_
    refine xa_vret C rfl dX0_settle_43 ?_
    rw [e]
    exact ⟨rfl, (T1.top (by omega)).1, F1.tr (T1.top (by omega)).2⟩
  have h9 : ¬ (9 : Nat) = v := by omega
  refine xw_aload_n B dX0_settle_0 rfl ?_
  refine xw_iload_n B dX0_settle_1 rfl ?_
  refine xa_calli C (lw_V q149 q151 qs7 q32 q152) hdX0_distance (by decide) (by decide) rfl (Nat.le_of_ble_eq_true rfl) dX0_settle_2 (c_distance σ v T (by omega)) rfl (fun r τ hp => ?_)
  obtain ⟨e1, e2, e3⟩ := hp
  rw [e1]
  clear e1
  by_cases hm : v ∈ y
  · have e2 := e2 (List.mem_cons_of_mem _ hm)
    cases e2
    have hdl := dx_lt hm
    have hdx : dx (9 :: y) v = dx y v + 1 := by rw [dx, if_neg h9]
    refine xw_if_lt (tgt := 30) B dX0_settle_5 (by decide) (fun q => absurd q (z0nl (by rw [hdx]; omega))) (fun _ => ?_)
    refine xw_aload_n B dX0_settle_8 rfl ?_
    refine xw_iload_n B dX0_settle_9 rfl ?_
    refine xa_callv C (lw_V q145 q147 qs6 q32 q148) hdX0_pullUp (by decide) (by decide) rfl (Nat.le_of_ble_eq_true rfl) dX0_settle_10 (c_pullUp σ v T (List.mem_cons_of_mem _ hm) (by omega) (by omega)) rfl (fun τ hp => ?_)
    have S1 := hp.2.1
    rw [hdx, plC, if_neg (by omega), List.eraseIdx_cons_succ] at S1
    refine xw_aload_n B dX0_settle_13 rfl ?_
    refine xw_bipush (v := nI 8) B dX0_settle_14 (by decide) ?_
    refine xw_iconst (v := nI 0) B dX0_settle_16 (by decide) ?_
    refine xa_callv C (lw_V q153 q155 qs8 q32 q156) hdX0_write (by decide) (by decide) rfl (Nat.le_of_ble_eq_true rfl) dX0_settle_17 (c_write τ 8 0 S1 (by simp; omega) (by decide)) rfl (fun υ hu => ?_)
    have hE := hu.2.1.1.1
    refine xw_aload_n B dX0_settle_20 rfl ?_
    refine xw_dup B dX0_settle_21 rfl ?_
    refine xa_getS C 12 (by decide) rfl q54 dX0_settle_22 (hE) ?_
    refine xw_iconst (v := nI 1) B dX0_settle_25 (by decide) ?_
    refine xw_isub B dX0_settle_26 ((zsub (by simp)).trans rfl) ?_
    refine xa_put (ty := .int) C 12 (by decide) (xa_f12 h d _ _) q54 rfl (by decide +kernel) (rfl) (rfl) dX0_settle_27 ?_
    refine J30 _ 9 (y.eraseIdx (dx y v)) _ hu.2.1.pop.1 ((hp.2.2.tr hu.2.2).tr hu.2.1.pop.2) ?_
    simp [stl, stC, hm]
  · have e3 := e3 (fun q => by
      rcases List.mem_cons.mp q with e | e
      · omega
      · exact hm e)
    cases e3
    refine xw_if_lt (tgt := 30) B dX0_settle_5 (by decide) (fun _ => ?_) (fun q => absurd (by decide) q)
    refine J30 _ 9 y _ T (Fr.rf σ) ?_
    rw [show stl v (9 :: y, c) = (v :: y.eraseIdx (dx y v), c ++ stC y v) from rfl, stC, if_neg hm, dx_no hm, List.eraseIdx_of_length_le (Nat.le_refl _), List.append_nil]
def arP (g : Pg) (i : Nat) (s : Ly) : Ly := if pB g i = pC g i then (9 :: (ft g i (pB g i) true s).1, (ft g i (pB g i) true s).2 ++ [(1, nI (dx (ft g i (pB g i) true s).1 (pB g i)))]) else ft g i (pC g i) false (ft g i (pB g i) false s)
def ar (g : Pg) (i : Nat) (s : Ly) : Ly := ((arP g i s).1.tail, (arP g i s).2 ++ [(pK g i, 0)])
theorem ft_cons (g : Pg) (i v : Nat) (ag : Bool) (s : Ly) : ∃ y, (ft g i v ag s).1 = 9 :: y := by
  unfold ft
  split
  · exact ⟨_, rfl⟩
  · exact ⟨_, rfl⟩
theorem ft_len (g : Pg) (i v : Nat) (ag : Bool) (s : Ly) : (ft g i v ag s).1.length ≤ s.1.length + 1 ∧ (ft g i v ag s).2.length ≤ s.2.length + 1 := by
  unfold ft
  split
  · refine ⟨?_, ?_⟩
    · have := List.length_eraseIdx_le s.1 (dx s.1 v)
      simp
      omega
    · simp only [List.length_append, plC]
      split <;> simp
  · simp
theorem er_mem {y : List Nat} {v w : Nat} (h : w ∈ y) (hne : w ≠ v) : w ∈ y.eraseIdx (dx y v) := by
  induction y with
  | nil => cases h
  | cons a t ih =>
    by_cases e : a = v
    · rw [dx, if_pos e]
      simp only [List.eraseIdx_cons_zero]
      rcases List.mem_cons.mp h with q | q
      · exact absurd (q.trans e) hne
      · exact q
    · rw [dx, if_neg e, List.eraseIdx_cons_succ]
      rcases List.mem_cons.mp h with q | q
      · rw [q]; exact List.mem_cons_self
      · exact List.mem_cons_of_mem _ (ih q)
theorem ft_mem {g : Pg} {i v w : Nat} {ag : Bool} {s : Ly} (h : w ∈ s.1) (hne : w ≠ v ∨ ag = true) : w ∈ (ft g i v ag s).1 := by
  unfold ft
  split
  · rename_i q
    rcases hne with e | e
    · exact List.mem_cons_of_mem _ (er_mem h e)
    · rw [e] at q
      simp at q
  · exact List.mem_cons_of_mem _ h
theorem c_compileArithmetic (σ : Sg) (g : Pg) (S : Sx σ g) (i : Nat) {y : List Nat} {c : List (Nat × Int32)} (T : St σ y c) (hi : i < pN g) (hk1 : 2 ≤ pK g i) (hk2 : pK g i ≤ 6) (hB : pB g i ∈ y) (hC : pC g i ∈ y) (hyl : y.length < 14) (hc : c.length + 3 < 560) : XA 3 yX0_compileArithmetic cX0_compileArithmetic 5 none [.int (nI i)] σ (fun r τ => r = none ∧ St τ (ar g i (y, c)).1 (ar g i (y, c)).2 ∧ Fr σ τ) := by
  have hn : pN g ≤ 40 := S.1.1
  have hb5 := (S.1.2 i hi).2.2.1 (by omega) hk2
  have hc5 := (S.1.2 i hi).2.2.2 hk1 hk2
  have s4 := (S.2.2 i hi).2.2.2.1 (by omega) hk2
  have s5 := (S.2.2 i hi).2.2.2.2 hk1 hk2
  refine xa_ofI [nI i] (by decide) rfl (Nat.le_of_ble_eq_true rfl) (fun X D h d C => ?_)
  have B := C.1
  show XW X _ 0 [(0, .ref (h 0)), (1, .int (nI i))] []
  have J65 : ∀ (σ1 : Sg) (a : Nat) (y1 : List Nat) (c1 : List (Nat × Int32)), St σ1 (a :: y1) c1 → Fr σ σ1 → arP g i (y, c) = (a :: y1, c1) → c1.length < 560 → ∀ L, lk L 0 = some (.ref (h 0)) → lk L 1 = some (.int (nI i)) → XW X (PA D h d σ1) 65 L [] := by
    intro σ1 a y1 c1 T1 F1 e hl1 L hL0 hL1
    have S1 := S.fr F1
    have s1 := (S1.2.2 i hi).1
    have hk := (S1.1.2 i hi).1
    refine xw_loc [(0, .ref (h 0)), (1, .int (nI i))] ⟨hL0, hL1, trivial⟩ ?_
    refine xw_aload_n B dX0_compileArithmetic_65 rfl ?_
    refine xw_aload_n B dX0_compileArithmetic_66 rfl ?_
    refine xa_getA C 1 (by decide) rfl q43 dX0_compileArithmetic_67 ?_
    refine xw_iload_n B dX0_compileArithmetic_70 rfl ?_
    refine xa_bald C 1 0 1 rfl rfl (by decide) dX0_compileArithmetic_71 (i) (rfl) (by omega) (s1) ?_
    refine xw_iconst (v := nI 0) B dX0_compileArithmetic_72 (by decide) ?_
    refine xa_callv C (lw_V q153 q155 qs8 q32 q156) hdX0_write (by decide) (by decide) rfl (Nat.le_of_ble_eq_true rfl) dX0_compileArithmetic_73 (c_write σ1 (pK g i) 0 T1 hl1 (by omega)) rfl (fun τ hp => ?_)
    have hE := hp.2.1.1.1
    refine xw_aload_n B dX0_compileArithmetic_76 rfl ?_
    refine xw_dup B dX0_compileArithmetic_77 rfl ?_
    refine xa_getS C 12 (by decide) rfl q54 dX0_compileArithmetic_78 (hE) ?_
    refine xw_iconst (v := nI 1) B dX0_compileArithmetic_81 (by decide) ?_
    refine xw_isub B dX0_compileArithmetic_82 ((zsub (by simp)).trans rfl) ?_
    refine xa_put (ty := .int) C 12 (by decide) (xa_f12 h d _ _) q54 rfl (by decide +kernel) (rfl) (rfl) dX0_compileArithmetic_83 ?_
    refine xa_vret C rfl dX0_compileArithmetic_86 ?_
    rw [ar, e]
    exact ⟨rfl, hp.2.1.pop.1, (F1.tr hp.2.2).tr hp.2.1.pop.2⟩
  refine xw_aload_n B dX0_compileArithmetic_0 rfl ?_
  refine xa_getA C 3 (by decide) rfl q45 dX0_compileArithmetic_1 ?_
  refine xw_iload_n B dX0_compileArithmetic_4 rfl ?_
  refine xa_bald C 3 2 3 rfl rfl (by decide) dX0_compileArithmetic_5 (i) (rfl) (by omega) (s4) ?_
  refine xw_istore_n (i := 2) B dX0_compileArithmetic_6 rfl (by decide) ?_
  refine xw_aload_n B dX0_compileArithmetic_7 rfl ?_
  refine xa_getA C 4 (by decide) rfl q46 dX0_compileArithmetic_8 ?_
  refine xw_iload_n B dX0_compileArithmetic_11 rfl ?_
  refine xa_bald C 4 3 4 rfl rfl (by decide) dX0_compileArithmetic_12 (i) (rfl) (by omega) (s5) ?_
  refine xw_istore_n (i := 3) B dX0_compileArithmetic_13 rfl (by decide) ?_
  refine xw_aload_n B dX0_compileArithmetic_14 rfl ?_
  refine xw_iload_n B dX0_compileArithmetic_15 rfl ?_
  refine xw_iload_n B dX0_compileArithmetic_16 rfl ?_
  refine xw_iload_n B dX0_compileArithmetic_17 rfl ?_
  refine xw_iload_n B dX0_compileArithmetic_18 rfl ?_
  by_cases hbc : pB g i = pC g i
  · have hl := ft_len g i (pB g i) true (y, c)
    refine xw_icmp_ne (tgt := 26) B dX0_compileArithmetic_19 (by decide) (fun q => absurd (by rw [hbc]) q) (fun _ => ?_)
    refine xw_iconst (v := nI 1) B dX0_compileArithmetic_22 (by decide) ?_
    refine xw_goto (tgt := 27) B dX0_compileArithmetic_23 (by decide) ?_
    refine xa_callv C (lw_V q169 q171 qs12 q32 q172) hdX0_fetch (by decide) (by decide) rfl (Nat.le_of_ble_eq_true rfl) dX0_compileArithmetic_27 (c_fetch σ g S i (pB g i) true T hi hb5 hB (by omega) (by omega)) rfl (fun τ hp => ?_)
    obtain ⟨-, T1, F1⟩ := hp
    have hm := ft_mem (g := g) (i := i) (s := (y, c)) hB (v := pB g i) (ag := true) (Or.inr rfl)
    generalize hf : ft g i (pB g i) true (y, c) = s1 at T1 hl hm
    simp only at hl
    refine xw_iload_n B dX0_compileArithmetic_30 rfl ?_
    refine xw_iload_n B dX0_compileArithmetic_31 rfl ?_
    refine xw_icmp_ne (tgt := 58) B dX0_compileArithmetic_32 (by decide) (fun q => absurd (by rw [hbc]) q) (fun _ => ?_)
    refine xw_aload_n B dX0_compileArithmetic_35 rfl ?_
    refine xw_iload_n B dX0_compileArithmetic_36 rfl ?_
    refine xa_calli C (lw_V q149 q151 qs7 q32 q152) hdX0_distance (by decide) (by decide) rfl (Nat.le_of_ble_eq_true rfl) dX0_compileArithmetic_37 (c_distance τ (pB g i) T1 (by omega)) rfl (fun r υ hu => ?_)
    obtain ⟨e1, e2, -⟩ := hu
    have e2 := e2 hm
    cases e2
    rw [e1]
    clear e1
    refine xw_istore B dX0_compileArithmetic_40 (by decide) ?_
    refine xw_aload_n B dX0_compileArithmetic_42 rfl ?_
    refine xw_iconst (v := nI 1) B dX0_compileArithmetic_43 (by decide) ?_
    refine xw_iload B dX0_compileArithmetic_44 rfl ?_
    refine xa_callv C (lw_V q153 q155 qs8 q32 q156) hdX0_write (by decide) (by decide) rfl (Nat.le_of_ble_eq_true rfl) dX0_compileArithmetic_46 (c_write τ 1 (nI (dx s1.1 (pB g i))) T1 (by omega) (by decide)) rfl (fun υ hu => ?_)
    refine xw_aload_n B dX0_compileArithmetic_49 rfl ?_
    refine xw_bipush (v := nI 9) B dX0_compileArithmetic_50 (by decide) ?_
    refine xa_callv C (lw_V q129 q131 qs2 q32 q132) hdX0_pushLayout (by decide) (by decide) rfl (Nat.le_of_ble_eq_true rfl) dX0_compileArithmetic_52 (c_pushLayout υ 9 hu.2.1 (by omega) (by decide)) rfl (fun ω hw => ?_)
    refine xw_goto (tgt := 65) B dX0_compileArithmetic_55 (by decide) ?_
    refine J65 ω 9 s1.1 _ hw.2.1 ((F1.tr hu.2.2).tr hw.2.2) ?_ (by simp; omega) _ rfl rfl
    rw [arP, if_pos hbc, hf]
  · have hl := ft_len g i (pB g i) false (y, c)
    refine xw_icmp_ne (tgt := 26) B dX0_compileArithmetic_19 (by decide) (fun _ => ?_) (fun q => absurd q (by rw [zeq (by omega) (by omega)]; exact hbc))
    refine xw_iconst (v := nI 0) B dX0_compileArithmetic_26 (by decide) ?_
    refine xa_callv C (lw_V q169 q171 qs12 q32 q172) hdX0_fetch (by decide) (by decide) rfl (Nat.le_of_ble_eq_true rfl) dX0_compileArithmetic_27 (c_fetch σ g S i (pB g i) false T hi hb5 hB (by omega) (by omega)) rfl (fun τ hp => ?_)
    obtain ⟨-, T1, F1⟩ := hp
    have hm := ft_mem (g := g) (i := i) (s := (y, c)) hC (v := pB g i) (ag := false) (Or.inl (fun e => hbc e.symm))
    generalize hf : ft g i (pB g i) false (y, c) = s1 at T1 hl hm
    simp only at hl
    refine xw_iload_n B dX0_compileArithmetic_30 rfl ?_
    refine xw_iload_n B dX0_compileArithmetic_31 rfl ?_
    refine xw_icmp_ne (tgt := 58) B dX0_compileArithmetic_32 (by decide) (fun _ => ?_) (fun q => absurd q (by rw [zeq (by omega) (by omega)]; exact hbc))
    refine xw_aload_n B dX0_compileArithmetic_58 rfl ?_
    refine xw_iload_n B dX0_compileArithmetic_59 rfl ?_
    refine xw_iload_n B dX0_compileArithmetic_60 rfl ?_
    refine xw_iconst (v := nI 0) B dX0_compileArithmetic_61 (by decide) ?_
    refine xa_callv C (lw_V q169 q171 qs12 q32 q172) hdX0_fetch (by decide) (by decide) rfl (Nat.le_of_ble_eq_true rfl) dX0_compileArithmetic_62 (c_fetch τ g (S.fr F1) i (pC g i) false T1 hi hc5 hm (by omega) (by omega)) rfl (fun υ hu => ?_)
    obtain ⟨-, T2, F2⟩ := hu
    have hl2 := ft_len g i (pC g i) false (s1.1, s1.2)
    obtain ⟨y2, hy2⟩ := ft_cons g i (pC g i) false (s1.1, s1.2)
    rw [hy2] at T2
    refine J65 υ 9 y2 _ T2 (F1.tr F2) ?_ (by simp only at hl2; omega) _ rfl rfl
    rw [arP, if_neg hbc, hf, ← hy2]
/-- a straight statement: the layout and the code behind it -/
def cst (g : Pg) (i : Nat) (s : Ly) : Ly := if pK g i = 7 then ((ft g i (pA g i) false s).1.tail, (ft g i (pA g i) false s).2 ++ [(9, 0)]) else if pK g i = 0 then stl (pA g i) (9 :: s.1, s.2 ++ [(0, pI g i)]) else if pK g i = 1 then stl (pA g i) (ft g i (pB g i) false s) else stl (pA g i) (ar g i s)
/-- what a straight statement wants on the stack -/
def wnt (g : Pg) (i : Nat) (y : List Nat) : Prop := (pK g i = 7 → pA g i ∈ y) ∧ (1 ≤ pK g i → pK g i ≤ 6 → pB g i ∈ y) ∧ (2 ≤ pK g i → pK g i ≤ 6 → pC g i ∈ y)
theorem ar_shape (g : Pg) (i : Nat) (s : Ly) (hC : pC g i ≠ 9) : (∃ y, (ar g i s).1 = 9 :: y) ∧ (ar g i s).2.length ≤ s.2.length + 3 := by
  have h1 := ft_len g i (pB g i) true s
  have h2 := ft_len g i (pB g i) false s
  have h3 := ft_len g i (pC g i) false (ft g i (pB g i) false s)
  unfold ar arP
  split
  · refine ⟨?_, ?_⟩
    · simp only [List.tail_cons]
      exact ft_cons g i (pB g i) true s
    · simp
      omega
  · obtain ⟨y1, hy1⟩ := ft_cons g i (pB g i) false s
    refine ⟨?_, ?_⟩
    · generalize ft g i (pB g i) false s = s1 at hy1
      unfold ft
      split
      · simp only [List.tail_cons]
        rw [hy1, dx, if_neg (fun e => hC e.symm), List.eraseIdx_cons_succ]
        exact ⟨_, rfl⟩
      · simp only [List.tail_cons]
        exact ⟨_, hy1⟩
    · simp
      omega
theorem c_compileStraight (σ : Sg) (g : Pg) (S : Sx σ g) (i : Nat) {y : List Nat} {c : List (Nat × Int32)} (T : St σ y c) (hi : i < pN g) (hk : pK g i ≤ 7) (hW : wnt g i y) (hyl : y.length < 14) (hc : c.length + 5 < 560) : XA 4 yX0_compileStraight cX0_compileStraight 4 none [.int (nI i)] σ (fun r τ => r = none ∧ St τ (cst g i (y, c)).1 (cst g i (y, c)).2 ∧ Fr σ τ) := by
  have hn : pN g ≤ 40 := S.1.1
  obtain ⟨k1, k2, k3, k4⟩ := S.1.2 i hi
  obtain ⟨s1, s2, s3, s4, s5⟩ := S.2.2 i hi
  have hA := k2 (by omega) (by omega)
  refine xa_ofI [nI i] (by decide) rfl (Nat.le_of_ble_eq_true rfl) (fun X D h d C => ?_)
  have B := C.1
  show XW X _ 0 [(0, .ref (h 0)), (1, .int (nI i))] []
  have J92 : pK g i ≤ 6 → ∀ (σ1 : Sg) (s1 : Ly), St σ1 s1.1 s1.2 → Fr σ σ1 → (∃ y1, s1.1 = 9 :: y1) → cst g i (y, c) = stl (pA g i) s1 → s1.2.length + 1 < 560 → XW X (PA D h d σ1) 92 [(2, .int (nI (pK g i))), (0, .ref (h 0)), (1, .int (nI i))] [] := by
    intro hk6 σ1 s1 T1 F1 hy1 e hl1
    obtain ⟨y1, hy1⟩ := hy1
    refine xw_aload_n B dX0_compileStraight_92 rfl ?_
    refine xw_iload_n B dX0_compileStraight_93 rfl ?_
    refine xa_calli C (lw_V q173 q175 qs13 q32 q176) hdX0_writes (by decide) (by decide) rfl (Nat.le_of_ble_eq_true rfl) dX0_compileStraight_94 (c_writes σ1 g (S.fr F1) i hi) rfl (fun r τ hp => ?_)
    obtain ⟨e1, e2, -⟩ := hp
    have e2 := e2 hk6
    cases e2
    rw [e1]
    clear e1
    rw [hy1] at T1
    refine xw_istore_n (i := 3) B dX0_compileStraight_97 rfl (by decide) ?_
    refine xw_aload_n B dX0_compileStraight_98 rfl ?_
    refine xw_iload_n B dX0_compileStraight_99 rfl ?_
    refine xa_callv C (lw_V q189 q191 qs17 q32 q192) hdX0_settle (by decide) (by decide) rfl (Nat.le_of_ble_eq_true rfl) dX0_compileStraight_100 (c_settle σ1 (pA g i) T1 hA hl1) rfl (fun τ hp => ?_)
    refine xa_vret C rfl dX0_compileStraight_103 ?_
    rw [e, show s1 = (9 :: y1, s1.2) by rw [← hy1]]
    exact ⟨rfl, hp.2.1, F1.tr hp.2.2⟩
  refine xw_aload_n B dX0_compileStraight_0 rfl ?_
  refine xa_getA C 1 (by decide) rfl q43 dX0_compileStraight_1 ?_
  refine xw_iload_n B dX0_compileStraight_4 rfl ?_
  refine xa_bald C 1 0 1 rfl rfl (by decide) dX0_compileStraight_5 (i) (rfl) (by omega) (s1) ?_
  refine xw_istore_n (i := 2) B dX0_compileStraight_6 rfl (by decide) ?_
  refine xw_iload_n B dX0_compileStraight_7 rfl ?_
  refine xw_bipush (v := nI 7) B dX0_compileStraight_8 (by decide) ?_
  refine xw_loc [(2, .int (nI (pK g i))), (0, .ref (h 0)), (1, .int (nI i))] ⟨rfl, rfl, rfl, trivial⟩ ?_
  refine xw_icmp_ne (tgt := 43) B dX0_compileStraight_10 (by decide) (fun c1 => ?_) (fun c1 => ?_)
  · rw [zeq (by omega) (by omega)] at c1
    refine xw_iload_n B dX0_compileStraight_43 rfl ?_
    refine xw_if_ne (tgt := 67) B dX0_compileStraight_44 (by decide) (fun c2 => ?_) (fun c2 => ?_)
    · rw [z0eq (by omega)] at c2
      refine xw_iload_n B dX0_compileStraight_67 rfl ?_
      refine xw_iconst (v := nI 1) B dX0_compileStraight_68 (by decide) ?_
      refine xw_icmp_ne (tgt := 87) B dX0_compileStraight_69 (by decide) (fun c3 => ?_) (fun c3 => ?_)
      · rw [zeq (by omega) (by omega)] at c3
        have hc5 := k4 (by omega) (by omega)
        have hsh := ar_shape g i (y, c) (by omega)
        refine xw_aload_n B dX0_compileStraight_87 rfl ?_
        refine xw_iload_n B dX0_compileStraight_88 rfl ?_
        refine xa_callv C (lw_V q185 q187 qs16 q32 q188) hdX0_compileArithmetic (by decide) (by decide) rfl (Nat.le_of_ble_eq_true rfl) dX0_compileStraight_89 (c_compileArithmetic σ g S i T hi (by omega) (by omega) (hW.2.1 (by omega) (by omega)) (hW.2.2 (by omega) (by omega)) (by omega) (by omega)) rfl (fun τ hp => ?_)
        refine J92 (by omega) τ _ hp.2.1 hp.2.2 hsh.1 ?_ (by have := hsh.2; simp only at this; omega)
        rw [cst, if_neg c1, if_neg c2, if_neg c3]
      · rw [zeq (by omega) (by omega)] at c3
        have hl := ft_len g i (pB g i) false (y, c)
        refine xw_aload_n B dX0_compileStraight_72 rfl ?_
        refine xw_iload_n B dX0_compileStraight_73 rfl ?_
        refine xw_aload_n B dX0_compileStraight_74 rfl ?_
        refine xa_getA C 3 (by decide) rfl q45 dX0_compileStraight_75 ?_
        refine xw_iload_n B dX0_compileStraight_78 rfl ?_
        refine xa_bald C 3 2 3 rfl rfl (by decide) dX0_compileStraight_79 (i) (rfl) (by omega) (s4 (by omega) (by omega)) ?_
        refine xw_iconst (v := nI 0) B dX0_compileStraight_80 (by decide) ?_
        refine xa_callv C (lw_V q169 q171 qs12 q32 q172) hdX0_fetch (by decide) (by decide) rfl (Nat.le_of_ble_eq_true rfl) dX0_compileStraight_81 (c_fetch σ g S i (pB g i) false T hi (k3 (by omega) (by omega)) (hW.2.1 (by omega) (by omega)) (by omega) (by omega)) rfl (fun τ hp => ?_)
        refine xw_goto (tgt := 92) B dX0_compileStraight_84 (by decide) ?_
        refine J92 (by omega) τ _ hp.2.1 hp.2.2 (ft_cons g i (pB g i) false (y, c)) ?_ (by simp only at hl; omega)
        rw [cst, if_neg c1, if_neg c2, if_pos c3]
    · rw [z0eq (by omega)] at c2
      refine xw_aload_n B dX0_compileStraight_47 rfl ?_
      refine xw_iconst (v := nI 0) B dX0_compileStraight_48 (by decide) ?_
      refine xw_aload_n B dX0_compileStraight_49 rfl ?_
      refine xa_getA C 2 (by decide) rfl q44 dX0_compileStraight_50 ?_
      refine xw_iload_n B dX0_compileStraight_53 rfl ?_
      refine xa_iald C 2 1 2 rfl rfl (by decide) dX0_compileStraight_54 (i) (rfl) (by omega) ((s2 c2).1) ?_
      refine xa_callv C (lw_V q153 q155 qs8 q32 q156) hdX0_write (by decide) (by decide) rfl (Nat.le_of_ble_eq_true rfl) dX0_compileStraight_55 (c_write σ 0 (pI g i) T (by omega) (by decide)) rfl (fun τ hp => ?_)
      refine xw_aload_n B dX0_compileStraight_58 rfl ?_
      refine xw_bipush (v := nI 9) B dX0_compileStraight_59 (by decide) ?_
      refine xa_callv C (lw_V q129 q131 qs2 q32 q132) hdX0_pushLayout (by decide) (by decide) rfl (Nat.le_of_ble_eq_true rfl) dX0_compileStraight_61 (c_pushLayout τ 9 hp.2.1 (by omega) (by decide)) rfl (fun υ hu => ?_)
      refine xw_goto (tgt := 92) B dX0_compileStraight_64 (by decide) ?_
      refine J92 (by omega) υ (9 :: y, c ++ [(0, pI g i)]) hu.2.1 (hp.2.2.tr hu.2.2) ⟨y, rfl⟩ ?_ (by simp; omega)
      rw [cst, if_neg c1, if_pos c2]
  · rw [zeq (by omega) (by omega)] at c1
    have hl := ft_len g i (pA g i) false (y, c)
    refine xw_aload_n B dX0_compileStraight_13 rfl ?_
    refine xw_iload_n B dX0_compileStraight_14 rfl ?_
    refine xw_aload_n B dX0_compileStraight_15 rfl ?_
    refine xa_getA C 2 (by decide) rfl q44 dX0_compileStraight_16 ?_
    refine xw_iload_n B dX0_compileStraight_19 rfl ?_
    refine xa_iald C 2 1 2 rfl rfl (by decide) dX0_compileStraight_20 (i) (rfl) (by omega) (s3 (by omega) (by omega) (by omega)) ?_
    refine xw_iconst (v := nI 0) B dX0_compileStraight_21 (by decide) ?_
    refine xa_callv C (lw_V q169 q171 qs12 q32 q172) hdX0_fetch (by decide) (by decide) rfl (Nat.le_of_ble_eq_true rfl) dX0_compileStraight_22 (c_fetch σ g S i (pA g i) false T hi hA (hW.1 c1) (by omega) (by omega)) rfl (fun τ hp => ?_)
    obtain ⟨-, T1, F1⟩ := hp
    obtain ⟨y1, hy1⟩ := ft_cons g i (pA g i) false (y, c)
    rw [hy1] at T1
    refine xw_aload_n B dX0_compileStraight_25 rfl ?_
    refine xw_bipush (v := nI 9) B dX0_compileStraight_26 (by decide) ?_
    refine xw_iconst (v := nI 0) B dX0_compileStraight_28 (by decide) ?_
    refine xa_callv C (lw_V q153 q155 qs8 q32 q156) hdX0_write (by decide) (by decide) rfl (Nat.le_of_ble_eq_true rfl) dX0_compileStraight_29 (c_write τ 9 0 T1 (by simp only at hl; omega) (by decide)) rfl (fun υ hu => ?_)
    have hE := hu.2.1.1.1
    refine xw_aload_n B dX0_compileStraight_32 rfl ?_
    refine xw_dup B dX0_compileStraight_33 rfl ?_
    refine xa_getS C 12 (by decide) rfl q54 dX0_compileStraight_34 (hE) ?_
    refine xw_iconst (v := nI 1) B dX0_compileStraight_37 (by decide) ?_
    refine xw_isub B dX0_compileStraight_38 ((zsub (by simp)).trans rfl) ?_
    refine xa_put (ty := .int) C 12 (by decide) (xa_f12 h d _ _) q54 rfl (by decide +kernel) (rfl) (rfl) dX0_compileStraight_39 ?_
    refine xa_vret C rfl dX0_compileStraight_42 ?_
    rw [cst, if_pos c1, hy1]
    exact ⟨rfl, hu.2.1.pop.1, (F1.tr hu.2.2).tr hu.2.1.pop.2⟩
/-! the fixed layout -/
def puF (w : Nat) (s : Ly) : Ly := (w :: s.1.eraseIdx (dx s.1 w), s.2 ++ plC (dx s.1 w))
def arL : Nat → Nat → Ly → Ly
  | 0, _, s => s
  | k + 1, w, s => arL k (w + 1) (puF w s)
/-- how many of the lowest places stand as they should: from place j on, f of them looked at -/
def fxF (y : List Nat) : Nat → Nat → Nat
  | 0, j => j
  | f + 1, j => if y[y.length - 1 - j]? = some j then fxF y f (j + 1) else j
def fx (tot : Nat) (y : List Nat) : Nat := fxF y tot 0
def arr (tot : Nat) (s : Ly) : Ly := arL (tot - fx tot s.1) (fx tot s.1) s
theorem fxF_le (y : List Nat) : ∀ f j, j ≤ fxF y f j ∧ fxF y f j ≤ j + f
  | 0, j => by simp [fxF]
  | f + 1, j => by
    have := fxF_le y f (j + 1)
    unfold fxF
    split <;> omega
theorem puF_len {w : Nat} {s : Ly} (h : w ∈ s.1) : (puF w s).1.length = s.1.length ∧ (puF w s).2.length ≤ s.2.length + 1 := by
  have hd := dx_lt h
  refine ⟨?_, ?_⟩
  · simp [puF, List.length_eraseIdx, hd]
    omega
  · simp only [puF, List.length_append, plC]
    split <;> simp
theorem puF_mem {w v : Nat} {s : Ly} (h : v ∈ s.1) : v ∈ (puF w s).1 := by
  by_cases e : v = w
  · rw [e]; exact List.mem_cons_self
  · exact List.mem_cons_of_mem _ (er_mem h e)
theorem c_arrange_pull (σ : Sg) (tot : Nat) (htot : tot ≤ 9) {X : CX} {D : va_G} {h : Nat → Nat} {d : Nat → ClassId} {sF : Ly}
    (C : CA X cX0_arrange 4 none 2 D h d (fun r τ => r = none ∧ St τ sF.1 sF.2 ∧ Fr σ τ)) :
    ∀ (f w : Nat) (s : Ly) (σ1 : Sg), w + f = tot → St σ1 s.1 s.2 → Fr σ σ1 → (∀ v, v < tot → v ∈ s.1) → s.2.length + f < 560 → arL f w s = sF → ∀ z : Int32, XW X (PA D h d σ1) 33 [(3, .int (nI w)), (0, .ref (h 0)), (1, .int (nI tot)), (2, .int z)] [] := by
  have B := C.1
  intro f
  induction f with
  | zero =>
    intro w s σ1 h1 T F hm hl e z
    refine xw_iload_n B dX0_arrange_33 rfl ?_
    refine xw_iload_n B dX0_arrange_34 rfl ?_
    refine xw_icmp_ge (tgt := 49) B dX0_arrange_35 (by decide) (fun _ => ?_) (fun q => absurd (by rw [zle (by omega) (by omega)]; omega) q)
    refine xa_vret C rfl dX0_arrange_49 ?_
    rw [← e]
    exact ⟨rfl, T, F⟩
  | succ f ih =>
    intro w s σ1 h1 T F hm hl e z
    have hw := hm w (by omega)
    have hp1 := puF_len hw
    refine xw_iload_n B dX0_arrange_33 rfl ?_
    refine xw_iload_n B dX0_arrange_34 rfl ?_
    refine xw_icmp_ge (tgt := 49) B dX0_arrange_35 (by decide) (fun q => absurd q (by rw [zle (by omega) (by omega)]; omega)) (fun _ => ?_)
    refine xw_aload_n B dX0_arrange_38 rfl ?_
    refine xw_iload_n B dX0_arrange_39 rfl ?_
    refine xa_callv C (lw_V q145 q147 qs6 q32 q148) hdX0_pullUp (by decide) (by decide) rfl (Nat.le_of_ble_eq_true rfl) dX0_arrange_40 (c_pullUp σ1 w T hw (by omega) (by omega)) rfl (fun τ hp => ?_)
    refine xw_iinc B dX0_arrange_43 rfl (zinc w) (by decide) ?_
    refine xw_goto (tgt := 33) B dX0_arrange_46 (by decide) ?_
    refine xw_loc [(3, .int (nI (w + 1))), (0, .ref (h 0)), (1, .int (nI tot)), (2, .int z)] ⟨rfl, rfl, rfl, rfl, trivial⟩ ?_
    exact ih (w + 1) (puF w s) τ (by omega) hp.2.1 (F.tr hp.2.2) (fun v hv => puF_mem (hm v hv)) (by omega) e z
theorem c_arrange_fix (σ : Sg) (tot : Nat) (htot : tot ≤ 9) {X : CX} {D : va_G} {h : Nat → Nat} {d : Nat → ClassId} {s : Ly} (T : St σ s.1 s.2) (hm : ∀ v, v < tot → v ∈ s.1) (hl : s.2.length + tot < 560) (hyl : tot ≤ s.1.length)
    (C : CA X cX0_arrange 4 none 2 D h d (fun r τ => r = none ∧ St τ (arr tot s).1 (arr tot s).2 ∧ Fr σ τ)) :
    ∀ (f j : Nat), j + f = tot → fxF s.1 f j = fx tot s.1 → XW X (PA D h d σ) 10 [(2, .int (nI j)), (0, .ref (h 0)), (1, .int (nI tot))] [] := by
  have B := C.1
  have hl16 := T.1.2.1
  have J31 : XW X (PA D h d σ) 31 [(2, .int (nI (fx tot s.1))), (0, .ref (h 0)), (1, .int (nI tot))] [] := by
    have hfx : fx tot s.1 ≤ tot := by
      have := (fxF_le s.1 tot 0).2
      unfold fx
      omega
    refine xw_iload_n B dX0_arrange_31 rfl ?_
    refine xw_istore_n (i := 3) B dX0_arrange_32 rfl (by decide) ?_
    refine xw_loc [(3, .int (nI (fx tot s.1))), (0, .ref (h 0)), (1, .int (nI tot)), (2, .int (nI (fx tot s.1)))] ⟨rfl, rfl, rfl, rfl, trivial⟩ ?_
    exact c_arrange_pull σ tot htot C (tot - fx tot s.1) (fx tot s.1) s σ (by omega) T (Fr.rf σ) hm (by omega) rfl _
  intro f
  induction f with
  | zero =>
    intro j h1 h2
    refine xw_iload_n B dX0_arrange_10 rfl ?_
    refine xw_iload_n B dX0_arrange_11 rfl ?_
    refine xw_icmp_ge (tgt := 31) B dX0_arrange_12 (by decide) (fun _ => ?_) (fun q => absurd (by rw [zle (by omega) (by omega)]; omega) q)
    rw [← h2] at J31
    exact J31
  | succ f ih =>
    intro j h1 h2
    obtain ⟨v, hv⟩ : ∃ v, s.1[s.1.length - 1 - j]? = some v := ⟨_, List.getElem?_eq_getElem (by omega)⟩
    have hs := T.1.2.2 _ v hv
    rw [show s.1.length - 1 - (s.1.length - 1 - j) = j by omega] at hs
    rw [fxF, hv] at h2
    refine xw_iload_n B dX0_arrange_10 rfl ?_
    refine xw_iload_n B dX0_arrange_11 rfl ?_
    refine xw_icmp_ge (tgt := 31) B dX0_arrange_12 (by decide) (fun q => absurd q (by rw [zle (by omega) (by omega)]; omega)) (fun _ => ?_)
    refine xw_aload_n B dX0_arrange_15 rfl ?_
    refine xa_getA C 11 (by decide) rfl q53 dX0_arrange_16 ?_
    refine xw_iload_n B dX0_arrange_19 rfl ?_
    refine xa_bald C 8 7 11 rfl rfl (by decide) dX0_arrange_20 (j) (rfl) (by omega) (hs.1) ?_
    refine xw_iload_n B dX0_arrange_21 rfl ?_
    refine xw_icmp_ne (tgt := 31) B dX0_arrange_22 (by decide) (fun c1 => ?_) (fun c1 => ?_)
    · rw [zeq (by omega) (by omega)] at c1
      rw [if_neg (fun q => c1 (Option.some.inj q))] at h2
      rw [← h2] at J31
      exact J31
    · rw [zeq (by omega) (by omega)] at c1
      rw [c1, if_pos rfl] at h2
      refine xw_iinc B dX0_arrange_25 rfl (zinc j) (by decide) ?_
      refine xw_goto (tgt := 10) B dX0_arrange_28 (by decide) ?_
      refine xw_loc [(2, .int (nI (j + 1))), (0, .ref (h 0)), (1, .int (nI tot))] ⟨rfl, rfl, rfl, trivial⟩ ?_
      exact ih (j + 1) (by omega) h2
theorem c_arrange (σ : Sg) (ol : Nat) (hol : ol ≤ 3) (h13 : σ 0 13 = nI ol) {s : Ly} (T : St σ s.1 s.2) (hm : ∀ v, v < 6 + ol → v ∈ s.1) (hl : s.2.length + (6 + ol) < 560) (hyl : 6 + ol ≤ s.1.length) : XA 2 yX0_arrange cX0_arrange 4 none [] σ (fun r τ => r = none ∧ St τ (arr (6 + ol) s).1 (arr (6 + ol) s).2 ∧ Fr σ τ) := by
  refine xa_ofI [] (by decide) rfl (Nat.le_of_ble_eq_true rfl) (fun X D h d C => ?_)
  have B := C.1
  show XW X _ 0 [(0, .ref (h 0))] []
  refine xw_bipush (v := nI 6) B dX0_arrange_0 (by decide) ?_
  refine xw_aload_n B dX0_arrange_2 rfl ?_
  refine xa_getS C 13 (by decide) rfl q55 dX0_arrange_3 (h13) ?_
  refine xw_iadd B dX0_arrange_6 (nI_add 6 ol) ?_
  refine xw_istore_n (i := 1) B dX0_arrange_7 rfl (by decide) ?_
  refine xw_iconst (v := nI 0) B dX0_arrange_8 (by decide) ?_
  refine xw_istore_n (i := 2) B dX0_arrange_9 rfl (by decide) ?_
  refine xw_loc [(2, .int (nI 0)), (0, .ref (h 0)), (1, .int (nI (6 + ol)))] ⟨rfl, rfl, rfl, trivial⟩ ?_
  exact c_arrange_fix σ (6 + ol) (by omega) T hm hl hyl C (6 + ol) 0 (by omega) rfl
end
section
/-! blocks: their kinds and patches (top first) -/
def Bk (σ : Sg) (bs : List (Nat × Nat)) : Prop := σ 0 14 = nI bs.length ∧ bs.length ≤ 4 ∧ ∀ j k p, bs[j]? = some (k, p) → σ 15 (bs.length - 1 - j) = nI k ∧ σ 16 (bs.length - 1 - j) = nI p ∧ k < 128 ∧ p < 560
/-- all but what the compiler writes is as it was -/
def F2 (σ τ : Sg) : Prop := (∀ k j, k ≠ 0 → k ≠ 9 → k ≠ 10 → k ≠ 11 → k ≠ 15 → k ≠ 16 → τ k j = σ k j) ∧ ∀ j, j ≠ 8 → j ≠ 12 → j ≠ 13 → j ≠ 14 → τ 0 j = σ 0 j
theorem F2.rf (σ : Sg) : F2 σ σ := ⟨fun _ _ _ _ _ _ _ _ => rfl, fun _ _ _ _ _ => rfl⟩
theorem F2.tr {σ τ υ : Sg} (h : F2 σ τ) (g : F2 τ υ) : F2 σ υ := ⟨fun k j a b c e f i => (g.1 k j a b c e f i).trans (h.1 k j a b c e f i), fun j a b c e => (g.2 j a b c e).trans (h.2 j a b c e)⟩
theorem Fr.f2 {σ τ : Sg} (h : Fr σ τ) : F2 σ τ := ⟨fun k j a b c e _ _ => h.1 k j a b c e, fun j a b _ _ => h.2 j a b⟩
theorem Sx.f2 {σ τ : Sg} {g : Pg} (h : Sx σ g) (f : F2 σ τ) : Sx τ g := h.of (f.2 0 (by decide) (by decide) (by decide) (by decide)) (fun j => f.1 1 j (by decide) (by decide) (by decide) (by decide) (by decide) (by decide)) (fun j => f.1 2 j (by decide) (by decide) (by decide) (by decide) (by decide) (by decide)) (fun j => f.1 3 j (by decide) (by decide) (by decide) (by decide) (by decide) (by decide)) (fun j => f.1 4 j (by decide) (by decide) (by decide) (by decide) (by decide) (by decide))
theorem Bk.fr {σ τ : Sg} {bs : List (Nat × Nat)} (h : Bk σ bs) (f : Fr σ τ) : Bk τ bs := by
  refine ⟨(f.2 14 (by decide) (by decide)).trans h.1, h.2.1, fun j k p hj => ?_⟩
  rw [f.1 15 _ (by decide) (by decide) (by decide) (by decide), f.1 16 _ (by decide) (by decide) (by decide) (by decide)]
  exact h.2.2 j k p hj
theorem St.of {σ τ : Sg} {y : List Nat} {c : List (Nat × Int32)} (h : St σ y c) (h8 : τ 0 8 = σ 0 8) (h12 : τ 0 12 = σ 0 12) (h9 : ∀ j, τ 9 j = σ 9 j) (h10 : ∀ j, τ 10 j = σ 10 j) (h11 : ∀ j, τ 11 j = σ 11 j) : St τ y c := by
  refine ⟨⟨h12.trans h.1.1, h.1.2.1, fun j v hj => ?_⟩, h8.trans h.2.1, h.2.2.1, fun i o n hi => ?_⟩
  · rw [h11]
    exact h.1.2.2 j v hj
  · rw [h9, h10]
    exact h.2.2.2 i o n hi
def pat (c : List (Nat × Int32)) (p : Nat) (n : Int32) : List (Nat × Int32) := c.modify p (fun q => (q.1, n))
theorem St.patch {σ : Sg} {y : List Nat} {c : List (Nat × Int32)} (h : St σ y c) (p : Nat) (n : Int32) : St (su σ 10 p n) y (pat c p n) ∧ Fr σ (su σ 10 p n) := by
  obtain ⟨⟨a1, a2, a3⟩, b1, b2, b3⟩ := h
  refine ⟨⟨⟨by simpa [su] using a1, a2, fun j v hj => by simpa [su] using a3 j v hj⟩, by simpa [su, pat] using b1, by simpa [pat] using b2, fun i o n' hi => ?_⟩, fun k j h1 h2 h3 h4 => by simp [su, h3], fun j h1 h2 => by simp [su]⟩
  rw [pat, List.getElem?_modify] at hi
  cases hc : c[i]? with
  | none => rw [hc] at hi; simp at hi
  | some q =>
    rw [hc] at hi
    simp at hi
    have := b3 i q.1 q.2 hc
    by_cases e : p = i
    · subst e
      simp at hi
      obtain ⟨e1, e2⟩ := hi
      subst e1; subst e2
      simp [su]
      exact ⟨this.1, this.2.2⟩
    · rw [if_neg e] at hi
      subst hi
      have e' : ¬ i = p := fun z => e z.symm
      simp [su, e']
      exact this
theorem pat_len (c : List (Nat × Int32)) (p : Nat) (n : Int32) : (pat c p n).length = c.length := by simp [pat]
theorem c_openBlock (σ : Sg) (k : Nat) {y : List Nat} {c : List (Nat × Int32)} {bs : List (Nat × Nat)} (T : St σ y c) (Q : Bk σ bs) (hb : bs.length < 4) (hk : k < 128) (hc : c.length < 560) : XA 0 yX0_openBlock cX0_openBlock 2 none [.int (nI k)] σ (fun r τ => r = none ∧ St τ y c ∧ Bk τ ((k, c.length) :: bs) ∧ τ 0 13 = σ 0 13 ∧ F2 σ τ) := by
  obtain ⟨q1, q2, q3⟩ := Q
  refine xa_ofI [nI k] (by decide) rfl (Nat.le_of_ble_eq_true rfl) (fun X D h d C => ?_)
  have B := C.1
  show XW X _ 0 [(0, .ref (h 0)), (1, .int (nI k))] []
  refine xw_aload_n B dX0_openBlock_0 rfl ?_
  refine xa_getA C 15 (by decide) rfl q57 dX0_openBlock_1 ?_
  refine xw_aload_n B dX0_openBlock_4 rfl ?_
  refine xa_getS C 14 (by decide) rfl q56 dX0_openBlock_5 (q1) ?_
  refine xw_iload_n B dX0_openBlock_8 rfl ?_
  refine xw_i2b B dX0_openBlock_9 (z8 k hk) ?_
  refine xa_bast C 9 8 15 rfl rfl (xa_s15 h d _) (by decide) dX0_openBlock_10 (bs.length) (rfl) (hb) (z8n k hk) ?_
  refine xw_aload_n B dX0_openBlock_11 rfl ?_
  refine xa_getA C 16 (by decide) rfl q58 dX0_openBlock_12 ?_
  refine xw_aload_n B dX0_openBlock_15 rfl ?_
  refine xa_getS C 14 (by decide) rfl q56 dX0_openBlock_16 (q1) ?_
  refine xw_aload_n B dX0_openBlock_19 rfl ?_
  refine xa_getS C 8 (by decide) rfl q50 dX0_openBlock_20 (T.2.1) ?_
  refine xw_i2s B dX0_openBlock_23 (z16 _ (by omega)) ?_
  refine xa_sast C 10 9 16 rfl rfl (xa_s16 h d _) (by decide) dX0_openBlock_24 (bs.length) (rfl) (hb) (z16n _ (by omega)) ?_
  refine xw_aload_n B dX0_openBlock_25 rfl ?_
  refine xw_dup B dX0_openBlock_26 rfl ?_
  refine xa_getS C 14 (by decide) rfl q56 dX0_openBlock_27 (q1) ?_
  refine xw_iconst (v := nI 1) B dX0_openBlock_30 (by decide) ?_
  refine xw_iadd B dX0_openBlock_31 (nI_add bs.length 1) ?_
  refine xa_put (ty := .int) C 14 (by decide) (xa_f14 h d _ _) q56 rfl (by decide +kernel) (rfl) (rfl) dX0_openBlock_32 ?_
  refine xa_vret C rfl dX0_openBlock_35 ?_
  refine ⟨rfl, T.of rfl rfl (fun _ => rfl) (fun _ => rfl) (fun _ => rfl), ⟨rfl, by simp; omega, fun j k' p hj => ?_⟩, rfl, fun a b h1 h2 h3 h4 h5 h6 => by simp [su, h1, h5, h6], fun j h1 h2 h3 h4 => by simp [su, h4]⟩
  cases j with
  | zero =>
    simp at hj
    obtain ⟨e1, e2⟩ := hj
    subst e1; subst e2
    simp [su]
    omega
  | succ j =>
    have hl := lt_of_q hj
    simp at hl
    have := q3 j k' p (by simpa using hj)
    have e : ((k, c.length) :: bs).length - 1 - (j + 1) = bs.length - 1 - j := by simp; omega
    rw [e]
    have e2 : ¬ bs.length - 1 - j = bs.length := by omega
    simp [su, e2]
    exact this
theorem Bk.pop {σ : Sg} {q : Nat × Nat} {t : List (Nat × Nat)} (h : Bk σ (q :: t)) {τ : Sg} (h14 : τ 0 14 = nI t.length) (h15 : ∀ j, τ 15 j = σ 15 j) (h16 : ∀ j, τ 16 j = σ 16 j) : Bk τ t := by
  refine ⟨h14, by have := h.2.1; simp at this; omega, fun j k p hj => ?_⟩
  have := h.2.2 (j + 1) k p (by simpa using hj)
  have hl := lt_of_q hj
  rw [show (q :: t).length - 1 - (j + 1) = t.length - 1 - j by simp; omega] at this
  rw [h15, h16]
  exact this
theorem c_closeBlock (σ : Sg) {y : List Nat} {c : List (Nat × Int32)} {k p ol : Nat} {t : List (Nat × Nat)} (T : St σ y c) (Q : Bk σ ((k, p) :: t)) (h13 : σ 0 13 = nI ol) (hp0 : p < c.length) (hc : c.length + 4 < 560) (hk : k = 10 → 1 ≤ p ∧ 1 ≤ ol ∧ ∃ a y1, y = a :: y1) : XA 1 yX0_closeBlock cX0_closeBlock 2 none [] σ (fun r τ => r = none ∧ Bk τ t ∧ F2 σ τ ∧ (k ≠ 10 → St τ y (pat c p (nI c.length)) ∧ τ 0 13 = nI ol) ∧ (k = 10 → St τ y.tail (pat (c ++ [(0, -1), (2, 0), (11, nI (p - 1))]) p (nI (c.length + 3)) ++ [(8, 0)]) ∧ τ 0 13 = nI (ol - 1))) := by
  have q0 := Q.2.2 0 k p rfl
  have hbl := Q.2.1
  simp only [List.length_cons] at hbl
  rw [show ((k, p) :: t).length - 1 - 0 = t.length from rfl] at q0
  refine xa_ofI [] (by decide) rfl (Nat.le_of_ble_eq_true rfl) (fun X D h d C => ?_)
  have B := C.1
  show XW X _ 0 [(0, .ref (h 0))] []
  refine xw_aload_n B dX0_closeBlock_0 rfl ?_
  refine xw_dup B dX0_closeBlock_1 rfl ?_
  refine xa_getS C 14 (by decide) rfl q56 dX0_closeBlock_2 (Q.1) ?_
  refine xw_iconst (v := nI 1) B dX0_closeBlock_5 (by decide) ?_
  refine xw_isub B dX0_closeBlock_6 (show nI ((k, p) :: t).length - nI 1 = nI t.length from zsub (by simp)) ?_
  refine xa_put (ty := .int) C 14 (by decide) (xa_f14 h d _ _) q56 rfl (by decide +kernel) (rfl) (rfl) dX0_closeBlock_7 ?_
  refine xw_aload_n B dX0_closeBlock_10 rfl ?_
  refine xa_getA C 16 (by decide) rfl q58 dX0_closeBlock_11 ?_
  refine xw_aload_n B dX0_closeBlock_14 rfl ?_
  refine xa_getS C 14 (by decide) rfl q56 dX0_closeBlock_15 (rfl) ?_
  refine xa_sald C 10 9 16 rfl rfl (by decide) dX0_closeBlock_18 (t.length) (rfl) (by omega) (q0.2.1) ?_
  refine xw_istore_n (i := 1) B dX0_closeBlock_19 rfl (by decide) ?_
  refine xw_aload_n B dX0_closeBlock_20 rfl ?_
  refine xa_getA C 15 (by decide) rfl q57 dX0_closeBlock_21 ?_
  refine xw_aload_n B dX0_closeBlock_24 rfl ?_
  refine xa_getS C 14 (by decide) rfl q56 dX0_closeBlock_25 (rfl) ?_
  refine xa_bald C 9 8 15 rfl rfl (by decide) dX0_closeBlock_28 (t.length) (rfl) (by omega) (q0.1) ?_
  refine xw_bipush (v := nI 10) B dX0_closeBlock_29 (by decide) ?_
  have T0 : St (su σ 0 14 (nI t.length)) y c := T.of rfl rfl (fun _ => rfl) (fun _ => rfl) (fun _ => rfl)
  have F0 : F2 σ (su σ 0 14 (nI t.length)) := ⟨fun a b h1 h2 h3 h4 h5 h6 => by simp [su, h1], fun j h1 h2 h3 h4 => by simp [su, h4]⟩
  have Q0 : Bk (su σ 0 14 (nI t.length)) t := Q.pop rfl (fun _ => rfl) (fun _ => rfl)
  have h13 : su σ 0 14 (nI t.length) 0 13 = nI ol := h13
  generalize su σ 0 14 (nI t.length) = σ0 at T0 F0 Q0 h13 ⊢
  have h560 := T.2.2.1
  refine xw_icmp_eq (tgt := 45) B dX0_closeBlock_31 (by decide) (fun c1 => ?_) (fun c1 => ?_)
  · rw [zeq (by omega) (by omega)] at c1
    obtain ⟨hp1, hol, a, y1, hy⟩ := hk c1
    subst hy
    refine xw_aload_n B dX0_closeBlock_45 rfl ?_
    refine xw_iconst (v := nI 0) B dX0_closeBlock_46 (by decide) ?_
    refine xw_iconst (v := (-1)) B dX0_closeBlock_47 (by decide) ?_
    refine xa_callv C (lw_V q153 q155 qs8 q32 q156) hdX0_write (by decide) (by decide) rfl (Nat.le_of_ble_eq_true rfl) dX0_closeBlock_48 (c_write σ0 0 (-1) T0 (by omega) (by decide)) rfl (fun τ1 u1 => ?_)
    refine xw_aload_n B dX0_closeBlock_51 rfl ?_
    refine xw_iconst (v := nI 2) B dX0_closeBlock_52 (by decide) ?_
    refine xw_iconst (v := nI 0) B dX0_closeBlock_53 (by decide) ?_
    refine xa_callv C (lw_V q153 q155 qs8 q32 q156) hdX0_write (by decide) (by decide) rfl (Nat.le_of_ble_eq_true rfl) dX0_closeBlock_54 (c_write τ1 2 0 u1.2.1 (by simp; omega) (by decide)) rfl (fun τ2 u2 => ?_)
    refine xw_aload_n B dX0_closeBlock_57 rfl ?_
    refine xw_bipush (v := nI 11) B dX0_closeBlock_58 (by decide) ?_
    refine xw_iload_n B dX0_closeBlock_60 rfl ?_
    refine xw_iconst (v := nI 1) B dX0_closeBlock_61 (by decide) ?_
    refine xw_isub B dX0_closeBlock_62 (zsub hp1) ?_
    refine xa_callv C (lw_V q153 q155 qs8 q32 q156) hdX0_write (by decide) (by decide) rfl (Nat.le_of_ble_eq_true rfl) dX0_closeBlock_63 (c_write τ2 11 (nI (p - 1)) u2.2.1 (by simp; omega) (by decide)) rfl (fun τ3 u3 => ?_)
    have F3 := (u1.2.2.tr u2.2.2).tr u3.2.2
    have T3 := u3.2.1
    have hl3 : (((c ++ [(0, (-1 : Int32))]) ++ [(2, 0)]) ++ [(11, nI (p - 1))]).length = c.length + 3 := by simp
    refine xw_aload_n B dX0_closeBlock_66 rfl ?_
    refine xa_getA C 10 (by decide) rfl q52 dX0_closeBlock_67 ?_
    refine xw_iload_n B dX0_closeBlock_70 rfl ?_
    refine xw_aload_n B dX0_closeBlock_71 rfl ?_
    refine xa_getS C 8 (by decide) rfl q50 dX0_closeBlock_72 (T3.2.1) ?_
    refine xa_iast C 7 6 10 rfl rfl (xa_s10 h d _) (by decide) dX0_closeBlock_75 (p) (rfl) (by omega) ?_
    refine xw_aload_n B dX0_closeBlock_76 rfl ?_
    refine xw_bipush (v := nI 8) B dX0_closeBlock_77 (by decide) ?_
    refine xw_iconst (v := nI 0) B dX0_closeBlock_79 (by decide) ?_
    have T4 := T3.patch p (nI (c.length + 3))
    rw [hl3]
    refine xa_callv C (lw_V q153 q155 qs8 q32 q156) hdX0_write (by decide) (by decide) rfl (Nat.le_of_ble_eq_true rfl) dX0_closeBlock_80 (c_write _ 8 0 T4.1 (by rw [pat_len, hl3]; omega) (by decide)) rfl (fun τ5 u5 => ?_)
    have F5 := (F3.tr T4.2).tr u5.2.2
    have hE := u5.2.1.1.1
    have h13b : τ5 0 13 = nI ol := (F5.2 13 (by decide) (by decide)).trans h13
    refine xw_aload_n B dX0_closeBlock_83 rfl ?_
    refine xw_dup B dX0_closeBlock_84 rfl ?_
    refine xa_getS C 12 (by decide) rfl q54 dX0_closeBlock_85 (hE) ?_
    refine xw_iconst (v := nI 1) B dX0_closeBlock_88 (by decide) ?_
    refine xw_isub B dX0_closeBlock_89 (show _ = nI y1.length from zsub (by simp)) ?_
    refine xa_put (ty := .int) C 12 (by decide) (xa_f12 h d _ _) q54 rfl (by decide +kernel) (rfl) (rfl) dX0_closeBlock_90 ?_
    refine xw_aload_n B dX0_closeBlock_93 rfl ?_
    refine xw_dup B dX0_closeBlock_94 rfl ?_
    refine xa_getS C 13 (by decide) rfl q55 dX0_closeBlock_95 (h13b) ?_
    refine xw_iconst (v := nI 1) B dX0_closeBlock_98 (by decide) ?_
    refine xw_isub B dX0_closeBlock_99 (zsub hol) ?_
    refine xa_put (ty := .int) C 13 (by decide) (xa_f13 h d _ _) q55 rfl (by decide +kernel) (rfl) (rfl) dX0_closeBlock_100 ?_
    have T6 := u5.2.1.pop
    have F6 := F5.tr T6.2
    refine xa_vret C rfl dX0_closeBlock_103 ?_
    refine ⟨rfl, ?_, F0.tr (F6.f2.tr ⟨fun a b h1 h2 h3 h4 h5 h6 => by simp [su, h1], fun j h1 h2 h3 h4 => by simp [su, h3]⟩), fun e => absurd c1 e, fun _ => ⟨?_, rfl⟩⟩
    · refine ⟨(F6.2 14 (by decide) (by decide)).trans Q0.1, Q0.2.1, fun j k' p' hj => ?_⟩
      have := (Q0.fr F6).2.2 j k' p' hj
      exact this
    · have := T6.1.of (τ := su (su τ5 0 12 (nI y1.length)) 0 13 (nI (ol - 1))) rfl rfl (fun _ => rfl) (fun _ => rfl) (fun _ => rfl)
      simpa [List.append_assoc] using this
  · rw [zeq (by omega) (by omega)] at c1
    refine xw_aload_n B dX0_closeBlock_34 rfl ?_
    refine xa_getA C 10 (by decide) rfl q52 dX0_closeBlock_35 ?_
    refine xw_iload_n B dX0_closeBlock_38 rfl ?_
    refine xw_aload_n B dX0_closeBlock_39 rfl ?_
    refine xa_getS C 8 (by decide) rfl q50 dX0_closeBlock_40 (T0.2.1) ?_
    refine xa_iast C 7 6 10 rfl rfl (xa_s10 h d _) (by decide) dX0_closeBlock_43 (p) (rfl) (by omega) ?_
    have T1 := T0.patch p (nI c.length)
    refine xa_vret C rfl dX0_closeBlock_44 ?_
    exact ⟨rfl, Q0.fr T1.2, F0.tr T1.2.f2, fun _ => ⟨T1.1, (T1.2.2 13 (by decide) (by decide)).trans h13⟩, fun e => absurd e c1⟩
abbrev Cs : Type := List Nat × List (Nat × Int32) × List (Nat × Nat) × Nat
/-- a boundary statement: the compiler's state behind it -/
def cbd (g : Pg) (i : Nat) (s : Cs) : Cs :=
  if pK g i = 8 then ((arr (6 + s.2.2.2) (s.1, s.2.1)).1, (arr (6 + s.2.2.2) (s.1, s.2.1)).2 ++ [(1, nI (dx (arr (6 + s.2.2.2) (s.1, s.2.1)).1 (pA g i))), (10, 0)], (8, (arr (6 + s.2.2.2) (s.1, s.2.1)).2.length + 1) :: s.2.2.1, s.2.2.2)
  else if pK g i = 10 then ((6 + s.2.2.2) :: (arr (6 + s.2.2.2) (s.1, s.2.1)).1, (arr (6 + s.2.2.2) (s.1, s.2.1)).2 ++ [(0, nI (pA g i)), (1, 0), (10, 0)], (10, (arr (6 + s.2.2.2) (s.1, s.2.1)).2.length + 2) :: s.2.2.1, s.2.2.2 + 1)
  else match s.2.2.1 with
    | [] => s
    | q :: t => if pK g i = 9 then ((arr (6 + s.2.2.2) (s.1, s.2.1)).1, pat ((arr (6 + s.2.2.2) (s.1, s.2.1)).2 ++ [(11, 0)]) q.2 (nI ((arr (6 + s.2.2.2) (s.1, s.2.1)).2.length + 1)), (q.1, (arr (6 + s.2.2.2) (s.1, s.2.1)).2.length) :: t, s.2.2.2)
      else if q.1 = 10 then ((arr (6 + s.2.2.2) (s.1, s.2.1)).1.tail, pat ((arr (6 + s.2.2.2) (s.1, s.2.1)).2 ++ [(0, -1), (2, 0), (11, nI (q.2 - 1))]) q.2 (nI ((arr (6 + s.2.2.2) (s.1, s.2.1)).2.length + 3)) ++ [(8, 0)], t, s.2.2.2 - 1)
      else ((arr (6 + s.2.2.2) (s.1, s.2.1)).1, pat (arr (6 + s.2.2.2) (s.1, s.2.1)).2 q.2 (nI (arr (6 + s.2.2.2) (s.1, s.2.1)).2.length), t, s.2.2.2)
def Ct (σ : Sg) (s : Cs) : Prop := St σ s.1 s.2.1 ∧ Bk σ s.2.2.1 ∧ σ 0 13 = nI s.2.2.2
theorem arL_mem {v : Nat} : ∀ (f w : Nat) (s : Ly), v ∈ s.1 → v ∈ (arL f w s).1
  | 0, _, _, h => h
  | f + 1, w, s, h => arL_mem f (w + 1) (puF w s) (puF_mem h)
theorem arL_len {tot : Nat} : ∀ (f w : Nat) (s : Ly), w + f = tot → (∀ v, v < tot → v ∈ s.1) → (arL f w s).1.length = s.1.length ∧ s.2.length ≤ (arL f w s).2.length ∧ (arL f w s).2.length ≤ s.2.length + f
  | 0, _, _, _, _ => ⟨rfl, Nat.le_refl _, Nat.le_refl _⟩
  | f + 1, w, s, h, hm => by
    have h1 := arL_len f (w + 1) (puF w s) (by omega) (fun v hv => puF_mem (hm v hv))
    have h2 := puF_len (hm w (by omega))
    have h3 : s.2.length ≤ (puF w s).2.length := by simp [puF]
    refine ⟨h1.1.trans h2.1, Nat.le_trans h3 h1.2.1, Nat.le_trans h1.2.2 (by omega)⟩
theorem arr_mem {v tot : Nat} {s : Ly} (h : v ∈ s.1) : v ∈ (arr tot s).1 := arL_mem _ _ _ h
theorem arr_len {tot : Nat} {s : Ly} (hm : ∀ v, v < tot → v ∈ s.1) : (arr tot s).1.length = s.1.length ∧ s.2.length ≤ (arr tot s).2.length ∧ (arr tot s).2.length ≤ s.2.length + tot := by
  have hfx : fx tot s.1 ≤ tot := by
    have := (fxF_le s.1 tot 0).2
    unfold fx
    omega
  have := arL_len (tot := tot) (tot - fx tot s.1) (fx tot s.1) s (by omega) hm
  exact ⟨this.1, this.2.1, Nat.le_trans this.2.2 (by omega)⟩
theorem c_compileBoundary (σ : Sg) (g : Pg) (S : Sx σ g) (i : Nat) (s : Cs) (T : Ct σ s) (hi : i < pN g) (hk : 8 ≤ pK g i) (hol : s.2.2.2 ≤ 3) (hyl : s.1.length = 6 + s.2.2.2) (hm : ∀ v, v < 6 + s.2.2.2 → v ∈ s.1) (hc : s.2.1.length + 14 < 560) (hop : pK g i = 8 ∨ pK g i = 10 → s.2.2.1.length < 4) (hop2 : pK g i = 10 → s.2.2.2 < 3) (hcl : pK g i = 9 ∨ pK g i = 11 → ∃ k p t, s.2.2.1 = (k, p) :: t ∧ p < s.2.1.length ∧ (pK g i = 11 → k = 10 → 1 ≤ p ∧ 1 ≤ s.2.2.2)) : XA 3 yX0_compileBoundary cX0_compileBoundary 4 none [.int (nI i)] σ (fun r τ => r = none ∧ Ct τ (cbd g i s) ∧ F2 σ τ) := by
  obtain ⟨y, c, bs, ol⟩ := s
  obtain ⟨T0, Q0, h13⟩ := T
  simp only at T0 Q0 h13 hol hyl hm hc hop hop2 hcl
  have hn : pN g ≤ 40 := S.1.1
  obtain ⟨k1, k2, k3, k4⟩ := S.1.2 i hi
  have sK := (S.2.2 i hi).1
  have hal := arr_len (tot := 6 + ol) (s := (y, c)) hm
  simp only at hal
  refine xa_ofI [nI i] (by decide) rfl (Nat.le_of_ble_eq_true rfl) (fun X D h d C => ?_)
  have B := C.1
  show XW X _ 0 [(0, .ref (h 0)), (1, .int (nI i))] []
  refine xw_aload_n B dX0_compileBoundary_0 rfl ?_
  refine xa_getA C 1 (by decide) rfl q43 dX0_compileBoundary_1 ?_
  refine xw_iload_n B dX0_compileBoundary_4 rfl ?_
  refine xa_bald C 1 0 1 rfl rfl (by decide) dX0_compileBoundary_5 (i) (rfl) (by omega) (sK) ?_
  refine xw_istore_n (i := 2) B dX0_compileBoundary_6 rfl (by decide) ?_
  refine xw_aload_n B dX0_compileBoundary_7 rfl ?_
  refine xa_callv C (lw_V q141 q143 qs5 q32 q144) hdX0_arrange (by decide) (by decide) rfl (Nat.le_of_ble_eq_true rfl) dX0_compileBoundary_8 (c_arrange σ ol hol h13 (s := (y, c)) T0 hm (by simp only; omega) (by simp only; omega)) rfl (fun σ1 u1 => ?_)
  obtain ⟨-, T1, F1⟩ := u1
  have S1 := S.fr F1
  have Q1 := Q0.fr F1
  have h13 : σ1 0 13 = nI ol := (F1.2 13 (by decide) (by decide)).trans h13
  generalize hae : arr (6 + ol) (y, c) = a at T1 hal
  obtain ⟨y1, c1⟩ := a
  simp only at T1 hal
  have ham : ∀ v, v < 6 + ol → v ∈ y1 := fun v hv => by have := arr_mem (tot := 6 + ol) (s := (y, c)) (hm v hv); rw [hae] at this; exact this
  refine xw_iload_n B dX0_compileBoundary_11 rfl ?_
  refine xw_bipush (v := nI 8) B dX0_compileBoundary_12 (by decide) ?_
  refine xw_icmp_ne (tgt := 50) B dX0_compileBoundary_14 (by decide) (fun b1 => ?_) (fun b1 => ?_)
  · rw [zeq (by omega) (by omega)] at b1
    refine xw_iload_n B dX0_compileBoundary_50 rfl ?_
    refine xw_bipush (v := nI 10) B dX0_compileBoundary_51 (by decide) ?_
    refine xw_icmp_ne (tgt := 110) B dX0_compileBoundary_53 (by decide) (fun b2 => ?_) (fun b2 => ?_)
    · rw [zeq (by omega) (by omega)] at b2
      obtain ⟨k, p, t, hbs, hp0, hlp⟩ := hcl (by omega)
      clear hcl
      subst hbs
      have q0 := Q1.2.2 0 k p rfl
      have hbl := Q1.2.1
      simp only [List.length_cons] at hbl
      rw [show ((k, p) :: t).length - 1 - 0 = t.length from rfl] at q0
      refine xw_iload_n B dX0_compileBoundary_110 rfl ?_
      refine xw_bipush (v := nI 9) B dX0_compileBoundary_111 (by decide) ?_
      refine xw_icmp_ne (tgt := 164) B dX0_compileBoundary_113 (by decide) (fun b3 => ?_) (fun b3 => ?_)
      · rw [zeq (by omega) (by omega)] at b3
        have hk11 : pK g i = 11 := by omega
        refine xw_aload_n B dX0_compileBoundary_164 rfl ?_
        have hyc : ∃ a b, y1 = a :: b := by
          cases y1 with
          | nil => exact absurd hal.1 (by simp; omega)
          | cons a b => exact ⟨a, b, rfl⟩
        refine xa_callv C (lw_V q161 q163 qs10 q32 q164) hdX0_closeBlock (by decide) (by decide) rfl (Nat.le_of_ble_eq_true rfl) dX0_compileBoundary_165 (c_closeBlock σ1 T1 Q1 h13 (by omega) (by omega) (fun e => ⟨(hlp hk11 e).1, (hlp hk11 e).2, hyc⟩)) rfl (fun τ u => ?_)
        refine xa_vret C rfl dX0_compileBoundary_168 ?_
        obtain ⟨-, QT, FT, hA, hB⟩ := u
        refine ⟨rfl, ?_, F1.f2.tr FT⟩
        rw [cbd, if_neg b1, if_neg b2]
        simp only
        rw [if_neg b3, hae]
        by_cases hk10 : k = 10
        · rw [if_pos hk10]
          exact ⟨(hB hk10).1, QT, (hB hk10).2⟩
        · rw [if_neg hk10]
          exact ⟨(hA hk10).1, QT, (hA hk10).2⟩
      · rw [zeq (by omega) (by omega)] at b3
        have h560 := T1.2.2.1
        refine xw_aload_n B dX0_compileBoundary_116 rfl ?_
        refine xa_getA C 16 (by decide) rfl q58 dX0_compileBoundary_117 ?_
        refine xw_aload_n B dX0_compileBoundary_120 rfl ?_
        refine xa_getS C 14 (by decide) rfl q56 dX0_compileBoundary_121 (Q1.1) ?_
        refine xw_iconst (v := nI 1) B dX0_compileBoundary_124 (by decide) ?_
        refine xw_isub B dX0_compileBoundary_125 (show nI ((k, p) :: t).length - nI 1 = nI t.length from zsub (by simp)) ?_
        refine xa_sald C 10 9 16 rfl rfl (by decide) dX0_compileBoundary_126 (t.length) (rfl) (by omega) (q0.2.1) ?_
        refine xw_istore_n (i := 3) B dX0_compileBoundary_127 rfl (by decide) ?_
        refine xw_aload_n B dX0_compileBoundary_128 rfl ?_
        refine xa_getA C 16 (by decide) rfl q58 dX0_compileBoundary_129 ?_
        refine xw_aload_n B dX0_compileBoundary_132 rfl ?_
        refine xa_getS C 14 (by decide) rfl q56 dX0_compileBoundary_133 (Q1.1) ?_
        refine xw_iconst (v := nI 1) B dX0_compileBoundary_136 (by decide) ?_
        refine xw_isub B dX0_compileBoundary_137 (show nI ((k, p) :: t).length - nI 1 = nI t.length from zsub (by simp)) ?_
        refine xw_aload_n B dX0_compileBoundary_138 rfl ?_
        refine xa_getS C 8 (by decide) rfl q50 dX0_compileBoundary_139 (T1.2.1) ?_
        refine xw_i2s B dX0_compileBoundary_142 (z16 _ (by omega)) ?_
        refine xa_sast C 10 9 16 rfl rfl (xa_s16 h d _) (by decide) dX0_compileBoundary_143 (t.length) (rfl) (by omega) (z16n _ (by omega)) ?_
        refine xw_aload_n B dX0_compileBoundary_144 rfl ?_
        refine xw_bipush (v := nI 11) B dX0_compileBoundary_145 (by decide) ?_
        refine xw_iconst (v := nI 0) B dX0_compileBoundary_147 (by decide) ?_
        have T2 : St (su σ1 16 t.length (nI c1.length)) y1 c1 := T1.of rfl rfl (fun _ => rfl) (fun _ => rfl) (fun _ => rfl)
        have F2' : F2 σ1 (su σ1 16 t.length (nI c1.length)) := ⟨fun a b h1 h2 h3 h4 h5 h6 => by simp [su, h6], fun j h1 h2 h3 h4 => by simp [su]⟩
        have Q2 : Bk (su σ1 16 t.length (nI c1.length)) ((k, c1.length) :: t) := by
          refine ⟨Q1.1, Q1.2.1, fun j k' p' hj => ?_⟩
          cases j with
          | zero =>
            simp at hj
            obtain ⟨e1, e2⟩ := hj
            subst e1; subst e2
            simp [su]
            exact ⟨q0.1, q0.2.2.1, by omega⟩
          | succ j =>
            have hl := lt_of_q hj
            simp at hl
            have := Q1.2.2 (j + 1) k' p' (by simpa using hj)
            rw [show ((k, p) :: t).length - 1 - (j + 1) = t.length - 1 - j by simp; omega] at this
            rw [show ((k, c1.length) :: t).length - 1 - (j + 1) = t.length - 1 - j by simp; omega]
            have e2 : ¬ t.length - 1 - j = t.length := by omega
            simp [su, e2]
            exact this
        have h13 : su σ1 16 t.length (nI c1.length) 0 13 = nI ol := h13
        generalize su σ1 16 t.length (nI c1.length) = σ2 at T2 F2' Q2 h13 ⊢
        refine xa_callv C (lw_V q153 q155 qs8 q32 q156) hdX0_write (by decide) (by decide) rfl (Nat.le_of_ble_eq_true rfl) dX0_compileBoundary_148 (c_write σ2 11 0 T2 (by omega) (by decide)) rfl (fun τ u => ?_)
        have hl3 : (c1 ++ [(11, (0 : Int32))]).length = c1.length + 1 := by simp
        refine xw_aload_n B dX0_compileBoundary_151 rfl ?_
        refine xa_getA C 10 (by decide) rfl q52 dX0_compileBoundary_152 ?_
        refine xw_iload_n B dX0_compileBoundary_155 rfl ?_
        refine xw_aload_n B dX0_compileBoundary_156 rfl ?_
        refine xa_getS C 8 (by decide) rfl q50 dX0_compileBoundary_157 (u.2.1.2.1) ?_
        refine xa_iast C 7 6 10 rfl rfl (xa_s10 h d _) (by decide) dX0_compileBoundary_160 (p) (rfl) (by omega) ?_
        refine xw_goto (tgt := 168) B dX0_compileBoundary_161 (by decide) ?_
        have T4 := u.2.1.patch p (nI (c1.length + 1))
        have F4 := u.2.2.tr T4.2
        rw [hl3]
        refine xa_vret C rfl dX0_compileBoundary_168 ?_
        refine ⟨rfl, ?_, F1.f2.tr (F2'.tr F4.f2)⟩
        rw [cbd, if_neg b1, if_neg b2]
        simp only
        rw [if_pos b3, hae]
        exact ⟨T4.1, Q2.fr F4, (F4.2 13 (by decide) (by decide)).trans h13⟩
    · rw [zeq (by omega) (by omega)] at b2
      have hA := k2 (by omega) (by omega)
      have s2 := (S1.2.2 i hi).2.2.1 (by omega) (by omega) (by omega)
      refine xw_aload_n B dX0_compileBoundary_56 rfl ?_
      refine xw_iconst (v := nI 0) B dX0_compileBoundary_57 (by decide) ?_
      refine xw_aload_n B dX0_compileBoundary_58 rfl ?_
      refine xa_getA C 2 (by decide) rfl q44 dX0_compileBoundary_59 ?_
      refine xw_iload_n B dX0_compileBoundary_62 rfl ?_
      refine xa_iald C 2 1 2 rfl rfl (by decide) dX0_compileBoundary_63 (i) (rfl) (by omega) (s2) ?_
      refine xa_callv C (lw_V q153 q155 qs8 q32 q156) hdX0_write (by decide) (by decide) rfl (Nat.le_of_ble_eq_true rfl) dX0_compileBoundary_64 (c_write σ1 0 (nI (pA g i)) T1 (by omega) (by decide)) rfl (fun τ1 w1 => ?_)
      have h13a : τ1 0 13 = nI ol := (w1.2.2.2 13 (by decide) (by decide)).trans h13
      refine xw_aload_n B dX0_compileBoundary_67 rfl ?_
      refine xw_bipush (v := nI 6) B dX0_compileBoundary_68 (by decide) ?_
      refine xw_aload_n B dX0_compileBoundary_70 rfl ?_
      refine xa_getS C 13 (by decide) rfl q55 dX0_compileBoundary_71 (h13a) ?_
      refine xw_iadd B dX0_compileBoundary_74 (nI_add 6 ol) ?_
      refine xa_callv C (lw_V q129 q131 qs2 q32 q132) hdX0_pushLayout (by decide) (by decide) rfl (Nat.le_of_ble_eq_true rfl) dX0_compileBoundary_75 (c_pushLayout τ1 (6 + ol) w1.2.1 (by omega) (by omega)) rfl (fun τ2 w2 => ?_)
      have h13b : τ2 0 13 = nI ol := (w2.2.2.2 13 (by decide) (by decide)).trans h13a
      refine xw_aload_n B dX0_compileBoundary_78 rfl ?_
      refine xw_dup B dX0_compileBoundary_79 rfl ?_
      refine xa_getS C 13 (by decide) rfl q55 dX0_compileBoundary_80 (h13b) ?_
      refine xw_iconst (v := nI 1) B dX0_compileBoundary_83 (by decide) ?_
      refine xw_iadd B dX0_compileBoundary_84 (nI_add ol 1) ?_
      refine xa_put (ty := .int) C 13 (by decide) (xa_f13 h d _ _) q55 rfl (by decide +kernel) (rfl) (rfl) dX0_compileBoundary_85 ?_
      refine xw_aload_n B dX0_compileBoundary_88 rfl ?_
      refine xw_iconst (v := nI 1) B dX0_compileBoundary_89 (by decide) ?_
      refine xw_iconst (v := nI 0) B dX0_compileBoundary_90 (by decide) ?_
      have T3 := w2.2.1.of (τ := su τ2 0 13 (nI (ol + 1))) rfl rfl (fun _ => rfl) (fun _ => rfl) (fun _ => rfl)
      have F3 : F2 σ1 (su τ2 0 13 (nI (ol + 1))) := (w1.2.2.tr w2.2.2).f2.tr ⟨fun a b h1 h2 h3 h4 h5 h6 => by simp [su, h1], fun j h1 h2 h3 h4 => by simp [su, h3]⟩
      have Q3 : Bk (su τ2 0 13 (nI (ol + 1))) bs := (show Bk τ2 bs from Q1.fr (w1.2.2.tr w2.2.2))
      have h13c : su τ2 0 13 (nI (ol + 1)) 0 13 = nI (ol + 1) := rfl
      generalize su τ2 0 13 (nI (ol + 1)) = τ3 at T3 F3 Q3 h13c ⊢
      refine xa_callv C (lw_V q153 q155 qs8 q32 q156) hdX0_write (by decide) (by decide) rfl (Nat.le_of_ble_eq_true rfl) dX0_compileBoundary_91 (c_write τ3 1 0 T3 (by simp; omega) (by decide)) rfl (fun τ4 w4 => ?_)
      refine xw_aload_n B dX0_compileBoundary_94 rfl ?_
      refine xw_bipush (v := nI 10) B dX0_compileBoundary_95 (by decide) ?_
      refine xa_callv C (lw_V q157 q159 qs9 q32 q160) hdX0_openBlock (by decide) (by decide) rfl (Nat.le_of_ble_eq_true rfl) dX0_compileBoundary_97 (c_openBlock τ4 10 w4.2.1 (Q3.fr w4.2.2) (hop (Or.inr b2)) (by decide) (by simp; omega)) rfl (fun τ5 w5 => ?_)
      refine xw_aload_n B dX0_compileBoundary_100 rfl ?_
      refine xw_bipush (v := nI 10) B dX0_compileBoundary_101 (by decide) ?_
      refine xw_iconst (v := nI 0) B dX0_compileBoundary_103 (by decide) ?_
      refine xa_callv C (lw_V q153 q155 qs8 q32 q156) hdX0_write (by decide) (by decide) rfl (Nat.le_of_ble_eq_true rfl) dX0_compileBoundary_104 (c_write τ5 10 0 w5.2.1 (by simp; omega) (by decide)) rfl (fun τ6 w6 => ?_)
      refine xw_goto (tgt := 168) B dX0_compileBoundary_107 (by decide) ?_
      refine xa_vret C rfl dX0_compileBoundary_168 ?_
      refine ⟨rfl, ?_, F1.f2.tr (F3.tr (w4.2.2.f2.tr (w5.2.2.2.2.tr w6.2.2.f2)))⟩
      rw [cbd, if_neg b1, if_pos b2]
      simp only
      rw [hae]
      refine ⟨by simpa [List.append_assoc] using w6.2.1, by simpa using w5.2.2.1.fr w6.2.2, ?_⟩
      exact (w6.2.2.2 13 (by decide) (by decide)).trans (w5.2.2.2.1.trans ((w4.2.2.2 13 (by decide) (by decide)).trans h13c))
  · rw [zeq (by omega) (by omega)] at b1
    have hA := k2 (by omega) (by omega)
    have s2 := (S1.2.2 i hi).2.2.1 (by omega) (by omega) (by omega)
    refine xw_aload_n B dX0_compileBoundary_17 rfl ?_
    refine xw_aload_n B dX0_compileBoundary_18 rfl ?_
    refine xa_getA C 2 (by decide) rfl q44 dX0_compileBoundary_19 ?_
    refine xw_iload_n B dX0_compileBoundary_22 rfl ?_
    refine xa_iald C 2 1 2 rfl rfl (by decide) dX0_compileBoundary_23 (i) (rfl) (by omega) (s2) ?_
    refine xa_calli C (lw_V q149 q151 qs7 q32 q152) hdX0_distance (by decide) (by decide) rfl (Nat.le_of_ble_eq_true rfl) dX0_compileBoundary_24 (c_distance σ1 (pA g i) T1 (by omega)) rfl (fun r τ hp => ?_)
    obtain ⟨e1, e2, -⟩ := hp
    have e2 := e2 (ham _ (by omega))
    cases e2
    rw [e1]
    clear e1
    refine xw_istore_n (i := 3) B dX0_compileBoundary_27 rfl (by decide) ?_
    refine xw_aload_n B dX0_compileBoundary_28 rfl ?_
    refine xw_iconst (v := nI 1) B dX0_compileBoundary_29 (by decide) ?_
    refine xw_iload_n B dX0_compileBoundary_30 rfl ?_
    refine xa_callv C (lw_V q153 q155 qs8 q32 q156) hdX0_write (by decide) (by decide) rfl (Nat.le_of_ble_eq_true rfl) dX0_compileBoundary_31 (c_write σ1 1 (nI (dx y1 (pA g i))) T1 (by omega) (by decide)) rfl (fun τ1 w1 => ?_)
    refine xw_aload_n B dX0_compileBoundary_34 rfl ?_
    refine xw_bipush (v := nI 8) B dX0_compileBoundary_35 (by decide) ?_
    refine xa_callv C (lw_V q157 q159 qs9 q32 q160) hdX0_openBlock (by decide) (by decide) rfl (Nat.le_of_ble_eq_true rfl) dX0_compileBoundary_37 (c_openBlock τ1 8 w1.2.1 (Q1.fr w1.2.2) (hop (Or.inl b1)) (by decide) (by simp; omega)) rfl (fun τ2 w2 => ?_)
    refine xw_aload_n B dX0_compileBoundary_40 rfl ?_
    refine xw_bipush (v := nI 10) B dX0_compileBoundary_41 (by decide) ?_
    refine xw_iconst (v := nI 0) B dX0_compileBoundary_43 (by decide) ?_
    refine xa_callv C (lw_V q153 q155 qs8 q32 q156) hdX0_write (by decide) (by decide) rfl (Nat.le_of_ble_eq_true rfl) dX0_compileBoundary_44 (c_write τ2 10 0 w2.2.1 (by simp; omega) (by decide)) rfl (fun τ3 w3 => ?_)
    refine xw_goto (tgt := 168) B dX0_compileBoundary_47 (by decide) ?_
    refine xa_vret C rfl dX0_compileBoundary_168 ?_
    refine ⟨rfl, ?_, F1.f2.tr (w1.2.2.f2.tr (w2.2.2.2.2.tr w3.2.2.f2))⟩
    rw [cbd, if_pos b1]
    simp only
    rw [hae]
    refine ⟨by simpa [List.append_assoc] using w3.2.1, by simpa using w2.2.2.1.fr w3.2.2, ?_⟩
    exact (w3.2.2.2 13 (by decide) (by decide)).trans (w2.2.2.2.1.trans ((w1.2.2.2 13 (by decide) (by decide)).trans h13))
end
section
/-! the open blocks ahead of statement i: (opener, its ELSE or itself), top first; soundness -/
def stk (g : Pg) : Nat → List (Nat × Nat)
  | 0 => []
  | i + 1 => if pK g i = 8 ∨ pK g i = 10 then (i, i) :: stk g i else if pK g i = 9 then (match stk g i with | [] => [] | q :: t => (q.1, i) :: t) else if pK g i = 11 then (stk g i).tail else stk g i
def okq (g : Pg) (i : Nat) : Bool := if pK g i = 8 ∨ pK g i = 10 then decide ((stk g i).length < 3) else if pK g i = 9 then (match stk g i with | [] => false | q :: _ => q.1 == q.2 && pK g q.1 == 8) else if pK g i = 11 then !(stk g i).isEmpty else true
def okb (g : Pg) : Nat → Bool
  | 0 => true
  | i + 1 => okb g i && okq g i
def snd (g : Pg) : Bool := okb g (pN g) && (stk g (pN g)).isEmpty
theorem okb_le {g : Pg} {i j : Nat} (h : i ≤ j) (hj : okb g j = true) : okb g i = true := by
  induction j with
  | zero => rw [show i = 0 by omega]; rfl
  | succ j ih =>
    by_cases e : i = j + 1
    · rw [e]; exact hj
    · simp only [okb, Bool.and_eq_true] at hj
      exact ih (by omega) hj.1
theorem okb_q {g : Pg} {i j : Nat} (h : i < j) (hj : okb g j = true) : okq g i = true := by
  have := okb_le (show i + 1 ≤ j from h) hj
  simp only [okb, Bool.and_eq_true] at this
  exact this.2
theorem snd_no {g : Pg} {i : Nat} (hi : i < pN g) (h : okq g i = false) : snd g = false := by
  cases e : snd g with
  | false => rfl
  | true =>
    simp only [snd, Bool.and_eq_true] at e
    rw [okb_q hi e.1] at h
    cases h
/-- what blocksFit holds of a block -/
def bkd (g : Pg) (q : Nat × Nat) : Nat := if q.1 = q.2 then pK g q.1 else 9
def Bq (σ : Sg) (g : Pg) (l : List (Nat × Nat)) : Prop := ∀ j q, l[j]? = some q → σ 15 (l.length - 1 - j) = nI (bkd g q) ∧ bkd g q ≤ 11
def F15 (σ τ : Sg) : Prop := ∀ k j, k ≠ 15 → τ k j = σ k j
theorem Bq.push {σ : Sg} {g : Pg} {l : List (Nat × Nat)} (h : Bq σ g l) (q : Nat × Nat) (hq : bkd g q ≤ 11) : Bq (su σ 15 l.length (nI (bkd g q))) g (q :: l) := by
  intro j q' hj
  cases j with
  | zero =>
    simp at hj
    subst hj
    simp [su, hq]
  | succ j =>
    have hl := lt_of_q hj
    simp at hl
    have := h j q' (by simpa using hj)
    rw [show (q :: l).length - 1 - (j + 1) = l.length - 1 - j by simp; omega]
    have e2 : ¬ l.length - 1 - j = l.length := by omega
    simp [su, e2]
    exact this
theorem Bq.top {σ : Sg} {g : Pg} {q0 q : Nat × Nat} {l : List (Nat × Nat)} (h : Bq σ g (q0 :: l)) (hq : bkd g q ≤ 11) : Bq (su σ 15 l.length (nI (bkd g q))) g (q :: l) := by
  intro j q' hj
  cases j with
  | zero =>
    simp at hj
    subst hj
    simp [su, hq]
  | succ j =>
    have hl := lt_of_q hj
    simp at hl
    have := h (j + 1) q' (by simpa using hj)
    rw [show (q0 :: l).length - 1 - (j + 1) = l.length - 1 - j by simp; omega] at this
    rw [show (q :: l).length - 1 - (j + 1) = l.length - 1 - j by simp; omega]
    have e2 : ¬ l.length - 1 - j = l.length := by omega
    simp [su, e2]
    exact this
theorem Bq.pop {σ : Sg} {g : Pg} {q0 : Nat × Nat} {l : List (Nat × Nat)} (h : Bq σ g (q0 :: l)) : Bq σ g l := by
  intro j q' hj
  have hl := lt_of_q hj
  have := h (j + 1) q' (by simpa using hj)
  rw [show (q0 :: l).length - 1 - (j + 1) = l.length - 1 - j by simp; omega] at this
  exact this
theorem F15.upd {σ τ : Sg} (h : F15 σ τ) (j : Nat) (v : Int32) : F15 σ (su τ 15 j v) := fun k b hk => by
  rw [show su τ 15 j v k b = τ k b by simp [su, hk]]
  exact h k b hk
theorem Sx.f15 {σ τ : Sg} {g : Pg} (h : Sx σ g) (f : F15 σ τ) : Sx τ g := h.of (f 0 0 (by decide)) (fun j => f 1 j (by decide)) (fun j => f 2 j (by decide)) (fun j => f 3 j (by decide)) (fun j => f 4 j (by decide))
theorem stk_lt {g : Pg} {i : Nat} : ∀ q ∈ stk g i, q.1 < i ∧ q.2 < i := by
  induction i with
  | zero => intro q hq; cases hq
  | succ i ih =>
    intro q hq
    unfold stk at hq
    split at hq
    · rcases List.mem_cons.mp hq with e | e
      · rw [e]; simp
      · have := ih q e; omega
    · split at hq
      · split at hq
        · cases hq
        · rename_i e0
          rcases List.mem_cons.mp hq with e | e
          · have := ih _ (by rw [e0]; exact List.mem_cons_self)
            rw [e]
            simp
            omega
          · have := ih q (by rw [e0]; exact List.mem_cons_of_mem _ e)
            omega
      · split at hq
        · have := ih q (List.mem_of_mem_tail hq); omega
        · have := ih q hq; omega
theorem c_blocksFit_loop (σ : Sg) (g : Pg) (S : Sx σ g) {X : CX} {D : va_G} {h : Nat → Nat} {d : Nat → ClassId} {lv : Nat}
    (C : CA X cX0_blocksFit 4 (some .boolean) lv D h d (fun r τ => F15 σ τ ∧ r = some (bI (snd g)))) :
    ∀ (f i : Nat) (σ1 : Sg), i ≤ pN g → pN g < i + f → okb g i = true → (stk g i).length ≤ 3 → F15 σ σ1 → Bq σ1 g (stk g i) → XW X (PA D h d σ1) 4 [(2, .int (nI i)), (1, .int (nI (stk g i).length)), (0, .ref (h 0))] [] := by
  have B := C.1
  have hn : pN g ≤ 40 := S.1.1
  intro f
  induction f with
  | zero => intro i σ1 h1 h2; omega
  | succ f ih =>
    intro i σ1 h1 h2 hok hs3 F Q
    have S1 := S.f15 F
    refine xw_iload_n B dX0_blocksFit_4 rfl ?_
    refine xw_aload_n B dX0_blocksFit_5 rfl ?_
    refine xa_getS C 0 (by decide) rfl q42 dX0_blocksFit_6 (S1.2.1) ?_
    refine xw_icmp_ge (tgt := 111) B dX0_blocksFit_9 (by decide) (fun c1 => ?_) (fun c1 => ?_)
    · rw [zle (by omega) (by omega)] at c1
      have ei : i = pN g := by omega
      refine xw_iload_n B dX0_blocksFit_111 rfl ?_
      refine xw_if_ne (tgt := 119) B dX0_blocksFit_112 (by decide) (fun c2 => ?_) (fun c2 => ?_)
      · rw [z0eq (by omega)] at c2
        refine xw_iconst (v := nI 0) B dX0_blocksFit_119 (by decide) ?_
        refine xa_iret C rfl rfl dX0_blocksFit_120 ⟨F, ?_⟩
        have : snd g = false := by
          rw [snd, ← ei, hok]
          cases e : stk g i with
          | nil => rw [e] at c2; simp at c2
          | cons a b => rfl
        rw [this]
        rfl
      · rw [z0eq (by omega)] at c2
        refine xw_iconst (v := nI 1) B dX0_blocksFit_115 (by decide) ?_
        refine xw_goto (tgt := 120) B dX0_blocksFit_116 (by decide) ?_
        refine xa_iret C rfl rfl dX0_blocksFit_120 ⟨F, ?_⟩
        have : snd g = true := by
          rw [snd, ← ei, hok]
          cases e : stk g i with
          | nil => rfl
          | cons a b => rw [e] at c2; simp at c2
        rw [this]
        rfl
    · rw [zle (by omega) (by omega)] at c1
      have hi : i < pN g := by omega
      have s1 := (S1.2.2 i hi).1
      have k1 := (S1.1.2 i hi).1
      have fin : ∀ (σ2 : Sg) (o : Nat) (z : Int32), okq g i = true → o = (stk g (i + 1)).length → o ≤ 3 → F15 σ σ2 → Bq σ2 g (stk g (i + 1)) → XW X (PA D h d σ2) 105 [(1, .int (nI o)), (3, .int z), (2, .int (nI i)), (0, .ref (h 0))] [] := by
        intro σ2 o z hq ho ho3 F2 Q2
        subst ho
        refine xw_iinc B dX0_blocksFit_105 rfl (zinc i) (by decide) ?_
        refine xw_goto (tgt := 4) B dX0_blocksFit_108 (by decide) ?_
        refine xw_loc [(2, .int (nI (i + 1))), (1, .int (nI (stk g (i + 1)).length)), (0, .ref (h 0))] ⟨rfl, rfl, rfl, trivial⟩ ?_
        exact ih (i + 1) σ2 (by omega) (by omega) (by rw [okb, hok, hq]; rfl) ho3 F2 Q2
      have J31 : pK g i = 8 ∨ pK g i = 10 → XW X (PA D h d σ1) 31 [(3, .int (nI (pK g i))), (2, .int (nI i)), (1, .int (nI (stk g i).length)), (0, .ref (h 0))] [] := by
        intro hk
        refine xw_iload_n B dX0_blocksFit_31 rfl ?_
        refine xw_iconst (v := nI 3) B dX0_blocksFit_32 (by decide) ?_
        refine xw_icmp_ne (tgt := 38) B dX0_blocksFit_33 (by decide) (fun c3 => ?_) (fun c3 => ?_)
        · rw [zeq (by omega) (by omega)] at c3
          refine xw_aload_n B dX0_blocksFit_38 rfl ?_
          refine xa_getA C 15 (by decide) rfl q57 dX0_blocksFit_39 ?_
          refine xw_iload_n B dX0_blocksFit_42 rfl ?_
          refine xw_iload_n B dX0_blocksFit_43 rfl ?_
          refine xw_i2b B dX0_blocksFit_44 (z8 _ (by omega)) ?_
          refine xa_bast C 9 8 15 rfl rfl (xa_s15 h d _) (by decide) dX0_blocksFit_45 ((stk g i).length) (rfl) (by omega) (z8n _ (by omega)) ?_
          refine xw_iinc B dX0_blocksFit_46 rfl (zinc _) (by decide) ?_
          refine xw_goto (tgt := 105) B dX0_blocksFit_49 (by decide) ?_
          refine xw_loc [(1, .int (nI ((stk g i).length + 1))), (3, .int (nI (pK g i))), (2, .int (nI i)), (0, .ref (h 0))] ⟨rfl, rfl, rfl, rfl, trivial⟩ ?_
          have he : stk g (i + 1) = (i, i) :: stk g i := by rw [stk, if_pos hk]
          refine fin _ _ _ (by rw [okq, if_pos hk]; simp; omega) (by rw [he]; rfl) (by omega) (F.upd _ _) ?_
          rw [he]
          have hb : bkd g (i, i) = pK g i := by simp [bkd]
          have := Q.push (i, i) (by rw [hb]; exact k1)
          rw [hb] at this
          exact this
        · rw [zeq (by omega) (by omega)] at c3
          refine xw_iconst (v := nI 0) B dX0_blocksFit_36 (by decide) ?_
          refine xa_iret C rfl rfl dX0_blocksFit_37 ⟨F, ?_⟩
          rw [snd_no hi (by rw [okq, if_pos hk]; simp; omega)]
          rfl
      refine xw_aload_n B dX0_blocksFit_12 rfl ?_
      refine xa_getA C 1 (by decide) rfl q43 dX0_blocksFit_13 ?_
      refine xw_iload_n B dX0_blocksFit_16 rfl ?_
      refine xa_bald C 1 0 1 rfl rfl (by decide) dX0_blocksFit_17 (i) (rfl) (by omega) (s1) ?_
      refine xw_istore_n (i := 3) B dX0_blocksFit_18 rfl (by decide) ?_
      refine xw_iload_n B dX0_blocksFit_19 rfl ?_
      refine xw_bipush (v := nI 8) B dX0_blocksFit_20 (by decide) ?_
      refine xw_loc [(3, .int (nI (pK g i))), (2, .int (nI i)), (1, .int (nI (stk g i).length)), (0, .ref (h 0))] ⟨rfl, rfl, rfl, rfl, trivial⟩ ?_
      refine xw_icmp_eq (tgt := 31) B dX0_blocksFit_22 (by decide) (fun c2 => ?_) (fun c2 => ?_)
      · rw [zeq (by omega) (by omega)] at c2
        exact J31 (Or.inl c2)
      · rw [zeq (by omega) (by omega)] at c2
        refine xw_iload_n B dX0_blocksFit_25 rfl ?_
        refine xw_bipush (v := nI 10) B dX0_blocksFit_26 (by decide) ?_
        refine xw_icmp_ne (tgt := 52) B dX0_blocksFit_28 (by decide) (fun c3 => ?_) (fun c3 => ?_)
        · rw [zeq (by omega) (by omega)] at c3
          have hno : ¬ (pK g i = 8 ∨ pK g i = 10) := by omega
          refine xw_iload_n B dX0_blocksFit_52 rfl ?_
          refine xw_bipush (v := nI 9) B dX0_blocksFit_53 (by decide) ?_
          refine xw_icmp_ne (tgt := 90) B dX0_blocksFit_55 (by decide) (fun c4 => ?_) (fun c4 => ?_)
          · rw [zeq (by omega) (by omega)] at c4
            refine xw_iload_n B dX0_blocksFit_90 rfl ?_
            refine xw_bipush (v := nI 11) B dX0_blocksFit_91 (by decide) ?_
            refine xw_icmp_ne (tgt := 105) B dX0_blocksFit_93 (by decide) (fun c5 => ?_) (fun c5 => ?_)
            · rw [zeq (by omega) (by omega)] at c5
              have he : stk g (i + 1) = stk g i := by rw [stk, if_neg hno, if_neg c4, if_neg c5]
              refine xw_loc [(1, .int (nI (stk g i).length)), (3, .int (nI (pK g i))), (2, .int (nI i)), (0, .ref (h 0))] ⟨rfl, rfl, rfl, rfl, trivial⟩ ?_
              exact fin σ1 _ _ (by rw [okq, if_neg hno, if_neg c4, if_neg c5]) (by rw [he]) hs3 F (by rw [he]; exact Q)
            · rw [zeq (by omega) (by omega)] at c5
              have he : stk g (i + 1) = (stk g i).tail := by rw [stk, if_neg hno, if_neg c4, if_pos c5]
              have hq : okq g i = !(stk g i).isEmpty := by rw [okq, if_neg hno, if_neg c4, if_pos c5]
              refine xw_iload_n B dX0_blocksFit_96 rfl ?_
              refine xw_if_ne (tgt := 102) B dX0_blocksFit_97 (by decide) (fun c6 => ?_) (fun c6 => ?_)
              · rw [z0eq (by omega)] at c6
                refine xw_iinc B dX0_blocksFit_102 rfl (rfl) (by decide) ?_
                refine xw_loc [(1, .int (nI (stk g i).length + Int32.ofInt (-1))), (3, .int (nI (pK g i))), (2, .int (nI i)), (0, .ref (h 0))] ⟨rfl, rfl, rfl, rfl, trivial⟩ ?_
                cases e : stk g i with
                | nil => rw [e] at c6; simp at c6
                | cons a t =>
                  rw [e] at he hq hs3 Q
                  have : nI (a :: t).length + Int32.ofInt (-1) = nI t.length := by
                    rw [show Int32.ofInt (-1) = -1 by decide, List.length_cons]
                    exact pk_m1 t.length
                  rw [this]
                  exact fin σ1 _ _ (by rw [hq]; rfl) (by rw [he]; rfl) (by simp at hs3; omega) F (by rw [he]; exact Q.pop)
              · rw [z0eq (by omega)] at c6
                refine xw_iconst (v := nI 0) B dX0_blocksFit_100 (by decide) ?_
                refine xa_iret C rfl rfl dX0_blocksFit_101 ⟨F, ?_⟩
                rw [snd_no hi (by rw [hq]; cases e : stk g i with | nil => rfl | cons a t => rw [e] at c6; simp at c6)]
                rfl
          · rw [zeq (by omega) (by omega)] at c4
            have hq : okq g i = (match stk g i with | [] => false | q :: _ => q.1 == q.2 && pK g q.1 == 8) := by rw [okq, if_neg hno, if_pos c4]
            have he : stk g (i + 1) = (match stk g i with | [] => [] | q :: t => (q.1, i) :: t) := by rw [stk, if_neg hno, if_pos c4]
            refine xw_iload_n B dX0_blocksFit_58 rfl ?_
            refine xw_if_eq (tgt := 75) B dX0_blocksFit_59 (by decide) (fun c5 => ?_) (fun c5 => ?_)
            · rw [z0eq (by omega)] at c5
              refine xw_iconst (v := nI 0) B dX0_blocksFit_75 (by decide) ?_
              refine xa_iret C rfl rfl dX0_blocksFit_76 ⟨F, ?_⟩
              rw [snd_no hi (by rw [hq]; cases e : stk g i with | nil => rfl | cons a t => rw [e] at c5; simp at c5)]
              rfl
            · rw [z0eq (by omega)] at c5
              cases e : stk g i with
              | nil => rw [e] at c5; simp at c5
              | cons q t =>
                have hqm := stk_lt q (by rw [e]; exact List.mem_cons_self)
                rw [e] at he hq hs3 Q
                have q0 := Q 0 q rfl
                rw [show (q :: t).length - 1 - 0 = t.length from rfl] at q0
                simp only [List.length_cons] at hs3
                refine xw_aload_n B dX0_blocksFit_62 rfl ?_
                refine xa_getA C 15 (by decide) rfl q57 dX0_blocksFit_63 ?_
                refine xw_iload_n B dX0_blocksFit_66 rfl ?_
                refine xw_iconst (v := nI 1) B dX0_blocksFit_67 (by decide) ?_
                refine xw_isub B dX0_blocksFit_68 (show nI (q :: t).length - nI 1 = nI t.length from zsub (by simp)) ?_
                refine xa_bald C 9 8 15 rfl rfl (by decide) dX0_blocksFit_69 (t.length) (rfl) (by omega) (q0.1) ?_
                refine xw_bipush (v := nI 8) B dX0_blocksFit_70 (by decide) ?_
                refine xw_icmp_eq (tgt := 77) B dX0_blocksFit_72 (by decide) (fun c6 => ?_) (fun c6 => ?_)
                · rw [zeq (by omega) (by omega)] at c6
                  have hqq : q.1 = q.2 ∧ pK g q.1 = 8 := by
                    unfold bkd at c6
                    split at c6
                    · exact ⟨by assumption, c6⟩
                    · omega
                  refine xw_aload_n B dX0_blocksFit_77 rfl ?_
                  refine xa_getA C 15 (by decide) rfl q57 dX0_blocksFit_78 ?_
                  refine xw_iload_n B dX0_blocksFit_81 rfl ?_
                  refine xw_iconst (v := nI 1) B dX0_blocksFit_82 (by decide) ?_
                  refine xw_isub B dX0_blocksFit_83 (show nI (q :: t).length - nI 1 = nI t.length from zsub (by simp)) ?_
                  refine xw_bipush (v := nI 9) B dX0_blocksFit_84 (by decide) ?_
                  refine xa_bast C 9 8 15 rfl rfl (xa_s15 h d _) (by decide) dX0_blocksFit_86 (t.length) (rfl) (by omega) (z8n 9 (by decide)) ?_
                  refine xw_goto (tgt := 105) B dX0_blocksFit_87 (by decide) ?_
                  refine xw_loc [(1, .int (nI (q :: t).length)), (3, .int (nI (pK g i))), (2, .int (nI i)), (0, .ref (h 0))] ⟨rfl, rfl, rfl, rfl, trivial⟩ ?_
                  have hb : bkd g (q.1, i) = 9 := by
                    simp only [bkd]
                    rw [if_neg (by omega)]
                  refine fin _ _ _ (by rw [hq]; simp only [Bool.and_eq_true, beq_iff_eq]; exact hqq) (by rw [he]; rfl) (by simp; omega) (F.upd _ _) ?_
                  rw [he]
                  have := Q.top (q := (q.1, i)) (by rw [hb]; decide)
                  rw [hb] at this
                  exact this
                · rw [zeq (by omega) (by omega)] at c6
                  refine xw_iconst (v := nI 0) B dX0_blocksFit_75 (by decide) ?_
                  refine xa_iret C rfl rfl dX0_blocksFit_76 ⟨F, ?_⟩
                  rw [snd_no hi]
                  · rfl
                  · rw [hq]
                    unfold bkd at c6
                    split at c6
                    · rename_i e2
                      simp [c6]
                    · rename_i e2
                      simp [e2]
        · rw [zeq (by omega) (by omega)] at c3
          exact J31 (Or.inr c3)
theorem c_blocksFit (σ : Sg) (g : Pg) (S : Sx σ g) : XA 0 yX0_blocksFit cX0_blocksFit 4 (some .boolean) [] σ (fun r τ => F15 σ τ ∧ r = some (bI (snd g))) := by
  refine xa_ofI [] (by decide) rfl (Nat.le_of_ble_eq_true rfl) (fun X D h d C => ?_)
  have B := C.1
  show XW X _ 0 [(0, .ref (h 0))] []
  refine xw_iconst (v := nI 0) B dX0_blocksFit_0 (by decide) ?_
  refine xw_istore_n (i := 1) B dX0_blocksFit_1 rfl (by decide) ?_
  refine xw_iconst (v := nI 0) B dX0_blocksFit_2 (by decide) ?_
  refine xw_istore_n (i := 2) B dX0_blocksFit_3 rfl (by decide) ?_
  refine xw_loc [(2, .int (nI 0)), (1, .int (nI (stk g 0).length)), (0, .ref (h 0))] ⟨rfl, rfl, rfl, trivial⟩ ?_
  exact c_blocksFit_loop σ g S C (pN g + 1) 0 σ (by omega) (by omega) rfl (by simp [stk]) (fun _ _ _ => rfl) (fun j q hj => by simp [stk] at hj)
end
section
/-! the compiler on plain lists -/
theorem er_eq (y : List Nat) (v : Nat) : y.eraseIdx (dx y v) = y.erase v := by
  induction y with
  | nil => rfl
  | cons a t ih =>
    rw [dx]
    by_cases e : a = v
    · rw [if_pos e, e]
      simp
    · rw [if_neg e, List.eraseIdx_cons_succ, ih, List.erase_cons_tail (by simpa using e)]
theorem nd_le : ∀ (m : Nat) (y : List Nat), y.Nodup → (∀ w ∈ y, w < m) → y.length ≤ m
  | 0, y, _, h => by
    cases y with
    | nil => simp
    | cons a t => exact absurd (h a List.mem_cons_self) (by omega)
  | m + 1, y, hn, h => by
    have h1 : (y.erase m).length ≤ m := nd_le m (y.erase m) (hn.erase m) (fun w hw => by
      have h2 := (hn.mem_erase_iff).mp hw
      have h3 := h w h2.2
      have := h2.1
      omega)
    by_cases hm : m ∈ y
    · rw [List.length_erase_of_mem hm] at h1
      omega
    · rw [List.erase_of_not_mem hm] at h1
      omega
theorem nd_ge : ∀ (m : Nat) (y : List Nat), (∀ v, v < m → v ∈ y) → m ≤ y.length
  | 0, _, _ => Nat.zero_le _
  | m + 1, y, h => by
    have h1 := nd_ge m (y.erase m) (fun v hv => (List.mem_erase_of_ne (by omega)).mpr (h v (by omega)))
    have h2 := h m (by omega)
    rw [List.length_erase_of_mem h2] at h1
    have := List.length_pos_of_mem h2
    omega
def dsc (a : Nat) : Nat → List Nat
  | 0 => []
  | k + 1 => (a + k) :: dsc a k
theorem dsc_mem {a x : Nat} : ∀ {k : Nat}, x ∈ dsc a k ↔ a ≤ x ∧ x < a + k
  | 0 => by
    simp only [dsc, List.not_mem_nil, false_iff]
    omega
  | k + 1 => by
    rw [dsc, List.mem_cons, dsc_mem]
    omega
theorem dsc_len {a : Nat} : ∀ {k : Nat}, (dsc a k).length = k
  | 0 => rfl
  | k + 1 => by rw [dsc, List.length_cons, dsc_len]
theorem dsc_get {a t : Nat} : ∀ {k : Nat}, t < k → (dsc a k)[t]? = some (a + k - 1 - t)
  | 0, h => by omega
  | k + 1, h => by
    cases t with
    | zero => simp [dsc]
    | succ t =>
      rw [dsc, List.getElem?_cons_succ, dsc_get (by omega)]
      congr 1
      omega
theorem dsc_app (a : Nat) : ∀ k : Nat, dsc a k ++ dsc 0 a = dsc 0 (a + k)
  | 0 => rfl
  | k + 1 => by
    rw [dsc, List.cons_append, dsc_app a k, ← Nat.add_assoc, dsc, Nat.zero_add]
theorem dsc_nd (a : Nat) : ∀ k : Nat, (dsc a k).Nodup
  | 0 => by simp [dsc]
  | k + 1 => by
    rw [dsc, List.nodup_cons]
    exact ⟨fun h => by have := (dsc_mem.mp h).2; omega, dsc_nd a k⟩
theorem arL_cn {f0 tot : Nat} : ∀ (f w : Nat) (s : Ly) (u : List Nat), w + f = tot → f0 ≤ w → s.1 = dsc f0 (w - f0) ++ (u ++ dsc 0 f0) → u.Nodup → (∀ x, x ∈ u ↔ w ≤ x ∧ x < tot) → (arL f w s).1 = dsc 0 tot
  | 0, w, s, u, h1, h2, hs, hn, hm => by
    have hu : u = [] := by
      cases u with
      | nil => rfl
      | cons a t => have := (hm a).mp List.mem_cons_self; omega
    rw [arL, hs, hu, List.nil_append, dsc_app]
    congr 1
    omega
  | f + 1, w, s, u, h1, h2, hs, hn, hm => by
    have hw : w ∈ u := (hm w).mpr ⟨Nat.le_refl _, by omega⟩
    have hnw : w ∉ dsc f0 (w - f0) := fun h => by have := (dsc_mem.mp h).2; omega
    rw [arL]
    refine arL_cn (f0 := f0) f (w + 1) (puF w s) (u.erase w) (by omega) (by omega) ?_ (hn.erase w) (fun x => ?_)
    · show w :: s.1.eraseIdx (dx s.1 w) = _
      rw [er_eq, hs, List.erase_append_right _ hnw, List.erase_append_left _ hw, show w + 1 - f0 = (w - f0) + 1 by omega, dsc, show f0 + (w - f0) = w by omega]
      rfl
    · rw [hn.mem_erase_iff, hm]
      omega
theorem fxF_ok (y : List Nat) : ∀ (f j : Nat), (∀ t, t < j → y[y.length - 1 - t]? = some t) → ∀ t, t < fxF y f j → y[y.length - 1 - t]? = some t
  | 0, j, h => h
  | f + 1, j, h => by
    unfold fxF
    split
    · rename_i e
      refine fxF_ok y f (j + 1) (fun t ht => ?_)
      by_cases q : t = j
      · rw [q]; exact e
      · exact h t (by omega)
    · exact h
theorem arr_cn {tot : Nat} {s : Ly} (hn : s.1.Nodup) (hb : ∀ w ∈ s.1, w < tot) (hm : ∀ v, v < tot → v ∈ s.1) : (arr tot s).1 = dsc 0 tot := by
  have hl : s.1.length = tot := Nat.le_antisymm (nd_le tot s.1 hn hb) (nd_ge tot s.1 hm)
  have hf0 : fx tot s.1 ≤ tot := by
    have := (fxF_le s.1 tot 0).2
    unfold fx
    omega
  have hok := fxF_ok s.1 tot 0 (fun t ht => by omega)
  have hok : ∀ t, t < fx tot s.1 → s.1[s.1.length - 1 - t]? = some t := hok
  unfold arr
  generalize fx tot s.1 = f0 at hf0 hok
  have hdrop : s.1.drop (tot - f0) = dsc 0 f0 := by
    apply List.ext_getElem?
    intro t
    rw [List.getElem?_drop]
    by_cases ht : t < f0
    · rw [dsc_get ht]
      have := hok (f0 - 1 - t) (by omega)
      rw [show s.1.length - 1 - (f0 - 1 - t) = tot - f0 + t by omega] at this
      rw [this]
      congr 1
      omega
    · rw [List.getElem?_eq_none (by omega), List.getElem?_eq_none (by rw [dsc_len]; omega)]
  have hsp : s.1 = s.1.take (tot - f0) ++ dsc 0 f0 := by rw [← hdrop, List.take_append_drop]
  rw [hsp] at hn
  obtain ⟨n1, n2, n3⟩ := List.nodup_append.mp hn
  refine arL_cn (tot - f0) f0 s (s.1.take (tot - f0)) (by omega) (Nat.le_refl _) (by rw [Nat.sub_self, ← hsp]; rfl) n1 (fun x => ⟨fun hx => ?_, fun hx => ?_⟩)
  · have h1 := hb x (List.mem_of_mem_take hx)
    refine ⟨?_, h1⟩
    by_cases q : x < f0
    · exact absurd rfl (n3 x hx x (dsc_mem.mpr ⟨by omega, by omega⟩))
    · omega
  · have h1 := hm x hx.2
    rw [hsp] at h1
    rcases List.mem_append.mp h1 with q | q
    · exact q
    · have := (dsc_mem.mp q).2
      omega
/-! what is emitted doesn't depend on what stands there -/
theorem ft_app (g : Pg) (i v : Nat) (ag : Bool) (y : List Nat) (c : List (Nat × Int32)) : ft g i v ag (y, c) = ((ft g i v ag (y, [])).1, c ++ (ft g i v ag (y, [])).2) := by
  unfold ft
  split <;> simp
theorem stl_app (v : Nat) (y : List Nat) (c : List (Nat × Int32)) : stl v (y, c) = ((stl v (y, [])).1, c ++ (stl v (y, [])).2) := by
  unfold stl
  simp
theorem arP_app (g : Pg) (i : Nat) (y : List Nat) (c : List (Nat × Int32)) : arP g i (y, c) = ((arP g i (y, [])).1, c ++ (arP g i (y, [])).2) := by
  unfold arP
  split
  · rw [ft_app g i (pB g i) true y c]
    simp
  · rw [ft_app g i (pB g i) false y c]
    generalize ft g i (pB g i) false (y, []) = s1
    obtain ⟨y1, c1⟩ := s1
    simp only
    rw [ft_app g i (pC g i) false y1 (c ++ c1), ft_app g i (pC g i) false y1 c1]
    simp
theorem ar_app (g : Pg) (i : Nat) (y : List Nat) (c : List (Nat × Int32)) : ar g i (y, c) = ((ar g i (y, [])).1, c ++ (ar g i (y, [])).2) := by
  unfold ar
  rw [arP_app g i y c]
  simp
theorem cst_app (g : Pg) (i : Nat) (y : List Nat) (c : List (Nat × Int32)) : cst g i (y, c) = ((cst g i (y, [])).1, c ++ (cst g i (y, [])).2) := by
  unfold cst
  split
  · rw [ft_app g i (pA g i) false y c]
    simp
  · split
    · simp only
      rw [stl_app _ _ (c ++ [(0, pI g i)]), stl_app _ _ ([] ++ [(0, pI g i)])]
      simp
    · split
      · rw [ft_app g i (pB g i) false y c]
        generalize ft g i (pB g i) false (y, []) = s1
        obtain ⟨y1, c1⟩ := s1
        simp only
        rw [stl_app _ y1 (c ++ c1), stl_app _ y1 c1]
        simp
      · rw [ar_app g i y c]
        generalize ar g i (y, []) = s1
        obtain ⟨y1, c1⟩ := s1
        simp only
        rw [stl_app _ y1 (c ++ c1), stl_app _ y1 c1]
        simp
theorem puF_app (w : Nat) (y : List Nat) (c : List (Nat × Int32)) : puF w (y, c) = ((puF w (y, [])).1, c ++ (puF w (y, [])).2) := by
  unfold puF
  simp
theorem arL_app : ∀ (f w : Nat) (y : List Nat) (c : List (Nat × Int32)), arL f w (y, c) = ((arL f w (y, [])).1, c ++ (arL f w (y, [])).2)
  | 0, _, _, _ => by simp [arL]
  | f + 1, w, y, c => by
    rw [arL, arL, puF_app w y c]
    generalize puF w (y, []) = s1
    obtain ⟨y1, c1⟩ := s1
    simp only
    rw [arL_app f (w + 1) y1 (c ++ c1), arL_app f (w + 1) y1 c1]
    simp
theorem arr_app (tot : Nat) (y : List Nat) (c : List (Nat × Int32)) : arr tot (y, c) = ((arr tot (y, [])).1, c ++ (arr tot (y, [])).2) := arL_app _ _ _ _
/-! the compiler's states -/
def cm (g : Pg) : Nat → Cs
  | 0 => ([5, 4, 3, 2, 1, 0], [], [], 0)
  | i + 1 => if 8 ≤ pK g i then cbd g i (cm g i) else ((cst g i ((cm g i).1, (cm g i).2.1)).1, (cst g i ((cm g i).1, (cm g i).2.1)).2, (cm g i).2.2.1, (cm g i).2.2.2)
def cmF (g : Pg) : List (Nat × Int32) := (arr 6 ((cm g (pN g)).1, (cm g (pN g)).2.1)).2
def lo (g : Pg) (i : Nat) : Nat := ((stk g i).filter (fun q => pK g q.1 == 10)).length
def Gd (ol : Nat) (y : List Nat) : Prop := y.Nodup ∧ (∀ w ∈ y, w < 6 + ol) ∧ ∀ k, k < ol → 6 + k ∈ y
theorem Gd.dsc (ol : Nat) : Gd ol (dsc 0 (6 + ol)) := ⟨dsc_nd _ _, fun w hw => by have := (dsc_mem.mp hw).2; omega, fun k hk => dsc_mem.mpr (by omega)⟩
/-- y2 is y but for variables that statement i uses last -/
def Sb (g : Pg) (i : Nat) (y y2 : List Nat) : Prop := y2.Nodup ∧ (∀ w ∈ y2, w ∈ y) ∧ ∀ w ∈ y, w ∈ y2 ∨ (w ≤ 5 ∧ (wrt g i w = true ∨ wan g (i + 1) w = false))
theorem Sb.rf {g : Pg} {i : Nat} {y : List Nat} (h : y.Nodup) : Sb g i y y := ⟨h, fun _ h => h, fun _ h => Or.inl h⟩
theorem Sb.tr {g : Pg} {i : Nat} {y y2 y3 : List Nat} (h : Sb g i y y2) (k : Sb g i y2 y3) : Sb g i y y3 := ⟨k.1, fun w hw => h.2.1 w (k.2.1 w hw), fun w hw => by
  rcases h.2.2 w hw with q | q
  · exact k.2.2 w q
  · exact Or.inr q⟩
theorem ft_sb {g : Pg} {i v : Nat} {ag : Bool} {y : List Nat} {c : List (Nat × Int32)} (hn : y.Nodup) (hv : v ≤ 5) : ∃ y2, (ft g i v ag (y, c)).1 = 9 :: y2 ∧ Sb g i y y2 := by
  unfold ft
  split
  · rename_i h
    refine ⟨_, rfl, ?_⟩
    simp only
    rw [er_eq]
    refine ⟨hn.erase v, fun w hw => List.mem_of_mem_erase hw, fun w hw => ?_⟩
    by_cases e : w = v
    · subst e
      simp at h
      exact Or.inr ⟨hv, h.1⟩
    · exact Or.inl ((List.mem_erase_of_ne e).mpr hw)
  · exact ⟨_, rfl, Sb.rf hn⟩
theorem ft_sb9 {g : Pg} {i v : Nat} {ag : Bool} {y : List Nat} {c : List (Nat × Int32)} (hn : y.Nodup) (hv : v ≤ 5) : ∃ y2, (ft g i v ag (9 :: y, c)).1 = 9 :: 9 :: y2 ∧ Sb g i y y2 := by
  unfold ft
  split
  · rename_i h
    refine ⟨y.erase v, ?_, ?_⟩
    · simp only
      rw [er_eq, List.erase_cons_tail (by simp; omega)]
    · refine ⟨hn.erase v, fun w hw => List.mem_of_mem_erase hw, fun w hw => ?_⟩
      by_cases e : w = v
      · subst e
        simp at h
        exact Or.inr ⟨hv, h.1⟩
      · exact Or.inl ((List.mem_erase_of_ne e).mpr hw)
  · exact ⟨_, rfl, Sb.rf hn⟩
theorem ar_sb {g : Pg} {i : Nat} {y : List Nat} {c : List (Nat × Int32)} (hn : y.Nodup) (hB : pB g i ≤ 5) (hC : pC g i ≤ 5) : ∃ y2, (ar g i (y, c)).1 = 9 :: y2 ∧ Sb g i y y2 := by
  unfold ar arP
  split
  · simp only [List.tail_cons]
    exact ft_sb hn hB
  · obtain ⟨y1, e1, h1⟩ := ft_sb (g := g) (i := i) (ag := false) (c := c) hn hB
    generalize ft g i (pB g i) false (y, c) = s1 at e1
    obtain ⟨a, b⟩ := s1
    simp only at e1
    subst e1
    obtain ⟨y2, e2, h2⟩ := ft_sb9 (g := g) (i := i) (ag := false) (c := b) h1.1 hC
    rw [e2]
    exact ⟨y2, rfl, h1.tr h2⟩
/-- the layout behind a straight statement -/
theorem cst_y {g : Pg} (H : Pok g) {i : Nat} (hi : i < pN g) (hk : pK g i ≤ 7) {y : List Nat} {c : List (Nat × Int32)} (hn : y.Nodup) : ∃ y2, Sb g i y y2 ∧ ((pK g i = 7 ∧ (cst g i (y, c)).1 = y2) ∨ (pK g i ≤ 6 ∧ (cst g i (y, c)).1 = pA g i :: y2.erase (pA g i))) := by
  obtain ⟨k1, k2, k3, k4⟩ := H.2 i hi
  have hA := k2 (by omega) (by omega)
  unfold cst
  split
  · rename_i h7
    obtain ⟨y2, e, h⟩ := ft_sb (g := g) (i := i) (ag := false) (c := c) hn hA
    rw [e]
    exact ⟨y2, h, Or.inl ⟨h7, rfl⟩⟩
  · split
    · refine ⟨y, Sb.rf hn, Or.inr ⟨by omega, ?_⟩⟩
      simp only [stl, List.tail_cons]
      rw [er_eq]
    · split
      · obtain ⟨y2, e, h⟩ := ft_sb (g := g) (i := i) (ag := false) (c := c) hn (k3 (by omega) (by omega))
        refine ⟨y2, h, Or.inr ⟨by omega, ?_⟩⟩
        simp only [stl]
        rw [e, List.tail_cons, er_eq]
      · obtain ⟨y2, e, h⟩ := ar_sb (g := g) (i := i) (c := c) hn (k3 (by omega) (by omega)) (k4 (by omega) (by omega))
        refine ⟨y2, h, Or.inr ⟨by omega, ?_⟩⟩
        simp only [stl]
        rw [e, List.tail_cons, er_eq]
theorem cst_gd {g : Pg} (H : Pok g) {i ol : Nat} (hi : i < pN g) (hk : pK g i ≤ 7) {y : List Nat} {c : List (Nat × Int32)} (G : Gd ol y) (hw : ∀ v, v ≤ 5 → wan g i v = true → v ∈ y) : Gd ol (cst g i (y, c)).1 ∧ ∀ v, v ≤ 5 → wan g (i + 1) v = true → v ∈ (cst g i (y, c)).1 := by
  obtain ⟨k1, k2, k3, k4⟩ := H.2 i hi
  have hA := k2 (by omega) (by omega)
  obtain ⟨y2, ⟨b1, b2, b3⟩, hc⟩ := cst_y H hi hk (c := c) G.1
  have keep : ∀ v, v ≤ 5 → wrt g i v = false → wan g (i + 1) v = true → v ∈ y2 := by
    intro v hv h1 h2
    have h3 : wan g i v = true := by
      rw [wan_st hi (by omega), h1, h2]
      simp
    rcases b3 v (hw v hv h3) with q | q
    · exact q
    · rw [h1, h2] at q
      simp at q
  have cnt : ∀ k, k < ol → 6 + k ∈ y2 := by
    intro k hk
    rcases b3 _ (G.2.2 k hk) with q | q
    · exact q
    · omega
  rcases hc with ⟨h7, e⟩ | ⟨h6, e⟩
  · rw [e]
    refine ⟨⟨b1, fun w h => G.2.1 w (b2 w h), cnt⟩, fun v hv h2 => keep v hv ?_ h2⟩
    simp [wrt, h7]
  · rw [e]
    refine ⟨⟨?_, fun w h => ?_, fun k hk => ?_⟩, fun v hv h2 => ?_⟩
    · rw [List.nodup_cons]
      exact ⟨fun h => (b1.mem_erase_iff.mp h).1 rfl, b1.erase _⟩
    · rcases List.mem_cons.mp h with q | q
      · omega
      · exact G.2.1 w (b2 w (List.mem_of_mem_erase q))
    · exact List.mem_cons_of_mem _ ((List.mem_erase_of_ne (by omega)).mpr (cnt k hk))
    · by_cases q : v = pA g i
      · rw [q]; exact List.mem_cons_self
      · refine List.mem_cons_of_mem _ ((List.mem_erase_of_ne q).mpr (keep v hv ?_ h2))
        simp [wrt]
        exact fun _ z => q z.symm
theorem cst_len {g : Pg} {i : Nat} {s : Ly} (hC : pC g i ≠ 9) : (cst g i s).2.length ≤ s.2.length + 5 := by
  have st2 : ∀ (v : Nat) (s : Ly), (stl v s).2.length ≤ s.2.length + 2 := by
    intro v s
    simp only [stl, stC, List.length_append]
    split <;> simp
  unfold cst
  split
  · have := ft_len g i (pA g i) false s
    simp
    omega
  · split
    · have := st2 (pA g i) (9 :: s.1, s.2 ++ [(0, pI g i)])
      simp only [List.length_append, List.length_singleton] at this
      omega
    · split
      · have := st2 (pA g i) (ft g i (pB g i) false s)
        have := ft_len g i (pB g i) false s
        omega
      · have := st2 (pA g i) (ar g i s)
        have := ar_shape g i s hC
        omega
theorem cst_wnt {g : Pg} (H : Pok g) {i : Nat} (hi : i < pN g) (hk : pK g i ≤ 7) {y : List Nat} (hw : ∀ v, v ≤ 5 → wan g i v = true → v ∈ y) : wnt g i y := by
  obtain ⟨k1, k2, k3, k4⟩ := H.2 i hi
  have hr : ∀ v, v ≤ 5 → rd g i v = true → v ∈ y := fun v hv h => hw v hv (by rw [wan_st hi (by omega), h]; rfl)
  refine ⟨fun h => hr _ (k2 (by omega) (by omega)) (by simp [rd, h]), fun h1 h2 => hr _ (k3 h1 h2) ?_, fun h1 h2 => hr _ (k4 h1 h2) ?_⟩
  · simp only [rd]
    rw [if_neg (by omega)]
    split
    · simp
    · rw [if_pos (by omega)]
      simp
  · simp only [rd]
    rw [if_neg (by omega), if_neg (by omega), if_pos (by omega)]
    simp
end
section
/-! what holds of the compiler's state ahead of statement i -/
def Cin (g : Pg) (i : Nat) : Prop :=
  (cm g i).2.2.1 = (stk g i).map (fun q => (pK g q.1, (cm g (q.2 + 1)).2.1.length - 1)) ∧
  (cm g i).2.2.2 = lo g i ∧ Gd (lo g i) (cm g i).1 ∧ (∀ v, v ≤ 5 → wan g i v = true → v ∈ (cm g i).1) ∧
  (cm g i).2.1.length ≤ 13 * i ∧ (stk g i).length ≤ 3 ∧
  ∀ q ∈ stk g i, (pK g q.1 = 8 ∨ (pK g q.1 = 10 ∧ q.2 = q.1)) ∧ q.2 < i ∧ 1 ≤ (cm g (q.2 + 1)).2.1.length ∧ (pK g q.1 = 10 → 2 ≤ (cm g (q.2 + 1)).2.1.length) ∧ (cm g (q.2 + 1)).2.1.length ≤ (cm g i).2.1.length
theorem lo_le (g : Pg) (i : Nat) : lo g i ≤ (stk g i).length := List.length_filter_le _ _
theorem Cin.all {g : Pg} {i : Nat} (h : Cin g i) (hb : ∀ v, v ≤ 5 → wan g i v = true) : ∀ v, v < 6 + lo g i → v ∈ (cm g i).1 := fun v hv => by
  by_cases q : v ≤ 5
  · exact h.2.2.2.1 v q (hb v q)
  · have := h.2.2.1.2.2 (v - 6) (by omega)
    rwa [show 6 + (v - 6) = v by omega] at this
theorem cin_step {g : Pg} (H : Pok g) {i : Nat} (hi : i < pN g) (hq : okq g i = true) (h : Cin g i) : Cin g (i + 1) ∧ (8 ≤ pK g i → (cm g (i + 1)).1 = dsc 0 (6 + lo g (i + 1))) := by
  have hall := fun hb => h.all (fun v _ => wan_bd (v := v) hb)
  obtain ⟨h1, h2, h3, h4, h5, h6, h7⟩ := h
  obtain ⟨k1, k2, k3, k4⟩ := H.2 i hi
  have hlo : lo g i ≤ 3 := Nat.le_trans (lo_le g i) h6
  by_cases hb : 8 ≤ pK g i
  · have ha1 := arr_cn (tot := 6 + lo g i) (s := ((cm g i).1, (cm g i).2.1)) h3.1 h3.2.1 (hall hb)
    have ha2 := arr_len (tot := 6 + lo g i) (s := ((cm g i).1, (cm g i).2.1)) (hall hb)
    simp only at ha2
    rw [← h2] at ha1 ha2
    generalize hA : arr (6 + (cm g i).2.2.2) ((cm g i).1, (cm g i).2.1) = a at ha1 ha2
    obtain ⟨y1, c1⟩ := a
    simp only at ha1 ha2
    have old : ∀ (m : Nat), c1.length ≤ m → ∀ q ∈ stk g i, (pK g q.1 = 8 ∨ (pK g q.1 = 10 ∧ q.2 = q.1)) ∧ q.2 < i + 1 ∧ 1 ≤ (cm g (q.2 + 1)).2.1.length ∧ (pK g q.1 = 10 → 2 ≤ (cm g (q.2 + 1)).2.1.length) ∧ (cm g (q.2 + 1)).2.1.length ≤ m := fun m hm q hqm => by
      obtain ⟨a1, a2, a3, a4, a5⟩ := h7 q hqm
      exact ⟨a1, by omega, a3, a4, by omega⟩
    by_cases e8 : pK g i = 8
    · have e : cm g (i + 1) = (y1, c1 ++ [(1, nI (dx y1 (pA g i))), (10, 0)], (8, c1.length + 1) :: (cm g i).2.2.1, (cm g i).2.2.2) := by rw [cm, if_pos hb, cbd, if_pos e8, hA]
      have es : stk g (i + 1) = (i, i) :: stk g i := by rw [stk, if_pos (Or.inl e8)]
      have el : lo g (i + 1) = lo g i := by rw [lo, es, List.filter_cons, if_neg (by simp [e8])]; rfl
      have hl3 : (stk g i).length < 3 := by simpa [okq, e8] using hq
      refine ⟨⟨?_, ?_, ?_, ?_, ?_, ?_, ?_⟩, fun _ => ?_⟩
      · rw [es, List.map_cons, ← h1, e]
        simp [e8]
      · rw [e, el]; exact h2
      · rw [e, el, ← h2]; simp only; rw [ha1]; exact Gd.dsc _
      · intro v hv _
        rw [e]; simp only; rw [ha1]
        exact dsc_mem.mpr (by omega)
      · rw [e]; simp; omega
      · rw [es]; simp; omega
      · rw [es, e]
        intro q hqm
        rcases List.mem_cons.mp hqm with z | z
        · subst z
          simp only
          rw [e]
          simp [e8]
        · exact old _ (by simp) q z
      · rw [e, el, ← h2]; exact ha1
    · by_cases e10 : pK g i = 10
      · have e : cm g (i + 1) = ((6 + (cm g i).2.2.2) :: y1, c1 ++ [(0, nI (pA g i)), (1, 0), (10, 0)], (10, c1.length + 2) :: (cm g i).2.2.1, (cm g i).2.2.2 + 1) := by rw [cm, if_pos hb, cbd, if_neg e8, if_pos e10, hA]
        have es : stk g (i + 1) = (i, i) :: stk g i := by rw [stk, if_pos (Or.inr e10)]
        have el : lo g (i + 1) = lo g i + 1 := by rw [lo, es, List.filter_cons, if_pos (by simp [e10])]; rfl
        have hl3 : (stk g i).length < 3 := by simpa [okq, e10] using hq
        have ey : (6 + (cm g i).2.2.2) :: y1 = dsc 0 (6 + (lo g i + 1)) := by rw [ha1, h2, ← Nat.add_assoc, dsc, Nat.zero_add]
        refine ⟨⟨?_, ?_, ?_, ?_, ?_, ?_, ?_⟩, fun _ => ?_⟩
        · rw [es, List.map_cons, ← h1, e]
          simp [e10]
        · rw [e, el]; simp only; rw [h2]
        · rw [e, el]; simp only; rw [ey]; exact Gd.dsc _
        · intro v hv _
          rw [e]; simp only; rw [ey]
          exact dsc_mem.mpr (by omega)
        · rw [e]; simp; omega
        · rw [es]; simp; omega
        · rw [es, e]
          intro q hqm
          rcases List.mem_cons.mp hqm with z | z
          · subst z
            simp only
            rw [e]
            simp [e10]
          · exact old _ (by simp) q z
        · rw [e, el]; exact ey
      · cases hst : stk g i with
        | nil =>
          exfalso
          rw [okq, if_neg (by omega)] at hq
          split at hq
          · rw [hst] at hq; cases hq
          · rw [if_pos (by omega), hst] at hq; cases hq
        | cons q0 t =>
          rw [hst] at h1
          rw [List.map_cons] at h1
          have hq0 := h7 q0 (by rw [hst]; exact List.mem_cons_self)
          have hlen : (q0 :: t).length ≤ 3 := hst ▸ h6
          by_cases e9 : pK g i = 9
          · have e : cm g (i + 1) = (y1, pat (c1 ++ [(11, 0)]) ((cm g (q0.2 + 1)).2.1.length - 1) (nI (c1.length + 1)), (pK g q0.1, c1.length) :: t.map (fun q => (pK g q.1, (cm g (q.2 + 1)).2.1.length - 1)), (cm g i).2.2.2) := by
              rw [cm, if_pos hb, cbd, if_neg e8, if_neg e10, h1]
              simp only
              rw [if_pos e9, hA]
            have es : stk g (i + 1) = (q0.1, i) :: t := by rw [stk, if_neg (by omega), if_pos e9, hst]
            have hqq : q0.1 = q0.2 ∧ pK g q0.1 = 8 := by
              rw [okq, if_neg (by omega), if_pos e9, hst] at hq
              simpa using hq
            have el : lo g (i + 1) = lo g i := by rw [lo, es, lo, hst, List.filter_cons, List.filter_cons, if_neg (by simp [hqq.2]), if_neg (by simp [hqq.2])]
            refine ⟨⟨?_, ?_, ?_, ?_, ?_, ?_, ?_⟩, fun _ => ?_⟩
            · rw [es, List.map_cons, e]
              simp [pat_len]
            · rw [e, el]; exact h2
            · rw [e, el, ← h2]; simp only; rw [ha1]; exact Gd.dsc _
            · intro v hv _
              rw [e]; simp only; rw [ha1]
              exact dsc_mem.mpr (by omega)
            · rw [e]; simp only [pat_len]; simp; omega
            · rw [es]; simpa using hlen
            · rw [es, e]
              simp only [pat_len]
              intro q hqm
              rcases List.mem_cons.mp hqm with z | z
              · subst z
                simp only
                rw [e]
                simp [pat_len, hqq.2]
              · exact old _ (by simp) q (by rw [hst]; exact List.mem_cons_of_mem _ z)
            · rw [e, el, ← h2]; exact ha1
          · have e11 : pK g i = 11 := by omega
            have es : stk g (i + 1) = t := by rw [stk, if_neg (by omega), if_neg e9, if_pos e11, hst]; rfl
            by_cases eq10 : pK g q0.1 = 10
            · have e : cm g (i + 1) = (y1.tail, pat (c1 ++ [(0, -1), (2, 0), (11, nI ((cm g (q0.2 + 1)).2.1.length - 1 - 1))]) ((cm g (q0.2 + 1)).2.1.length - 1) (nI (c1.length + 3)) ++ [(8, 0)], t.map (fun q => (pK g q.1, (cm g (q.2 + 1)).2.1.length - 1)), (cm g i).2.2.2 - 1) := by
                rw [cm, if_pos hb, cbd, if_neg e8, if_neg e10, h1]
                simp only
                rw [if_neg e9, if_pos eq10, hA]
              have el : lo g i = lo g (i + 1) + 1 := by rw [lo, hst, lo, es, List.filter_cons, if_pos (by simp [eq10])]; rfl
              have ey : y1.tail = dsc 0 (6 + lo g (i + 1)) := by rw [ha1, h2, el, ← Nat.add_assoc, dsc]; rfl
              refine ⟨⟨?_, ?_, ?_, ?_, ?_, ?_, ?_⟩, fun _ => ?_⟩
              · rw [es, e]
              · rw [e]; simp only; omega
              · rw [e]; simp only; rw [ey]; exact Gd.dsc _
              · intro v hv _
                rw [e]; simp only; rw [ey]
                exact dsc_mem.mpr (by omega)
              · rw [e]; simp [pat_len]; omega
              · rw [es]; simp at hlen; omega
              · rw [es, e]
                intro q hqm
                exact old _ (by simp [pat_len]; omega) q (by rw [hst]; exact List.mem_cons_of_mem _ hqm)
              · rw [e]; exact ey
            · have e : cm g (i + 1) = (y1, pat c1 ((cm g (q0.2 + 1)).2.1.length - 1) (nI c1.length), t.map (fun q => (pK g q.1, (cm g (q.2 + 1)).2.1.length - 1)), (cm g i).2.2.2) := by
                rw [cm, if_pos hb, cbd, if_neg e8, if_neg e10, h1]
                simp only
                rw [if_neg e9, if_neg eq10, hA]
              have el : lo g (i + 1) = lo g i := by rw [lo, es, lo, hst, List.filter_cons, if_neg (by simp [eq10])]
              refine ⟨⟨?_, ?_, ?_, ?_, ?_, ?_, ?_⟩, fun _ => ?_⟩
              · rw [es, e]
              · rw [e, el]; exact h2
              · rw [e, el, ← h2]; simp only; rw [ha1]; exact Gd.dsc _
              · intro v hv _
                rw [e]; simp only; rw [ha1]
                exact dsc_mem.mpr (by omega)
              · rw [e]; simp [pat_len]; omega
              · rw [es]; simp at hlen; omega
              · rw [es, e]
                intro q hqm
                exact old _ (by simp [pat_len]) q (by rw [hst]; exact List.mem_cons_of_mem _ hqm)
              · rw [e, el, ← h2]; exact ha1
  · have e : cm g (i + 1) = ((cst g i ((cm g i).1, (cm g i).2.1)).1, (cst g i ((cm g i).1, (cm g i).2.1)).2, (cm g i).2.2.1, (cm g i).2.2.2) := by rw [cm, if_neg hb]
    have es : stk g (i + 1) = stk g i := by rw [stk, if_neg (by omega), if_neg (by omega), if_neg (by omega)]
    have el : lo g (i + 1) = lo g i := by rw [lo, es, lo]
    obtain ⟨g1, g2⟩ := cst_gd H hi (by omega) (c := (cm g i).2.1) h3 h4
    have hl := cst_app g i (cm g i).1 (cm g i).2.1
    have hl5 : (cst g i ((cm g i).1, (cm g i).2.1)).2.length ≤ (cm g i).2.1.length + 5 ∧ (cm g i).2.1.length ≤ (cst g i ((cm g i).1, (cm g i).2.1)).2.length := by
      refine ⟨?_, by rw [hl]; simp⟩
      by_cases q : 2 ≤ pK g i ∧ pK g i ≤ 6
      · exact cst_len (by have := k4 q.1 q.2; omega)
      · have st2 : ∀ (v : Nat) (s : Ly), (stl v s).2.length ≤ s.2.length + 2 := by
          intro v s
          simp only [stl, stC, List.length_append]
          split <;> simp
        have f1 := ft_len g i (pA g i) false ((cm g i).1, (cm g i).2.1)
        have f2 := ft_len g i (pB g i) false ((cm g i).1, (cm g i).2.1)
        have f3 := st2 (pA g i) (ft g i (pB g i) false ((cm g i).1, (cm g i).2.1))
        have f4 := st2 (pA g i) (9 :: (cm g i).1, (cm g i).2.1 ++ [(0, pI g i)])
        simp only [List.length_append, List.length_singleton] at f1 f2 f3 f4
        unfold cst
        split
        · simp; omega
        · split
          · simp only; omega
          · split
            · omega
            · omega
    refine ⟨⟨?_, ?_, ?_, ?_, ?_, ?_, ?_⟩, fun z => absurd z hb⟩
    · rw [e, es]; exact h1
    · rw [e, el]; exact h2
    · rw [e, el]; exact g1
    · rw [e]; exact g2
    · rw [e]; simp only; omega
    · rw [es]; exact h6
    · rw [es, e]
      intro q hqm
      obtain ⟨a1, a2, a3, a4, a5⟩ := h7 q hqm
      exact ⟨a1, by omega, a3, a4, by simp only; omega⟩
theorem cin_0 (g : Pg) : Cin g 0 := by
  refine ⟨rfl, rfl, ⟨show ([5, 4, 3, 2, 1, 0] : List Nat).Nodup by decide, ?_, fun k hk => by simp [lo, stk] at hk⟩, fun v hv _ => ?_, by simp [cm], by simp [stk], fun q hq => by simp [stk] at hq⟩
  · intro w hw
    simp [cm] at hw
    simp [lo, stk]
    omega
  · simp [cm]
    omega
theorem cin_all {g : Pg} (H : Pok g) : ∀ i, i ≤ pN g → okb g i = true → Cin g i
  | 0, _, _ => cin_0 g
  | i + 1, hi, h => by
    simp only [okb, Bool.and_eq_true] at h
    exact (cin_step H (by omega) h.2 (cin_all H i (by omega) h.1)).1
end
section
theorem bI_fit (b : Bool) : fits .boolean (.int (bI b)) = true := by cases b <;> rfl
def Cod (σ : Sg) (c : List (Nat × Int32)) : Prop := σ 0 8 = nI c.length ∧ c.length ≤ 560 ∧ ∀ (i o : Nat) (n : Int32), c[i]? = some (o, n) → σ 9 i = nI o ∧ σ 10 i = n ∧ o < 128
def F3 (σ τ : Sg) : Prop := (∀ k j, k ≠ 0 → k ≠ 9 → k ≠ 10 → k ≠ 11 → k ≠ 15 → k ≠ 16 → τ k j = σ k j) ∧ ∀ j, j ≠ 6 → j ≠ 7 → j ≠ 8 → j ≠ 12 → j ≠ 13 → j ≠ 14 → τ 0 j = σ 0 j
theorem F3.tr {σ τ υ : Sg} (h : F3 σ τ) (g : F3 τ υ) : F3 σ υ := ⟨fun k j a b c e f i => (g.1 k j a b c e f i).trans (h.1 k j a b c e f i), fun j a b c e p q => (g.2 j a b c e p q).trans (h.2 j a b c e p q)⟩
theorem F2.f3 {σ τ : Sg} (h : F2 σ τ) : F3 σ τ := ⟨h.1, fun j _ _ c e p q => h.2 j c e p q⟩
theorem F15.f3 {σ τ : Sg} (h : F15 σ τ) : F3 σ τ := ⟨fun k j _ _ _ _ e _ => h k j e, fun j _ _ _ _ _ _ => h 0 j (by decide)⟩
theorem F3.s0 (σ : Sg) {j : Nat} (v : Int32) (h : j = 6 ∨ j = 7 ∨ j = 8 ∨ j = 12 ∨ j = 13 ∨ j = 14) : F3 σ (su σ 0 j v) := ⟨fun k b hk _ _ _ _ _ => by simp [su, hk], fun b h1 h2 h3 h4 h5 h6 => by
  have hb : b ≠ j := by omega
  simp [su, hb]⟩
theorem Sx.f3 {σ τ : Sg} {g : Pg} (h : Sx σ g) (f : F3 σ τ) : Sx τ g := h.of (f.2 0 (by decide) (by decide) (by decide) (by decide) (by decide) (by decide)) (fun j => f.1 1 j (by decide) (by decide) (by decide) (by decide) (by decide) (by decide)) (fun j => f.1 2 j (by decide) (by decide) (by decide) (by decide) (by decide) (by decide)) (fun j => f.1 3 j (by decide) (by decide) (by decide) (by decide) (by decide) (by decide)) (fun j => f.1 4 j (by decide) (by decide) (by decide) (by decide) (by decide) (by decide))
def cpQ (σ : Sg) (g : Pg) : Option Int32 → Sg → Prop := fun r τ => r = none ∧ τ 0 6 = 1 ∧ τ 0 7 = bI (snd g) ∧ F3 σ τ ∧ (snd g = true → Cod τ (cmF g))
theorem c_compile_loop (σ : Sg) (g : Pg) (S : Sx σ g) (hs : snd g = true) {X : CX} {D : va_G} {h : Nat → Nat} {d : Nat → ClassId} (C : CA X cX0_compile 2 none 5 D h d (cpQ σ g)) :
    ∀ (f i : Nat) (σ1 : Sg), i ≤ pN g → pN g < i + f → F3 σ σ1 → σ1 0 6 = 1 → σ1 0 7 = bI (snd g) → Ct σ1 (cm g i) → XW X (PA D h d σ1) 70 [(1, .int (nI i)), (0, .ref (h 0))] [] := by
  have B := C.1
  have H := S.1
  have hn : pN g ≤ 40 := S.1.1
  have hs' := hs
  simp only [snd, Bool.and_eq_true] at hs'
  obtain ⟨hok, hemp⟩ := hs'
  intro f
  induction f with
  | zero => intro i σ1 h1 h2; omega
  | succ f ih =>
    intro i σ1 h1 h2 F h6 h7 T
    have S1 := S.f3 F
    have I := cin_all H i h1 (okb_le h1 hok)
    have hl9 : (cm g i).1.length ≤ 6 + lo g i := nd_le _ _ I.2.2.1.1 I.2.2.1.2.1
    have hlo : lo g i ≤ 3 := Nat.le_trans (lo_le g i) I.2.2.2.2.2.1
    have h13 := I.2.2.2.2.1
    refine xw_iload_n B dX0_compile_70 rfl ?_
    refine xw_aload_n B dX0_compile_71 rfl ?_
    refine xa_getS C 0 (by decide) rfl q42 dX0_compile_72 (S1.2.1) ?_
    refine xw_icmp_ge (tgt := 105) B dX0_compile_75 (by decide) (fun c1 => ?_) (fun c1 => ?_)
    · rw [zle (by omega) (by omega)] at c1
      have ei : i = pN g := by omega
      subst ei
      have hst : stk g (pN g) = [] := by simpa using hemp
      have hlo0 : lo g (pN g) = 0 := by rw [lo, hst]; rfl
      have hall := I.all (fun v _ => wan_end (Nat.le_refl _))
      rw [hlo0] at hall
      have hol := T.2.2
      rw [I.2.1, hlo0] at hol
      refine xw_aload_n B dX0_compile_105 rfl ?_
      refine xa_callv C (lw_V q141 q143 qs5 q32 q144) hdX0_arrange (by decide) (by decide) rfl (Nat.le_of_ble_eq_true rfl) dX0_compile_106 (c_arrange σ1 0 (by decide) hol (s := ((cm g (pN g)).1, (cm g (pN g)).2.1)) T.1 hall (by simp only; omega) (nd_ge 6 _ hall)) rfl (fun τ u => ?_)
      refine xa_vret C rfl dX0_compile_109 ?_
      have F4 := u.2.2
      exact ⟨rfl, (F4.2 6 (by decide) (by decide)).trans h6, (F4.2 7 (by decide) (by decide)).trans h7, F.tr F4.f2.f3, fun _ => u.2.1.2⟩
    · rw [zle (by omega) (by omega)] at c1
      have hi : i < pN g := by omega
      have hq := okb_q hi hok
      refine xw_aload_n B dX0_compile_78 rfl ?_
      refine xw_iload_n B dX0_compile_79 rfl ?_
      refine xa_calli C (lw_V q133 q135 qs3 q32 q136) hdX0_isBoundary (by decide) (by decide) rfl (Nat.le_of_ble_eq_true rfl) dX0_compile_80 (c_isBoundary σ1 (pN g) i (pK g i) S1.2.1 hn (by omega) (fun q => ⟨(S1.2.2 i q).1, (S1.1.2 i q).1⟩)) rfl (fun r τ hp => ?_)
      obtain ⟨e1, e2⟩ := hp
      cases e2
      rw [e1]
      clear e1
      by_cases hb : 8 ≤ pK g i
      · rw [if_pos (Or.inr hb)]
        have hall := I.all (fun v _ => wan_bd hb)
        have hy := nd_ge _ _ hall
        refine xw_if_eq (tgt := 94) B dX0_compile_83 (by decide) (fun q => absurd q (by decide)) (fun _ => ?_)
        refine xw_aload_n B dX0_compile_86 rfl ?_
        refine xw_iload_n B dX0_compile_87 rfl ?_
        refine xa_callv C (lw_V q137 q139 qs4 q32 q140) hdX0_compileBoundary (by decide) (by decide) rfl (Nat.le_of_ble_eq_true rfl) dX0_compile_88 (c_compileBoundary σ1 g S1 i (cm g i) T hi hb (by rw [I.2.1]; exact hlo) (by rw [I.2.1]; omega) (by rw [I.2.1]; exact hall) (by omega) ?_ ?_ ?_) rfl (fun τ u => ?_)
        · intro _
          rw [I.1, List.length_map]
          have := I.2.2.2.2.2.1
          omega
        · intro e10
          rw [I.2.1]
          have : (stk g i).length < 3 := by simpa [okq, e10] using hq
          have := lo_le g i
          omega
        · intro hk
          cases hst : stk g i with
          | nil =>
            exfalso
            rw [okq, if_neg (by omega)] at hq
            split at hq
            · rw [hst] at hq; cases hq
            · rw [if_pos (by omega), hst] at hq; cases hq
          | cons q0 t =>
            obtain ⟨a1, a2, a3, a4, a5⟩ := I.2.2.2.2.2.2 q0 (by rw [hst]; exact List.mem_cons_self)
            refine ⟨pK g q0.1, (cm g (q0.2 + 1)).2.1.length - 1, _, by rw [I.1, hst, List.map_cons], by omega, fun _ e => ⟨by have := a4 e; omega, ?_⟩⟩
            rw [I.2.1, lo, hst, List.filter_cons, if_pos (by simp [e])]
            simp
        · refine xw_goto (tgt := 99) B dX0_compile_91 (by decide) ?_
          refine xw_iinc B dX0_compile_99 rfl (zinc i) (by decide) ?_
          refine xw_goto (tgt := 70) B dX0_compile_102 (by decide) ?_
          refine xw_loc [(1, .int (nI (i + 1))), (0, .ref (h 0))] ⟨rfl, rfl, trivial⟩ ?_
          refine ih (i + 1) τ (by omega) (by omega) (F.tr u.2.2.f3) ((u.2.2.2 6 (by decide) (by decide) (by decide) (by decide)).trans h6) ((u.2.2.2 7 (by decide) (by decide) (by decide) (by decide)).trans h7) ?_
          rw [cm, if_pos hb]
          exact u.2.1
      · rw [if_neg (by omega)]
        refine xw_if_eq (tgt := 94) B dX0_compile_83 (by decide) (fun _ => ?_) (fun q => absurd (rfl) q)
        refine xw_aload_n B dX0_compile_94 rfl ?_
        refine xw_iload_n B dX0_compile_95 rfl ?_
        refine xa_callv C (lw_V q165 q167 qs11 q32 q168) hdX0_compileStraight (by decide) (by decide) rfl (Nat.le_of_ble_eq_true rfl) dX0_compile_96 (c_compileStraight σ1 g S1 i T.1 hi (by omega) (cst_wnt H hi (by omega) I.2.2.2.1) (by omega) (by omega)) rfl (fun τ u => ?_)
        refine xw_iinc B dX0_compile_99 rfl (zinc i) (by decide) ?_
        refine xw_goto (tgt := 70) B dX0_compile_102 (by decide) ?_
        refine xw_loc [(1, .int (nI (i + 1))), (0, .ref (h 0))] ⟨rfl, rfl, trivial⟩ ?_
        refine ih (i + 1) τ (by omega) (by omega) (F.tr u.2.2.f2.f3) ((u.2.2.2 6 (by decide) (by decide)).trans h6) ((u.2.2.2 7 (by decide) (by decide)).trans h7) ?_
        rw [cm, if_neg hb]
        exact ⟨u.2.1, T.2.1.fr u.2.2, (u.2.2.2 13 (by decide) (by decide)).trans T.2.2⟩
theorem c_compile_lay (σ : Sg) (g : Pg) (S : Sx σ g) (hs : snd g = true) {X : CX} {D : va_G} {h : Nat → Nat} {d : Nat → ClassId} (C : CA X cX0_compile 2 none 5 D h d (cpQ σ g)) :
    ∀ (f v : Nat) (σ1 : Sg), v + f = 6 → F3 σ σ1 → σ1 0 6 = 1 → σ1 0 7 = bI (snd g) → St σ1 (dsc 0 v) [] → σ1 0 13 = 0 → σ1 0 14 = 0 → XW X (PA D h d σ1) 51 [(1, .int (nI v)), (0, .ref (h 0))] [] := by
  have B := C.1
  intro f
  induction f with
  | zero =>
    intro v σ1 h1 F h6 h7 T h13 h14
    have ev : v = 6 := by omega
    subst ev
    refine xw_iload_n B dX0_compile_51 rfl ?_
    refine xw_bipush (v := nI 6) B dX0_compile_52 (by decide) ?_
    refine xw_icmp_ge (tgt := 68) B dX0_compile_54 (by decide) (fun _ => ?_) (fun q => absurd (by rw [zle (by omega) (by omega)]; omega) q)
    refine xw_iconst (v := nI 0) B dX0_compile_68 (by decide) ?_
    refine xw_istore_n (i := 1) B dX0_compile_69 rfl (by decide) ?_
    refine xw_loc [(1, .int (nI 0)), (0, .ref (h 0))] ⟨rfl, rfl, trivial⟩ ?_
    exact c_compile_loop σ g S hs C (pN g + 1) 0 σ1 (by omega) (by omega) F h6 h7 ⟨T, ⟨h14, by simp [cm], fun j k p hj => by simp [cm] at hj⟩, h13⟩
  | succ f ih =>
    intro v σ1 h1 F h6 h7 T h13 h14
    refine xw_iload_n B dX0_compile_51 rfl ?_
    refine xw_bipush (v := nI 6) B dX0_compile_52 (by decide) ?_
    refine xw_icmp_ge (tgt := 68) B dX0_compile_54 (by decide) (fun q => absurd q (by rw [zle (by omega) (by omega)]; omega)) (fun _ => ?_)
    refine xw_aload_n B dX0_compile_57 rfl ?_
    refine xw_iload_n B dX0_compile_58 rfl ?_
    refine xa_callv C (lw_V q129 q131 qs2 q32 q132) hdX0_pushLayout (by decide) (by decide) rfl (Nat.le_of_ble_eq_true rfl) dX0_compile_59 (c_pushLayout σ1 v T (by rw [dsc_len]; omega) (by omega)) rfl (fun τ u => ?_)
    have F4 := u.2.2
    refine xw_iinc B dX0_compile_62 rfl (zinc v) (by decide) ?_
    refine xw_goto (tgt := 51) B dX0_compile_65 (by decide) ?_
    refine xw_loc [(1, .int (nI (v + 1))), (0, .ref (h 0))] ⟨rfl, rfl, trivial⟩ ?_
    refine ih (v + 1) τ (by omega) (F.tr F4.f2.f3) ((F4.2 6 (by decide) (by decide)).trans h6) ((F4.2 7 (by decide) (by decide)).trans h7) ?_ ((F4.2 13 (by decide) (by decide)).trans h13) ((F4.2 14 (by decide) (by decide)).trans h14)
    rw [dsc, Nat.zero_add]
    exact u.2.1
theorem c_compile (σ : Sg) (g : Pg) (S : Sx σ g) (h6 : σ 0 6 = 0) : XA 5 yX0_compile cX0_compile 2 none [] σ (cpQ σ g) := by
  refine xa_ofI [] (by decide) rfl (Nat.le_of_ble_eq_true rfl) (fun X D h d C => ?_)
  have B := C.1
  show XW X _ 0 [(0, .ref (h 0))] []
  refine xw_aload_n B dX0_compile_0 rfl ?_
  refine xa_getS C 6 (by decide) rfl q48 dX0_compile_1 (rfl) ?_
  refine xw_if_eq (tgt := 8) B dX0_compile_4 (by decide) (fun _ => ?_) (fun q => absurd (h6) q)
  refine xw_aload_n B dX0_compile_8 rfl ?_
  refine xw_iconst (v := nI 1) B dX0_compile_9 (by decide) ?_
  refine xa_put (ty := .boolean) C 6 (by decide) (xa_f6 h d _ _) q48 rfl (by decide +kernel) (rfl) (rfl) dX0_compile_10 ?_
  refine xw_aload_n B dX0_compile_13 rfl ?_
  refine xw_aload_n B dX0_compile_14 rfl ?_
  have F1 : F3 σ (su σ 0 6 (nI 1)) := F3.s0 σ _ (by omega)
  refine xa_calli C (lw_V q125 q127 qs1 q32 q128) hdX0_blocksFit (by decide) (by decide) rfl (Nat.le_of_ble_eq_true rfl) dX0_compile_15 (c_blocksFit _ g (S.f3 F1)) rfl (fun r τ u => ?_)
  obtain ⟨u1, u2⟩ := u
  cases u2
  refine xa_put (ty := .boolean) C 7 (by decide) (xa_f7 h d _ _) q49 rfl (by decide +kernel) (bI_nar _) (bI_fit _) dX0_compile_18 ?_
  refine xw_aload_n B dX0_compile_21 rfl ?_
  refine xa_getS C 7 (by decide) rfl q49 dX0_compile_22 (rfl) ?_
  have F2' : F3 σ (su τ 0 7 (bI (snd g))) := (F1.tr u1.f3).tr (F3.s0 τ _ (by omega))
  have h6' : su τ 0 7 (bI (snd g)) 0 6 = 1 := u1 0 6 (by decide)
  have h7' : su τ 0 7 (bI (snd g)) 0 7 = bI (snd g) := rfl
  generalize su τ 0 7 (bI (snd g)) = σ2 at F2' h6' h7' ⊢
  rw [h7']
  cases hs : snd g with
  | false =>
    refine xw_if_ne (tgt := 29) B dX0_compile_25 (by decide) (fun q => absurd (rfl) q) (fun _ => ?_)
    exact xa_vret C rfl dX0_compile_28 (⟨rfl, h6', h7', F2', fun e => by rw [hs] at e; cases e⟩)
  | true =>
    refine xw_if_ne (tgt := 29) B dX0_compile_25 (by decide) (fun _ => ?_) (fun q => absurd q (by decide))
    refine xw_aload_n B dX0_compile_29 rfl ?_
    refine xw_iconst (v := nI 0) B dX0_compile_30 (by decide) ?_
    refine xa_put (ty := .int) C 8 (by decide) (xa_f8 h d _ _) q50 rfl (by decide +kernel) (rfl) (rfl) dX0_compile_31 ?_
    refine xw_aload_n B dX0_compile_34 rfl ?_
    refine xw_iconst (v := nI 0) B dX0_compile_35 (by decide) ?_
    refine xa_put (ty := .int) C 12 (by decide) (xa_f12 h d _ _) q54 rfl (by decide +kernel) (rfl) (rfl) dX0_compile_36 ?_
    refine xw_aload_n B dX0_compile_39 rfl ?_
    refine xw_iconst (v := nI 0) B dX0_compile_40 (by decide) ?_
    refine xa_put (ty := .int) C 13 (by decide) (xa_f13 h d _ _) q55 rfl (by decide +kernel) (rfl) (rfl) dX0_compile_41 ?_
    refine xw_aload_n B dX0_compile_44 rfl ?_
    refine xw_iconst (v := nI 0) B dX0_compile_45 (by decide) ?_
    refine xa_put (ty := .int) C 14 (by decide) (xa_f14 h d _ _) q56 rfl (by decide +kernel) (rfl) (rfl) dX0_compile_46 ?_
    refine xw_iconst (v := nI 0) B dX0_compile_49 (by decide) ?_
    refine xw_istore_n (i := 1) B dX0_compile_50 rfl (by decide) ?_
    refine xw_loc [(1, .int (nI 0)), (0, .ref (h 0))] ⟨rfl, rfl, trivial⟩ ?_
    refine c_compile_lay σ g S hs C 6 0 _ (by omega) ?_ h6' h7' ⟨⟨rfl, by simp [dsc], fun j v hj => by simp [dsc] at hj⟩, rfl, by simp, fun i o n hi => by simp at hi⟩ rfl rfl
    exact (((F2'.tr (F3.s0 _ _ (by omega))).tr (F3.s0 _ _ (by omega))).tr (F3.s0 _ _ (by omega))).tr (F3.s0 _ _ (by omega))
theorem c_compile_done (σ : Sg) (h6 : σ 0 6 = 1) : XA 5 yX0_compile cX0_compile 2 none [] σ (fun r τ => r = none ∧ τ = σ) := by
  refine xa_ofI [] (by decide) rfl (Nat.le_of_ble_eq_true rfl) (fun X D h d C => ?_)
  have B := C.1
  show XW X _ 0 [(0, .ref (h 0))] []
  refine xw_aload_n B dX0_compile_0 rfl ?_
  refine xa_getS C 6 (by decide) rfl q48 dX0_compile_1 (rfl) ?_
  refine xw_if_eq (tgt := 8) B dX0_compile_4 (by decide) (fun q => absurd q (by rw [h6]; decide)) (fun _ => ?_)
  exact xa_vret C rfl dX0_compile_7 (⟨rfl, rfl⟩)
end
section
/-! the stack machine -/
abbrev Mx : Type := Nat × List Int32 × Nat × (Nat → Int32)
def cmp (o : Nat) (p q : Int32) : Int32 := if o = 2 then p + q else if o = 3 then p - q else if o = 4 then p * q else if o = 5 then p ^^^ q else (if p < q then 1 else 0)
def prn (v : Int32) (m : Nat × (Nat → Int32)) : Nat × (Nat → Int32) := (m.1 + 1, if m.1 < 64 then upd m.2 m.1 v else m.2)
/-- one instruction (o, n) of the machine: (place, stack top first, printed, outputs) -/
def Exm (o : Nat) (n : Int32) (x y : Mx) : Prop :=
  (2 ≤ o ∧ o ≤ 6 ∧ ∃ p q t, x.2.1 = q :: p :: t ∧ y = (x.1 + 1, cmp o p q :: t, x.2.2)) ∨
  (o = 0 ∧ x.2.1.length < 16 ∧ y = (x.1 + 1, n :: x.2.1, x.2.2)) ∨
  (o = 1 ∧ x.2.1.length < 16 ∧ ∃ d v, n = nI d ∧ x.2.1[d]? = some v ∧ y = (x.1 + 1, v :: x.2.1, x.2.2)) ∨
  (o = 7 ∧ ∃ d v, n = nI d ∧ x.2.1[d]? = some v ∧ y = (x.1 + 1, v :: x.2.1.eraseIdx d, x.2.2)) ∨
  (o = 11 ∧ ∃ t, n = nI t ∧ y = (t, x.2)) ∨
  (o = 8 ∧ ∃ v t, x.2.1 = v :: t ∧ y = (x.1 + 1, t, x.2.2)) ∨
  (o = 9 ∧ ∃ v t, x.2.1 = v :: t ∧ y = (x.1 + 1, t, prn v x.2.2)) ∨
  (o = 10 ∧ ∃ v t, x.2.1 = v :: t ∧ ((v ≤ 0 ∧ ∃ a, n = nI a ∧ y = (a, t, x.2.2)) ∨ (¬ v ≤ 0 ∧ y = (x.1 + 1, t, x.2.2))))
def Rw (σ : Sg) (s : List Int32) : Prop := ∀ j v, s[j]? = some v → σ 17 (s.length - 1 - j) = v
/-- StackScheduler holds the machine's state -/
def Mq (σ : Sg) (x : Mx) : Prop := (σ 0 18 = nI x.2.1.length ∧ x.2.1.length ≤ 16 ∧ Rw σ x.2.1) ∧ σ 0 19 = nI x.2.2.1 ∧ ∀ j, σ 20 j = x.2.2.2 j
def Fm (σ τ : Sg) : Prop := (∀ k j, k ≠ 0 → k ≠ 17 → k ≠ 20 → τ k j = σ k j) ∧ ∀ j, j ≠ 18 → j ≠ 19 → τ 0 j = σ 0 j
theorem Fm.rf (σ : Sg) : Fm σ σ := ⟨fun _ _ _ _ _ => rfl, fun _ _ _ => rfl⟩
theorem Fm.tr {σ τ υ : Sg} (h : Fm σ τ) (g : Fm τ υ) : Fm σ υ := ⟨fun k j a b c => (g.1 k j a b c).trans (h.1 k j a b c), fun j a b => (g.2 j a b).trans (h.2 j a b)⟩
theorem Fm.s17 (σ : Sg) (j : Nat) (v : Int32) : Fm σ (su σ 17 j v) := ⟨fun k b _ h _ => by simp [su, h], fun b _ _ => by simp [su]⟩
theorem Fm.s20 (σ : Sg) (j : Nat) (v : Int32) : Fm σ (su σ 20 j v) := ⟨fun k b _ _ h => by simp [su, h], fun b _ _ => by simp [su]⟩
theorem Fm.s18 (σ : Sg) (v : Int32) : Fm σ (su σ 0 18 v) := ⟨fun k b h _ _ => by simp [su, h], fun b h _ => by simp [su, h]⟩
theorem Fm.s19 (σ : Sg) (v : Int32) : Fm σ (su σ 0 19 v) := ⟨fun k b h _ _ => by simp [su, h], fun b _ h => by simp [su, h]⟩
theorem Rw.push {σ : Sg} {s : List Int32} (h : Rw σ s) (v : Int32) : Rw (su σ 17 s.length v) (v :: s) := by
  intro j w hj
  cases j with
  | zero =>
    simp at hj
    subst hj
    simp [su]
  | succ j =>
    have hl := lt_of_q hj
    simp at hl
    have := h j w (by simpa using hj)
    rw [show (v :: s).length - 1 - (j + 1) = s.length - 1 - j by simp; omega]
    have e2 : ¬ s.length - 1 - j = s.length := by omega
    simp [su, e2]
    exact this
theorem Rw.pop {σ : Sg} {a : Int32} {s : List Int32} (h : Rw σ (a :: s)) : Rw σ s := by
  intro j w hj
  have hl := lt_of_q hj
  have := h (j + 1) w (by simpa using hj)
  rw [show (a :: s).length - 1 - (j + 1) = s.length - 1 - j by simp; omega] at this
  exact this
theorem Rw.of {σ τ : Sg} {s : List Int32} (h : Rw σ s) (e : ∀ j, τ 17 j = σ 17 j) : Rw τ s := fun j w hj => (e _).trans (h j w hj)
theorem Rw.pull {σ : Sg} {v : Int32} {dd : Nat} {s : List Int32} (h : Rw σ s) (hd : s[dd]? = some v) : Rw (su (sh σ 17 (s.length - 1 - dd) (s.length - 1)) 17 (s.length - 1) v) (v :: s.eraseIdx dd) := by
  have hdl := lt_of_q hd
  have hlen : (v :: s.eraseIdx dd).length = s.length := by
    rw [List.length_cons, List.length_eraseIdx, if_pos hdl]
    omega
  intro j w hj
  rw [hlen]
  cases j with
  | zero =>
    simp at hj
    subst hj
    simp [su]
  | succ j =>
    rw [List.getElem?_cons_succ, List.getElem?_eraseIdx] at hj
    have e2 : ¬ s.length - 1 - (j + 1) = s.length - 1 := by
      split at hj
      · omega
      · have := lt_of_q hj; omega
    simp only [su, sh]
    rw [if_pos trivial, if_neg e2]
    split at hj
    · have := h j w hj
      have hl := lt_of_q hj
      rw [if_pos ⟨trivial, by omega, by omega⟩, show s.length - 1 - (j + 1) + 1 = s.length - 1 - j by omega]
      exact this
    · have := h (j + 1) w hj
      have hl := lt_of_q hj
      rw [if_neg (fun q => by have := q.2.1; omega)]
      exact this
theorem c_compute (σ : Sg) (o : Nat) (p q : Int32) (h1 : 2 ≤ o) (h2 : o ≤ 6) : XA 0 yX0_compute cX0_compute 4 (some .int) [.int (nI o), .int p, .int q] σ (fun r τ => τ = σ ∧ r = some (cmp o p q)) := by
  refine xa_ofI [nI o, p, q] (by decide) rfl (Nat.le_of_ble_eq_true rfl) (fun X D h d C => ?_)
  have B := C.1
  show XW X _ 0 [(0, .ref (h 0)), (1, .int (nI o)), (2, .int (p)), (3, .int (q))] []
  refine xw_iload_n B dX0_compute_0 rfl ?_
  refine xw_iconst (v := nI 2) B dX0_compute_1 (by decide) ?_
  refine xw_icmp_ne (tgt := 9) B dX0_compute_2 (by decide) (fun c1 => ?_) (fun c1 => ?_)
  · rw [zeq (by omega) (by omega)] at c1
    refine xw_iload_n B dX0_compute_9 rfl ?_
    refine xw_iconst (v := nI 3) B dX0_compute_10 (by decide) ?_
    refine xw_icmp_ne (tgt := 18) B dX0_compute_11 (by decide) (fun c2 => ?_) (fun c2 => ?_)
    · rw [zeq (by omega) (by omega)] at c2
      refine xw_iload_n B dX0_compute_18 rfl ?_
      refine xw_iconst (v := nI 4) B dX0_compute_19 (by decide) ?_
      refine xw_icmp_ne (tgt := 27) B dX0_compute_20 (by decide) (fun c3 => ?_) (fun c3 => ?_)
      · rw [zeq (by omega) (by omega)] at c3
        refine xw_iload_n B dX0_compute_27 rfl ?_
        refine xw_iconst (v := nI 5) B dX0_compute_28 (by decide) ?_
        refine xw_icmp_ne (tgt := 36) B dX0_compute_29 (by decide) (fun c4 => ?_) (fun c4 => ?_)
        · rw [zeq (by omega) (by omega)] at c4
          refine xw_iload_n B dX0_compute_36 rfl ?_
          refine xw_iload_n B dX0_compute_37 rfl ?_
          refine xw_icmp_ge (tgt := 45) B dX0_compute_38 (by decide) (fun c5 => ?_) (fun c5 => ?_)
          · refine xw_iconst (v := nI 0) B dX0_compute_45 (by decide) ?_
            exact xa_iret C rfl (rfl) dX0_compute_46 (⟨rfl, by rw [cmp, if_neg c1, if_neg c2, if_neg c3, if_neg c4, if_neg (Int32.not_lt.mpr c5)]; rfl⟩)
          · refine xw_iconst (v := nI 1) B dX0_compute_41 (by decide) ?_
            refine xw_goto (tgt := 46) B dX0_compute_42 (by decide) ?_
            exact xa_iret C rfl (rfl) dX0_compute_46 (⟨rfl, by rw [cmp, if_neg c1, if_neg c2, if_neg c3, if_neg c4, if_pos (Int32.not_le.mp c5)]; rfl⟩)
        · rw [zeq (by omega) (by omega)] at c4
          refine xw_iload_n B dX0_compute_32 rfl ?_
          refine xw_iload_n B dX0_compute_33 rfl ?_
          refine xw_ixor B dX0_compute_34 (rfl) ?_
          exact xa_iret C rfl (rfl) dX0_compute_35 (⟨rfl, by rw [cmp, if_neg c1, if_neg c2, if_neg c3, if_pos c4]⟩)
      · rw [zeq (by omega) (by omega)] at c3
        refine xw_iload_n B dX0_compute_23 rfl ?_
        refine xw_iload_n B dX0_compute_24 rfl ?_
        refine xw_imul B dX0_compute_25 (rfl) ?_
        exact xa_iret C rfl (rfl) dX0_compute_26 (⟨rfl, by rw [cmp, if_neg c1, if_neg c2, if_pos c3]⟩)
    · rw [zeq (by omega) (by omega)] at c2
      refine xw_iload_n B dX0_compute_14 rfl ?_
      refine xw_iload_n B dX0_compute_15 rfl ?_
      refine xw_isub B dX0_compute_16 (rfl) ?_
      exact xa_iret C rfl (rfl) dX0_compute_17 (⟨rfl, by rw [cmp, if_neg c1, if_pos c2]⟩)
  · rw [zeq (by omega) (by omega)] at c1
    refine xw_iload_n B dX0_compute_5 rfl ?_
    refine xw_iload_n B dX0_compute_6 rfl ?_
    refine xw_iadd B dX0_compute_7 (rfl) ?_
    exact xa_iret C rfl (rfl) dX0_compute_8 (⟨rfl, by rw [cmp, if_pos c1]⟩)
theorem c_print (σ : Sg) (v : Int32) (k : Nat) (h19 : σ 0 19 = nI k) (hk : k < 2 ^ 30) : XA 0 yX0_print cX0_print 2 none [.int v] σ (fun r τ => r = none ∧ τ = su (if k < 64 then su σ 20 k v else σ) 0 19 (nI (k + 1))) := by
  refine xa_ofI [v] (by decide) rfl (Nat.le_of_ble_eq_true rfl) (fun X D h d C => ?_)
  have B := C.1
  show XW X _ 0 [(0, .ref (h 0)), (1, .int (v))] []
  refine xw_aload_n B dX0_print_0 rfl ?_
  refine xa_getS C 19 (by decide) rfl q61 dX0_print_1 (h19) ?_
  refine xw_bipush (v := nI 64) B dX0_print_4 (by decide) ?_
  refine xw_icmp_ge (tgt := 19) B dX0_print_6 (by decide) (fun c1 => ?_) (fun c1 => ?_)
  · rw [zle (by omega) (by omega)] at c1
    refine xw_aload_n B dX0_print_19 rfl ?_
    refine xw_dup B dX0_print_20 rfl ?_
    refine xa_getS C 19 (by decide) rfl q61 dX0_print_21 (h19) ?_
    refine xw_iconst (v := nI 1) B dX0_print_24 (by decide) ?_
    refine xw_iadd B dX0_print_25 (nI_add k 1) ?_
    refine xa_put (ty := .int) C 19 (by decide) (xa_f19 h d _ _) q61 rfl (by decide +kernel) (rfl) (rfl) dX0_print_26 ?_
    exact xa_vret C rfl dX0_print_29 (⟨rfl, by rw [if_neg (by omega)]⟩)
  · rw [zle (by omega) (by omega)] at c1
    refine xw_aload_n B dX0_print_9 rfl ?_
    refine xa_getA C 20 (by decide) rfl q62 dX0_print_10 ?_
    refine xw_aload_n B dX0_print_13 rfl ?_
    refine xa_getS C 19 (by decide) rfl q61 dX0_print_14 (h19) ?_
    refine xw_iload_n B dX0_print_17 rfl ?_
    refine xa_iast C 12 11 20 rfl rfl (xa_s20 h d _) (by decide) dX0_print_18 (k) (rfl) (by omega) ?_
    refine xw_aload_n B dX0_print_19 rfl ?_
    refine xw_dup B dX0_print_20 rfl ?_
    refine xa_getS C 19 (by decide) rfl q61 dX0_print_21 (h19) ?_
    refine xw_iconst (v := nI 1) B dX0_print_24 (by decide) ?_
    refine xw_iadd B dX0_print_25 (nI_add k 1) ?_
    refine xa_put (ty := .int) C 19 (by decide) (xa_f19 h d _ _) q61 rfl (by decide +kernel) (rfl) (rfl) dX0_print_26 ?_
    exact xa_vret C rfl dX0_print_29 (⟨rfl, by rw [if_pos (by omega)]⟩)
theorem c_pull_loop (σ : Sg) (v : Int32) {s : List Int32} {dd : Nat} (h18 : σ 0 18 = nI s.length) (hl : s.length ≤ 16) (hR : Rw σ s) (hd : s[dd]? = some v) {X : CX} {D : va_G} {h : Nat → Nat} {d : Nat → ClassId} {lv : Nat}
    (C : CA X cX0_pull 4 none lv D h d (fun r τ => r = none ∧ τ = su (sh σ 17 (s.length - 1 - dd) (s.length - 1)) 17 (s.length - 1) v)) :
    ∀ (f i : Nat), s.length - 1 - dd ≤ i → i ≤ s.length - 1 → s.length - 1 < i + f → XW X (PA D h d (sh σ 17 (s.length - 1 - dd) i)) 23 [(3, .int (nI i)), (0, .ref (h 0)), (2, .int v)] [] := by
  have B := C.1
  have hdl := lt_of_q hd
  have h18' : ∀ i, sh σ 17 (s.length - 1 - dd) i 0 18 = nI s.length := fun i => by rw [sh_o _ (by decide)]; exact h18
  intro f
  induction f with
  | zero => intro i h1 h2; omega
  | succ f ih =>
    intro i h1 h2 h3
    refine xw_iload_n B dX0_pull_23 rfl ?_
    refine xw_aload_n B dX0_pull_24 rfl ?_
    refine xa_getS C 18 (by decide) rfl q60 dX0_pull_25 (h18' i) ?_
    refine xw_iconst (v := nI 1) B dX0_pull_28 (by decide) ?_
    refine xw_isub B dX0_pull_29 (zsub (by omega)) ?_
    refine xw_icmp_ge (tgt := 53) B dX0_pull_30 (by decide) (fun q1 => ?_) (fun q1 => ?_)
    · rw [zle (by omega) (by omega)] at q1
      have ei : i = s.length - 1 := by omega
      subst ei
      refine xw_aload_n B dX0_pull_53 rfl ?_
      refine xa_getA C 17 (by decide) rfl q59 dX0_pull_54 ?_
      refine xw_aload_n B dX0_pull_57 rfl ?_
      refine xa_getS C 18 (by decide) rfl q60 dX0_pull_58 (h18' _) ?_
      refine xw_iconst (v := nI 1) B dX0_pull_61 (by decide) ?_
      refine xw_isub B dX0_pull_62 (zsub (by omega)) ?_
      refine xw_iload_n B dX0_pull_63 rfl ?_
      refine xa_iast C 11 10 17 rfl rfl (xa_s17 h d _) (by decide) dX0_pull_64 (s.length - 1) (rfl) (by omega) ?_
      exact xa_vret C rfl dX0_pull_65 (⟨rfl, rfl⟩)
    · rw [zle (by omega) (by omega)] at q1
      refine xw_aload_n B dX0_pull_33 rfl ?_
      refine xa_getA C 17 (by decide) rfl q59 dX0_pull_34 ?_
      refine xw_iload_n B dX0_pull_37 rfl ?_
      refine xw_aload_n B dX0_pull_38 rfl ?_
      refine xa_getA C 17 (by decide) rfl q59 dX0_pull_39 ?_
      refine xw_iload_n B dX0_pull_42 rfl ?_
      refine xw_iconst (v := nI 1) B dX0_pull_43 (by decide) ?_
      refine xw_iadd B dX0_pull_44 (nI_add i 1) ?_
      refine xa_iald C 11 10 17 rfl rfl (by decide) dX0_pull_45 (i + 1) (rfl) (by omega) ((sh_at σ)) ?_
      refine xa_iast C 11 10 17 rfl rfl (xa_s17 h d _) (by decide) dX0_pull_46 (i) (rfl) (by omega) ?_
      refine xw_iinc B dX0_pull_47 rfl (zinc i) (by decide) ?_
      refine xw_goto (tgt := 23) B dX0_pull_50 (by decide) ?_
      rw [sh_s σ h1]
      refine xw_loc [(3, .int (nI (i + 1))), (0, .ref (h 0)), (2, .int v)] ⟨rfl, rfl, rfl, trivial⟩ ?_
      exact ih (i + 1) (by omega) (by omega) (by omega)
theorem c_pull (σ : Sg) (v : Int32) {s : List Int32} {dd : Nat} (h18 : σ 0 18 = nI s.length) (hl : s.length ≤ 16) (hR : Rw σ s) (hd : s[dd]? = some v) : XA 0 yX0_pull cX0_pull 4 none [.int (nI dd)] σ (fun r τ => r = none ∧ τ = su (sh σ 17 (s.length - 1 - dd) (s.length - 1)) 17 (s.length - 1) v) := by
  have hdl := lt_of_q hd
  refine xa_ofI [nI dd] (by decide) rfl (Nat.le_of_ble_eq_true rfl) (fun X D h d C => ?_)
  have B := C.1
  show XW X _ 0 [(0, .ref (h 0)), (1, .int (nI dd))] []
  refine xw_aload_n B dX0_pull_0 rfl ?_
  refine xa_getA C 17 (by decide) rfl q59 dX0_pull_1 ?_
  refine xw_aload_n B dX0_pull_4 rfl ?_
  refine xa_getS C 18 (by decide) rfl q60 dX0_pull_5 (h18) ?_
  refine xw_iconst (v := nI 1) B dX0_pull_8 (by decide) ?_
  refine xw_isub B dX0_pull_9 (zsub (by omega)) ?_
  refine xw_iload_n B dX0_pull_10 rfl ?_
  refine xw_isub B dX0_pull_11 (zsub (by omega)) ?_
  refine xa_iald C 11 10 17 rfl rfl (by decide) dX0_pull_12 (s.length - 1 - dd) (rfl) (by omega) (hR dd v hd) ?_
  refine xw_istore_n (i := 2) B dX0_pull_13 rfl (by decide) ?_
  refine xw_aload_n B dX0_pull_14 rfl ?_
  refine xa_getS C 18 (by decide) rfl q60 dX0_pull_15 (h18) ?_
  refine xw_iconst (v := nI 1) B dX0_pull_18 (by decide) ?_
  refine xw_isub B dX0_pull_19 (zsub (by omega)) ?_
  refine xw_iload_n B dX0_pull_20 rfl ?_
  refine xw_isub B dX0_pull_21 (zsub (by omega)) ?_
  refine xw_istore_n (i := 3) B dX0_pull_22 rfl (by decide) ?_
  refine xw_loc [(3, .int (nI (s.length - 1 - dd))), (0, .ref (h 0)), (2, .int v)] ⟨rfl, rfl, rfl, trivial⟩ ?_
  have := c_pull_loop σ v h18 hl hR hd C (s.length + 1) (s.length - 1 - dd) (Nat.le_refl _) (by omega) (by omega)
  rw [sh_0] at this
  exact this
theorem c_perform (σ : Sg) (at_ o : Nat) (n : Int32) (x z : Mx) (hat : at_ < 560) (h9 : σ 9 at_ = nI o) (h10 : σ 10 at_ = n) (Q : Mq σ x) (hx : x.1 = at_) (hk : x.2.2.1 < 2 ^ 30) (E : Exm o n x z) : XA 1 yX0_perform cX0_perform 5 (some .int) [.int (nI at_)] σ (fun r τ => r = some (nI z.1) ∧ Mq τ z ∧ Fm σ τ) := by
  obtain ⟨xa, s, k, f⟩ := x
  simp only at hx hk
  subst hx
  obtain ⟨⟨h18, hl, hR⟩, h19, h20⟩ := Q
  simp only at h18 hl hR h19 h20
  simp only [Exm] at E
  refine xa_ofI [nI xa] (by decide) rfl (Nat.le_of_ble_eq_true rfl) (fun X D h d C => ?_)
  have B := C.1
  show XW X _ 0 [(0, .ref (h 0)), (1, .int (nI xa))] []
  have J222 : ∀ (τ : Sg) (nx : Nat) (L : List (Nat × Value)), lk L 4 = some (.int (nI nx)) → nx = z.1 → Mq τ z → Fm σ τ → XW X (PA D h d τ) 222 L [] := by
    intro τ nx L hL e M F
    refine xw_loc [(4, .int (nI nx))] ⟨hL, trivial⟩ ?_
    refine xw_iload B dX0_perform_222 rfl ?_
    exact xa_iret C rfl (rfl) dX0_perform_224 (⟨by rw [e], M, F⟩)
  refine xw_aload_n B dX0_perform_0 rfl ?_
  refine xa_getA C 9 (by decide) rfl q51 dX0_perform_1 ?_
  refine xw_iload_n B dX0_perform_4 rfl ?_
  refine xa_bald C 6 5 9 rfl rfl (by decide) dX0_perform_5 (xa) (rfl) (hat) (h9) ?_
  refine xw_istore_n (i := 2) B dX0_perform_6 rfl (by decide) ?_
  refine xw_aload_n B dX0_perform_7 rfl ?_
  refine xa_getA C 10 (by decide) rfl q52 dX0_perform_8 ?_
  refine xw_iload_n B dX0_perform_11 rfl ?_
  refine xa_iald C 7 6 10 rfl rfl (by decide) dX0_perform_12 (xa) (rfl) (hat) (h10) ?_
  refine xw_istore_n (i := 3) B dX0_perform_13 rfl (by decide) ?_
  refine xw_iload_n B dX0_perform_14 rfl ?_
  refine xw_iconst (v := nI 1) B dX0_perform_15 (by decide) ?_
  refine xw_iadd B dX0_perform_16 (nI_add xa 1) ?_
  refine xw_istore B dX0_perform_17 (by decide) ?_
  refine xw_loc [(4, .int (nI (xa + 1))), (3, .int n), (2, .int (nI o)), (0, .ref (h 0)), (1, .int (nI xa))] ⟨rfl, rfl, rfl, rfl, rfl, trivial⟩ ?_
  by_cases har : 2 ≤ o ∧ o ≤ 6
  · obtain ⟨p, q, t, hs, hz⟩ : ∃ p q t, s = q :: p :: t ∧ z = (xa + 1, cmp o p q :: t, k, f) := by
      rcases E with e | e | e | e | e | e | e | e
      · obtain ⟨_, _, p, q, t, e1, e2⟩ := e
        exact ⟨p, q, t, e1, e2⟩
      all_goals (have := e.1; omega)
    subst hs
    subst hz
    simp only [List.length_cons] at hl h18
    have hq := hR 0 q rfl
    have hp := hR 1 p rfl
    rw [show (q :: p :: t).length - 1 - 0 = t.length + 1 from rfl] at hq
    rw [show (q :: p :: t).length - 1 - 1 = t.length from rfl] at hp
    have e1 : nI (t.length + 1 + 1) - nI 1 = nI (t.length + 1) := zsub (by omega)
    have e2 : nI (t.length + 1) - nI 1 = nI t.length := zsub (by omega)
    refine xw_iload_n B dX0_perform_19 rfl ?_
    refine xw_iconst (v := nI 2) B dX0_perform_20 (by decide) ?_
    refine xw_icmp_lt (tgt := 79) B dX0_perform_21 (by decide) (fun q => absurd q (by rw [zlt (by omega) (by omega)]; omega)) (fun _ => ?_)
    refine xw_iload_n B dX0_perform_24 rfl ?_
    refine xw_bipush (v := nI 6) B dX0_perform_25 (by decide) ?_
    refine xw_icmp_gt (tgt := 79) B dX0_perform_27 (by decide) (fun q => absurd q (by rw [zlt (by omega) (by omega)]; omega)) (fun _ => ?_)
    refine xw_aload_n B dX0_perform_30 rfl ?_
    refine xw_dup B dX0_perform_31 rfl ?_
    refine xa_getS C 18 (by decide) rfl q60 dX0_perform_32 (h18) ?_
    refine xw_iconst (v := nI 1) B dX0_perform_35 (by decide) ?_
    refine xw_isub B dX0_perform_36 (e1) ?_
    refine xa_put (ty := .int) C 18 (by decide) (xa_f18 h d _ _) q60 rfl (by decide +kernel) (rfl) (rfl) dX0_perform_37 ?_
    refine xw_aload_n B dX0_perform_40 rfl ?_
    refine xa_getA C 17 (by decide) rfl q59 dX0_perform_41 ?_
    refine xw_aload_n B dX0_perform_44 rfl ?_
    refine xa_getS C 18 (by decide) rfl q60 dX0_perform_45 (rfl) ?_
    refine xw_iconst (v := nI 1) B dX0_perform_48 (by decide) ?_
    refine xw_isub B dX0_perform_49 (e2) ?_
    refine xw_aload_n B dX0_perform_50 rfl ?_
    refine xw_iload_n B dX0_perform_51 rfl ?_
    refine xw_aload_n B dX0_perform_52 rfl ?_
    refine xa_getA C 17 (by decide) rfl q59 dX0_perform_53 ?_
    refine xw_aload_n B dX0_perform_56 rfl ?_
    refine xa_getS C 18 (by decide) rfl q60 dX0_perform_57 (rfl) ?_
    refine xw_iconst (v := nI 1) B dX0_perform_60 (by decide) ?_
    refine xw_isub B dX0_perform_61 (e2) ?_
    refine xa_iald C 11 10 17 rfl rfl (by decide) dX0_perform_62 (t.length) (rfl) (by omega) (hp) ?_
    refine xw_aload_n B dX0_perform_63 rfl ?_
    refine xa_getA C 17 (by decide) rfl q59 dX0_perform_64 ?_
    refine xw_aload_n B dX0_perform_67 rfl ?_
    refine xa_getS C 18 (by decide) rfl q60 dX0_perform_68 (rfl) ?_
    refine xa_iald C 11 10 17 rfl rfl (by decide) dX0_perform_71 (t.length + 1) (rfl) (by omega) (hq) ?_
    refine xa_calli C (lw_V q206 q208 qs19 q32 q209) hdX0_compute (by decide) (by decide) rfl (Nat.le_of_ble_eq_true rfl) dX0_perform_72 (c_compute _ o p q har.1 har.2) rfl (fun r τ hp => ?_)
    obtain ⟨e1, e2⟩ := hp
    cases e2
    rw [e1]
    clear e1
    refine xa_iast C 11 10 17 rfl rfl (xa_s17 h d _) (by decide) dX0_perform_75 (t.length) (rfl) (by omega) ?_
    refine xw_goto (tgt := 222) B dX0_perform_76 (by decide) ?_
    refine J222 _ _ _ rfl rfl ⟨⟨rfl, by simp; omega, ?_⟩, h19, h20⟩ ((Fm.s18 σ _).tr (Fm.s17 _ _ _))
    exact (hR.pop.pop.of (τ := su σ 0 18 (nI (t.length + 1))) (fun _ => rfl)).push _
  · have J79 : XW X (PA D h d σ) 79 [(4, .int (nI (xa + 1))), (3, .int n), (2, .int (nI o)), (0, .ref (h 0)), (1, .int (nI xa))] [] := by
      have ho : o < 12 := by
        rcases E with e | e | e | e | e | e | e | e
        · have := e.2.1; omega
        all_goals (have := e.1; omega)
      by_cases o0 : o = 0
      · obtain ⟨hs, hz⟩ : s.length < 16 ∧ z = (xa + 1, n :: s, k, f) := by
          rcases E with e | e | e | e | e | e | e | e
          · have := e.1; omega
          · exact ⟨e.2.1, e.2.2⟩
          all_goals (have := e.1; omega)
        subst hz
        refine xw_iload_n B dX0_perform_79 rfl ?_
        refine xw_if_ne (tgt := 106) B dX0_perform_80 (by decide) (fun q => absurd (by rw [z0eq (by omega)]; exact o0) q) (fun _ => ?_)
        refine xw_aload_n B dX0_perform_83 rfl ?_
        refine xa_getA C 17 (by decide) rfl q59 dX0_perform_84 ?_
        refine xw_aload_n B dX0_perform_87 rfl ?_
        refine xa_getS C 18 (by decide) rfl q60 dX0_perform_88 (h18) ?_
        refine xw_iload_n B dX0_perform_91 rfl ?_
        refine xa_iast C 11 10 17 rfl rfl (xa_s17 h d _) (by decide) dX0_perform_92 (s.length) (rfl) (hs) ?_
        refine xw_aload_n B dX0_perform_93 rfl ?_
        refine xw_dup B dX0_perform_94 rfl ?_
        refine xa_getS C 18 (by decide) rfl q60 dX0_perform_95 (h18) ?_
        refine xw_iconst (v := nI 1) B dX0_perform_98 (by decide) ?_
        refine xw_iadd B dX0_perform_99 (nI_add s.length 1) ?_
        refine xa_put (ty := .int) C 18 (by decide) (xa_f18 h d _ _) q60 rfl (by decide +kernel) (rfl) (rfl) dX0_perform_100 ?_
        refine xw_goto (tgt := 222) B dX0_perform_103 (by decide) ?_
        exact J222 _ _ _ rfl rfl ⟨⟨rfl, by simp; omega, hR.push n⟩, h19, h20⟩ ((Fm.s17 _ _ _).tr (Fm.s18 _ _))
      · by_cases o1 : o = 1
        · obtain ⟨hs, dd, v, hn, hv, hz⟩ : s.length < 16 ∧ ∃ d v, n = nI d ∧ s[d]? = some v ∧ z = (xa + 1, v :: s, k, f) := by
            rcases E with e | e | e | e | e | e | e | e
            · have := e.1; omega
            · have := e.1; omega
            · exact e.2
            all_goals (have := e.1; omega)
          subst hz
          subst hn
          have hdl := lt_of_q hv
          refine xw_iload_n B dX0_perform_79 rfl ?_
          refine xw_if_ne (tgt := 106) B dX0_perform_80 (by decide) (fun _ => ?_) (fun q => absurd q (by rw [z0eq (by omega)]; exact o0))
          refine xw_iload_n B dX0_perform_106 rfl ?_
          refine xw_iconst (v := nI 1) B dX0_perform_107 (by decide) ?_
          refine xw_icmp_ne (tgt := 146) B dX0_perform_108 (by decide) (fun q => absurd (by rw [zeq (by omega) (by omega)]; exact o1) q) (fun _ => ?_)
          refine xw_aload_n B dX0_perform_111 rfl ?_
          refine xa_getA C 17 (by decide) rfl q59 dX0_perform_112 ?_
          refine xw_aload_n B dX0_perform_115 rfl ?_
          refine xa_getS C 18 (by decide) rfl q60 dX0_perform_116 (h18) ?_
          refine xw_aload_n B dX0_perform_119 rfl ?_
          refine xa_getA C 17 (by decide) rfl q59 dX0_perform_120 ?_
          refine xw_aload_n B dX0_perform_123 rfl ?_
          refine xa_getS C 18 (by decide) rfl q60 dX0_perform_124 (h18) ?_
          refine xw_iconst (v := nI 1) B dX0_perform_127 (by decide) ?_
          refine xw_isub B dX0_perform_128 (zsub (by omega)) ?_
          refine xw_iload_n B dX0_perform_129 rfl ?_
          refine xw_isub B dX0_perform_130 (zsub (by omega)) ?_
          refine xa_iald C 11 10 17 rfl rfl (by decide) dX0_perform_131 (s.length - 1 - dd) (rfl) (by omega) (hR dd v hv) ?_
          refine xa_iast C 11 10 17 rfl rfl (xa_s17 h d _) (by decide) dX0_perform_132 (s.length) (rfl) (hs) ?_
          refine xw_aload_n B dX0_perform_133 rfl ?_
          refine xw_dup B dX0_perform_134 rfl ?_
          refine xa_getS C 18 (by decide) rfl q60 dX0_perform_135 (h18) ?_
          refine xw_iconst (v := nI 1) B dX0_perform_138 (by decide) ?_
          refine xw_iadd B dX0_perform_139 (nI_add s.length 1) ?_
          refine xa_put (ty := .int) C 18 (by decide) (xa_f18 h d _ _) q60 rfl (by decide +kernel) (rfl) (rfl) dX0_perform_140 ?_
          refine xw_goto (tgt := 222) B dX0_perform_143 (by decide) ?_
          exact J222 _ _ _ rfl rfl ⟨⟨rfl, by simp; omega, hR.push v⟩, h19, h20⟩ ((Fm.s17 _ _ _).tr (Fm.s18 _ _))
        · by_cases o7 : o = 7
          · obtain ⟨dd, v, hn, hv, hz⟩ : ∃ d v, n = nI d ∧ s[d]? = some v ∧ z = (xa + 1, v :: s.eraseIdx d, k, f) := by
              rcases E with e | e | e | e | e | e | e | e
              · have := e.1; omega
              · have := e.1; omega
              · have := e.1; omega
              · exact e.2
              all_goals (have := e.1; omega)
            subst hz
            subst hn
            have hdl := lt_of_q hv
            have hlen : (v :: s.eraseIdx dd).length = s.length := by
              rw [List.length_cons, List.length_eraseIdx, if_pos hdl]
              omega
            refine xw_iload_n B dX0_perform_79 rfl ?_
            refine xw_if_ne (tgt := 106) B dX0_perform_80 (by decide) (fun _ => ?_) (fun q => absurd q (by rw [z0eq (by omega)]; exact o0))
            refine xw_iload_n B dX0_perform_106 rfl ?_
            refine xw_iconst (v := nI 1) B dX0_perform_107 (by decide) ?_
            refine xw_icmp_ne (tgt := 146) B dX0_perform_108 (by decide) (fun _ => ?_) (fun q => absurd q (by rw [zeq (by omega) (by omega)]; exact o1))
            refine xw_iload_n B dX0_perform_146 rfl ?_
            refine xw_bipush (v := nI 7) B dX0_perform_147 (by decide) ?_
            refine xw_icmp_ne (tgt := 160) B dX0_perform_149 (by decide) (fun q => absurd (by rw [zeq (by omega) (by omega)]; exact o7) q) (fun _ => ?_)
            refine xw_aload_n B dX0_perform_152 rfl ?_
            refine xw_iload_n B dX0_perform_153 rfl ?_
            refine xa_callv C (lw_V q210 q212 qs20 q32 q213) hdX0_pull (by decide) (by decide) rfl (Nat.le_of_ble_eq_true rfl) dX0_perform_154 (c_pull σ v h18 hl hR hv) rfl (fun τ u => ?_)
            refine xw_goto (tgt := 222) B dX0_perform_157 (by decide) ?_
            obtain ⟨-, u⟩ := u
            subst u
            refine J222 _ _ _ rfl rfl ⟨⟨?_, by simp only; rw [hlen]; exact hl, hR.pull hv⟩, h19, h20⟩ ⟨fun a b c1 c2 c3 => ?_, fun b c1 c2 => ?_⟩
            · simp only
              rw [hlen]
              simpa [su, sh] using h18
            · simp [su, sh, c2]
            · simp [su, sh]
          · by_cases o11 : o = 11
            · obtain ⟨t, hn, hz⟩ : ∃ t, n = nI t ∧ z = (t, s, k, f) := by
                rcases E with e | e | e | e | e | e | e | e
                · have := e.1; omega
                · have := e.1; omega
                · have := e.1; omega
                · have := e.1; omega
                · exact e.2
                all_goals (have := e.1; omega)
              subst hz
              subst hn
              refine xw_iload_n B dX0_perform_79 rfl ?_
              refine xw_if_ne (tgt := 106) B dX0_perform_80 (by decide) (fun _ => ?_) (fun q => absurd q (by rw [z0eq (by omega)]; exact o0))
              refine xw_iload_n B dX0_perform_106 rfl ?_
              refine xw_iconst (v := nI 1) B dX0_perform_107 (by decide) ?_
              refine xw_icmp_ne (tgt := 146) B dX0_perform_108 (by decide) (fun _ => ?_) (fun q => absurd q (by rw [zeq (by omega) (by omega)]; exact o1))
              refine xw_iload_n B dX0_perform_146 rfl ?_
              refine xw_bipush (v := nI 7) B dX0_perform_147 (by decide) ?_
              refine xw_icmp_ne (tgt := 160) B dX0_perform_149 (by decide) (fun _ => ?_) (fun q => absurd q (by rw [zeq (by omega) (by omega)]; exact o7))
              refine xw_iload_n B dX0_perform_160 rfl ?_
              refine xw_bipush (v := nI 11) B dX0_perform_161 (by decide) ?_
              refine xw_icmp_ne (tgt := 172) B dX0_perform_163 (by decide) (fun q => absurd (by rw [zeq (by omega) (by omega)]; exact o11) q) (fun _ => ?_)
              refine xw_iload_n B dX0_perform_166 rfl ?_
              refine xw_istore B dX0_perform_167 (by decide) ?_
              refine xw_goto (tgt := 222) B dX0_perform_169 (by decide) ?_
              exact J222 _ _ _ rfl rfl ⟨⟨h18, hl, hR⟩, h19, h20⟩ (Fm.rf σ)
            · obtain ⟨v, t, hs⟩ : ∃ v t, s = v :: t := by
                rcases E with e | e | e | e | e | e | e | e
                · have := e.1; omega
                · have := e.1; omega
                · have := e.1; omega
                · have := e.1; omega
                · have := e.1; omega
                · obtain ⟨_, v, t, e, _⟩ := e; exact ⟨v, t, e⟩
                · obtain ⟨_, v, t, e, _⟩ := e; exact ⟨v, t, e⟩
                · obtain ⟨_, v, t, e, _⟩ := e; exact ⟨v, t, e⟩
              subst hs
              simp only [List.length_cons] at hl h18
              have hv := hR 0 v rfl
              rw [show (v :: t).length - 1 - 0 = t.length from rfl] at hv
              have e1 : nI (t.length + 1) - nI 1 = nI t.length := zsub (by omega)
              have hR' : Rw (su σ 0 18 (nI t.length)) t := hR.pop.of (fun _ => rfl)
              refine xw_iload_n B dX0_perform_79 rfl ?_
              refine xw_if_ne (tgt := 106) B dX0_perform_80 (by decide) (fun _ => ?_) (fun q => absurd q (by rw [z0eq (by omega)]; exact o0))
              refine xw_iload_n B dX0_perform_106 rfl ?_
              refine xw_iconst (v := nI 1) B dX0_perform_107 (by decide) ?_
              refine xw_icmp_ne (tgt := 146) B dX0_perform_108 (by decide) (fun _ => ?_) (fun q => absurd q (by rw [zeq (by omega) (by omega)]; exact o1))
              refine xw_iload_n B dX0_perform_146 rfl ?_
              refine xw_bipush (v := nI 7) B dX0_perform_147 (by decide) ?_
              refine xw_icmp_ne (tgt := 160) B dX0_perform_149 (by decide) (fun _ => ?_) (fun q => absurd q (by rw [zeq (by omega) (by omega)]; exact o7))
              refine xw_iload_n B dX0_perform_160 rfl ?_
              refine xw_bipush (v := nI 11) B dX0_perform_161 (by decide) ?_
              refine xw_icmp_ne (tgt := 172) B dX0_perform_163 (by decide) (fun _ => ?_) (fun q => absurd q (by rw [zeq (by omega) (by omega)]; exact o11))
              refine xw_aload_n B dX0_perform_172 rfl ?_
              refine xw_dup B dX0_perform_173 rfl ?_
              refine xa_getS C 18 (by decide) rfl q60 dX0_perform_174 (h18) ?_
              refine xw_iconst (v := nI 1) B dX0_perform_177 (by decide) ?_
              refine xw_isub B dX0_perform_178 (e1) ?_
              refine xa_put (ty := .int) C 18 (by decide) (xa_f18 h d _ _) q60 rfl (by decide +kernel) (rfl) (rfl) dX0_perform_179 ?_
              refine xw_iload_n B dX0_perform_182 rfl ?_
              refine xw_bipush (v := nI 9) B dX0_perform_183 (by decide) ?_
              by_cases o9 : o = 9
              · obtain hz : z = (xa + 1, t, prn v (k, f)) := by
                  rcases E with e | e | e | e | e | e | e | e
                  · have := e.1; omega
                  · have := e.1; omega
                  · have := e.1; omega
                  · have := e.1; omega
                  · have := e.1; omega
                  · have := e.1; omega
                  · obtain ⟨_, v', t', e, e'⟩ := e
                    cases e
                    exact e'
                  · have := e.1; omega
                subst hz
                refine xw_icmp_ne (tgt := 201) B dX0_perform_185 (by decide) (fun q => absurd (by rw [zeq (by omega) (by omega)]; exact o9) q) (fun _ => ?_)
                refine xw_aload_n B dX0_perform_188 rfl ?_
                refine xw_aload_n B dX0_perform_189 rfl ?_
                refine xa_getA C 17 (by decide) rfl q59 dX0_perform_190 ?_
                refine xw_aload_n B dX0_perform_193 rfl ?_
                refine xa_getS C 18 (by decide) rfl q60 dX0_perform_194 (rfl) ?_
                refine xa_iald C 11 10 17 rfl rfl (by decide) dX0_perform_197 (t.length) (rfl) (by omega) (hv) ?_
                refine xa_callv C (lw_V q214 q216 qs21 q32 q217) hdX0_print (by decide) (by decide) rfl (Nat.le_of_ble_eq_true rfl) dX0_perform_198 (c_print (su σ 0 18 (nI t.length)) v k h19 hk) rfl (fun τ u => ?_)
                refine xw_iload_n B dX0_perform_201 rfl ?_
                refine xw_bipush (v := nI 10) B dX0_perform_202 (by decide) ?_
                refine xw_icmp_ne (tgt := 222) B dX0_perform_204 (by decide) (fun _ => ?_) (fun q => absurd q (by rw [zeq (by omega) (by omega)]; omega))
                obtain ⟨-, u⟩ := u
                subst u
                by_cases hk64 : k < 64
                · rw [if_pos hk64]
                  refine J222 _ _ _ rfl rfl ⟨⟨rfl, by simp only; omega, hR'.of (fun _ => rfl)⟩, rfl, fun j => ?_⟩ (((Fm.s18 σ _).tr (Fm.s20 _ _ _)).tr (Fm.s19 _ _))
                  simp only [prn]
                  rw [if_pos hk64]
                  simp only [su, upd]
                  by_cases hj : j = k
                  · simp [hj]
                  · simp [hj]
                    exact h20 j
                · rw [if_neg hk64]
                  refine J222 _ _ _ rfl rfl ⟨⟨rfl, by simp only; omega, hR'.of (fun _ => rfl)⟩, rfl, fun j => ?_⟩ ((Fm.s18 σ _).tr (Fm.s19 _ _))
                  simp only [prn]
                  rw [if_neg hk64]
                  exact h20 j
              · refine xw_icmp_ne (tgt := 201) B dX0_perform_185 (by decide) (fun _ => ?_) (fun q => absurd q (by rw [zeq (by omega) (by omega)]; exact o9))
                refine xw_iload_n B dX0_perform_201 rfl ?_
                refine xw_bipush (v := nI 10) B dX0_perform_202 (by decide) ?_
                by_cases o10 : o = 10
                · obtain hz : (v ≤ 0 ∧ ∃ a, n = nI a ∧ z = (a, t, k, f)) ∨ (¬ v ≤ 0 ∧ z = (xa + 1, t, k, f)) := by
                    rcases E with e | e | e | e | e | e | e | e
                    · have := e.1; omega
                    · have := e.1; omega
                    · have := e.1; omega
                    · have := e.1; omega
                    · have := e.1; omega
                    · have := e.1; omega
                    · have := e.1; omega
                    · obtain ⟨_, v', t', e, e'⟩ := e
                      cases e
                      exact e'
                  refine xw_icmp_ne (tgt := 222) B dX0_perform_204 (by decide) (fun q => absurd (by rw [zeq (by omega) (by omega)]; exact o10) q) (fun _ => ?_)
                  refine xw_aload_n B dX0_perform_207 rfl ?_
                  refine xa_getA C 17 (by decide) rfl q59 dX0_perform_208 ?_
                  refine xw_aload_n B dX0_perform_211 rfl ?_
                  refine xa_getS C 18 (by decide) rfl q60 dX0_perform_212 (rfl) ?_
                  refine xa_iald C 11 10 17 rfl rfl (by decide) dX0_perform_215 (t.length) (rfl) (by omega) (hv) ?_
                  rcases hz with ⟨hv0, a, hn, hz⟩ | ⟨hv0, hz⟩
                  · subst hz
                    subst hn
                    refine xw_if_gt (tgt := 222) B dX0_perform_216 (by decide) (fun q => absurd q (Int32.not_lt.mpr hv0)) (fun _ => ?_)
                    refine xw_iload_n B dX0_perform_219 rfl ?_
                    refine xw_istore B dX0_perform_220 (by decide) ?_
                    exact J222 _ _ _ rfl rfl ⟨⟨rfl, by simp only; omega, hR'⟩, h19, h20⟩ (Fm.s18 σ _)
                  · subst hz
                    refine xw_if_gt (tgt := 222) B dX0_perform_216 (by decide) (fun _ => ?_) (fun q => absurd (Int32.not_le.mp hv0) q)
                    exact J222 _ _ _ rfl rfl ⟨⟨rfl, by simp only; omega, hR'⟩, h19, h20⟩ (Fm.s18 σ _)
                · obtain hz : z = (xa + 1, t, k, f) := by
                    rcases E with e | e | e | e | e | e | e | e
                    · have := e.1; omega
                    · have := e.1; omega
                    · have := e.1; omega
                    · have := e.1; omega
                    · have := e.1; omega
                    · obtain ⟨_, v', t', e, e'⟩ := e
                      cases e
                      exact e'
                    · have := e.1; omega
                    · have := e.1; omega
                  subst hz
                  refine xw_icmp_ne (tgt := 222) B dX0_perform_204 (by decide) (fun _ => ?_) (fun q => absurd q (by rw [zeq (by omega) (by omega)]; exact o10))
                  exact J222 _ _ _ rfl rfl ⟨⟨rfl, by simp only; omega, hR'⟩, h19, h20⟩ (Fm.s18 σ _)
    have ho : o < 12 := by
      rcases E with e | e | e | e | e | e | e | e
      · have := e.2.1; omega
      all_goals (have := e.1; omega)
    by_cases hlo : 2 ≤ o
    · refine xw_iload_n B dX0_perform_19 rfl ?_
      refine xw_iconst (v := nI 2) B dX0_perform_20 (by decide) ?_
      refine xw_icmp_lt (tgt := 79) B dX0_perform_21 (by decide) (fun q => absurd q (by rw [zlt (by omega) (by omega)]; omega)) (fun _ => ?_)
      refine xw_iload_n B dX0_perform_24 rfl ?_
      refine xw_bipush (v := nI 6) B dX0_perform_25 (by decide) ?_
      refine xw_icmp_gt (tgt := 79) B dX0_perform_27 (by decide) (fun _ => ?_) (fun q => absurd (by rw [zlt (by omega) (by omega)]; omega) q)
      exact J79
    · refine xw_iload_n B dX0_perform_19 rfl ?_
      refine xw_iconst (v := nI 2) B dX0_perform_20 (by decide) ?_
      refine xw_icmp_lt (tgt := 79) B dX0_perform_21 (by decide) (fun _ => ?_) (fun q => absurd (by rw [zlt (by omega) (by omega)]; omega) q)
      exact J79
end
section
/-! StackScheduler.run and the small public methods -/
def Rn (c : List (Nat × Int32)) : Nat → Mx → Mx → Prop
  | 0, x, z => x = z
  | k + 1, x, z => ∃ (y : Mx) (o : Nat) (m : Int32), c[x.1]? = some (o, m) ∧ Exm o m x y ∧ Rn c k y z
theorem Exm.k {o : Nat} {n : Int32} {x y : Mx} (h : Exm o n x y) : y.2.2.1 ≤ x.2.2.1 + 1 := by
  rcases h with e | e | e | e | e | e | e | e
  · obtain ⟨_, _, p, q, t, _, e⟩ := e; rw [e]; exact Nat.le_succ _
  · rw [e.2.2]; exact Nat.le_succ _
  · obtain ⟨_, _, d, v, _, _, e⟩ := e; rw [e]; exact Nat.le_succ _
  · obtain ⟨_, d, v, _, _, e⟩ := e; rw [e]; exact Nat.le_succ _
  · obtain ⟨_, t, _, e⟩ := e; rw [e]; exact Nat.le_succ _
  · obtain ⟨_, v, t, _, e⟩ := e; rw [e]; exact Nat.le_succ _
  · obtain ⟨_, v, t, _, e⟩ := e; rw [e]; exact Nat.le_refl _
  · obtain ⟨_, v, t, _, e⟩ := e
    rcases e with ⟨_, a, _, e⟩ | ⟨_, e⟩
    · rw [e]; exact Nat.le_succ _
    · rw [e]; exact Nat.le_succ _
/-- the first i places of row a laid over row b -/
def cpr (σ : Sg) (a b i : Nat) : Sg := fun k j => if k = b ∧ j < i then σ a j else σ k j
theorem cpr_0 (σ : Sg) (a b : Nat) : cpr σ a b 0 = σ := by
  funext k j
  simp [cpr]
theorem cpr_s (σ : Sg) (a b i : Nat) : su (cpr σ a b i) b i (σ a i) = cpr σ a b (i + 1) := by
  funext k j
  simp only [su, cpr]
  by_cases hk : k = b
  · subst hk
    by_cases hj : j = i
    · subst hj; simp
    · by_cases hl : j < i
      · simp [hj, hl]; omega
      · simp [hj, hl]; omega
  · simp [hk]
theorem cpr_o (σ : Sg) {a b i k j : Nat} (h : k ≠ b) : cpr σ a b i k j = σ k j := by simp [cpr, h]
theorem cpr_i (σ : Sg) {a b i j : Nat} (h : j < i) : cpr σ a b i b j = σ a j := by simp [cpr, h]
/-- what run ends with: the compiler's end τ0, and over it the machine's and the variables' -/
def rnQ (PC : Sg → Prop) (w : Nat → Int32) (kz : Nat) (fz : Nat → Int32) : Option Int32 → Sg → Prop := fun r τ => r = some (nI kz) ∧ ∃ τ0, PC τ0 ∧ (∀ k j, k ≠ 0 → k ≠ 5 → k ≠ 17 → k ≠ 20 → τ k j = τ0 k j) ∧ (∀ j, j ≠ 18 → j ≠ 19 → τ 0 j = τ0 0 j) ∧ (∀ v, v < 6 → τ 5 v = w v) ∧ τ 0 19 = nI kz ∧ ∀ j, τ 20 j = fz j
theorem c_run_out (PC : Sg → Prop) (w : Nat → Int32) (kz : Nat) (fz : Nat → Int32) (τ0 σ : Sg) (hP : PC τ0) (F1 : ∀ k j, k ≠ 0 → k ≠ 5 → k ≠ 17 → k ≠ 20 → σ k j = τ0 k j) (F2 : ∀ j, j ≠ 18 → j ≠ 19 → σ 0 j = τ0 0 j) (hw : ∀ v, v < 6 → σ 17 v = w v) (h19 : σ 0 19 = nI kz) (h20 : ∀ j, σ 20 j = fz j) {X : CX} {D : va_G} {h : Nat → Nat} {d : Nat → ClassId} (C : CA X cX0_run 3 (some .int) 6 D h d (rnQ PC w kz fz)) :
    ∀ (f v : Nat), v + f = 6 → XW X (PA D h d (cpr σ 17 5 v)) 83 [(2, .int (nI v)), (0, .ref (h 0))] [] := by
  have B := C.1
  intro f
  induction f with
  | zero =>
    intro v hv
    have ev : v = 6 := by omega
    subst ev
    refine xw_iload_n B dX0_run_83 rfl ?_
    refine xw_bipush (v := nI 6) B dX0_run_84 (by decide) ?_
    refine xw_icmp_ge (tgt := 107) B dX0_run_86 (by decide) (fun _ => ?_) (fun q => absurd (by rw [zle (by omega) (by omega)]; omega) q)
    refine xw_aload_n B dX0_run_107 rfl ?_
    refine xa_getS C 19 (by decide) rfl q61 dX0_run_108 ((cpr_o σ (by decide)).trans h19) ?_
    exact xa_iret C rfl (rfl) dX0_run_111 (⟨rfl, τ0, hP, fun k j h1 h2 h3 h4 => (cpr_o σ h2).trans (F1 k j h1 h2 h3 h4), fun j h1 h2 => (cpr_o σ (by decide)).trans (F2 j h1 h2), fun v hv => (cpr_i σ hv).trans (hw v hv), (cpr_o σ (by decide)).trans h19, fun j => (cpr_o σ (by decide)).trans (h20 j)⟩)
  | succ f ih =>
    intro v hv
    refine xw_iload_n B dX0_run_83 rfl ?_
    refine xw_bipush (v := nI 6) B dX0_run_84 (by decide) ?_
    refine xw_icmp_ge (tgt := 107) B dX0_run_86 (by decide) (fun q => absurd q (by rw [zle (by omega) (by omega)]; omega)) (fun _ => ?_)
    refine xw_aload_n B dX0_run_89 rfl ?_
    refine xa_getA C 5 (by decide) rfl q47 dX0_run_90 ?_
    refine xw_iload_n B dX0_run_93 rfl ?_
    refine xw_aload_n B dX0_run_94 rfl ?_
    refine xa_getA C 17 (by decide) rfl q59 dX0_run_95 ?_
    refine xw_iload_n B dX0_run_98 rfl ?_
    refine xa_iald C 11 10 17 rfl rfl (by decide) dX0_run_99 (v) (rfl) (by omega) (cpr_o σ (by decide)) ?_
    refine xa_iast C 5 4 5 rfl rfl (xa_s5 h d _) (by decide) dX0_run_100 (v) (rfl) (by omega) ?_
    refine xw_iinc B dX0_run_101 rfl (zinc v) (by decide) ?_
    refine xw_goto (tgt := 83) B dX0_run_104 (by decide) ?_
    rw [cpr_s]
    refine xw_loc [(2, .int (nI (v + 1))), (0, .ref (h 0))] ⟨rfl, rfl, trivial⟩ ?_
    exact ih (v + 1) (by omega)
theorem c_run_mach (PC : Sg → Prop) (w : Nat → Int32) (kz : Nat) (fz : Nat → Int32) (c : List (Nat × Int32)) (τ0 : Sg) (hP : PC τ0) (Tc : Cod τ0 c) {X : CX} {D : va_G} {h : Nat → Nat} {d : Nat → ClassId} (C : CA X cX0_run 3 (some .int) 6 D h d (rnQ PC w kz fz)) :
    ∀ (n step : Nat) (x : Mx) (σ : Sg), Rn c n x (c.length, [w 5, w 4, w 3, w 2, w 1, w 0], kz, fz) → step + n ≤ 90000 → x.2.2.1 ≤ step → Mq σ x → Fm τ0 σ → XW X (PA D h d σ) 55 [(2, .int (nI step)), (1, .int (nI x.1)), (0, .ref (h 0))] [] := by
  have B := C.1
  have h560 := Tc.2.1
  intro n
  induction n with
  | zero =>
    intro step x σ R hs hk Q F
    simp only [Rn] at R
    subst R
    have h8 : σ 0 8 = nI c.length := (F.2 8 (by decide) (by decide)).trans Tc.1
    obtain ⟨⟨m1, m2, m3⟩, m4, m5⟩ := Q
    have J81 : XW X (PA D h d σ) 81 [(0, .ref (h 0))] [] := by
      refine xw_iconst (v := nI 0) B dX0_run_81 (by decide) ?_
      refine xw_istore_n (i := 2) B dX0_run_82 rfl (by decide) ?_
      refine xw_loc [(2, .int (nI 0)), (0, .ref (h 0))] ⟨rfl, rfl, trivial⟩ ?_
      have := c_run_out PC w kz fz τ0 σ hP (fun k j h1 h2 h3 h4 => F.1 k j h1 h3 h4) (fun j h1 h2 => F.2 j h1 h2) (fun v hv => ?_) m4 m5 C 6 0 (by omega)
      · rw [cpr_0] at this
        exact this
      · have e : v = 0 ∨ v = 1 ∨ v = 2 ∨ v = 3 ∨ v = 4 ∨ v = 5 := by omega
        rcases e with e | e | e | e | e | e <;> subst e
        · exact m3 5 (w 0) rfl
        · exact m3 4 (w 1) rfl
        · exact m3 3 (w 2) rfl
        · exact m3 2 (w 3) rfl
        · exact m3 1 (w 4) rfl
        · exact m3 0 (w 5) rfl
    by_cases hst : step < 90000
    · refine xw_iload_n B dX0_run_55 rfl ?_
      refine xw_ldc B C.2.2.1 (C.2.2.2.1 _ q201) dX0_run_56 ?_
      refine xw_icmp_ge (tgt := 81) B dX0_run_58 (by decide) (fun q => absurd q ((show ¬ nI 90000 ≤ nI step by rw [zle (by omega) (by omega)]; omega))) (fun _ => ?_)
      refine xw_iload_n B dX0_run_61 rfl ?_
      refine xw_aload_n B dX0_run_62 rfl ?_
      refine xa_getS C 8 (by decide) rfl q50 dX0_run_63 (h8) ?_
      refine xw_icmp_ge (tgt := 81) B dX0_run_66 (by decide) (fun _ => ?_) (fun q => absurd ((Int32.le_refl _)) q)
      exact xw_loc [(0, .ref (h 0))] ⟨rfl, trivial⟩ J81
    · refine xw_iload_n B dX0_run_55 rfl ?_
      refine xw_ldc B C.2.2.1 (C.2.2.2.1 _ q201) dX0_run_56 ?_
      refine xw_icmp_ge (tgt := 81) B dX0_run_58 (by decide) (fun _ => ?_) (fun q => absurd ((show nI 90000 ≤ nI step by rw [zle (by omega) (by omega)]; omega)) q)
      exact xw_loc [(0, .ref (h 0))] ⟨rfl, trivial⟩ J81
  | succ n ih =>
    intro step x σ R hs hk Q F
    obtain ⟨y, o, m, hc, E, R⟩ := R
    have hl := lt_of_q hc
    have h8 : σ 0 8 = nI c.length := (F.2 8 (by decide) (by decide)).trans Tc.1
    have hop := Tc.2.2 x.1 o m hc
    refine xw_iload_n B dX0_run_55 rfl ?_
    refine xw_ldc B C.2.2.1 (C.2.2.2.1 _ q201) dX0_run_56 ?_
    refine xw_icmp_ge (tgt := 81) B dX0_run_58 (by decide) (fun q => absurd q ((show ¬ nI 90000 ≤ nI step by rw [zle (by omega) (by omega)]; omega))) (fun _ => ?_)
    refine xw_iload_n B dX0_run_61 rfl ?_
    refine xw_aload_n B dX0_run_62 rfl ?_
    refine xa_getS C 8 (by decide) rfl q50 dX0_run_63 (h8) ?_
    refine xw_icmp_ge (tgt := 81) B dX0_run_66 (by decide) (fun q => absurd q (by rw [zle (by omega) (by omega)]; omega)) (fun _ => ?_)
    refine xw_aload_n B dX0_run_69 rfl ?_
    refine xw_iload_n B dX0_run_70 rfl ?_
    refine xa_calli C (lw_V q202 q204 qs18 q32 q205) hdX0_perform (by decide) (by decide) rfl (Nat.le_of_ble_eq_true rfl) dX0_run_71 (c_perform σ x.1 o m x y (by omega) ((F.1 9 _ (by decide) (by decide) (by decide)).trans hop.1) ((F.1 10 _ (by decide) (by decide) (by decide)).trans hop.2.1) Q rfl (by omega) E) rfl (fun r τ u => ?_)
    obtain ⟨u1, u2, u3⟩ := u
    cases u1
    refine xw_istore_n (i := 1) B dX0_run_74 rfl (by decide) ?_
    refine xw_iinc B dX0_run_75 rfl (zinc step) (by decide) ?_
    refine xw_goto (tgt := 55) B dX0_run_78 (by decide) ?_
    refine xw_loc [(2, .int (nI (step + 1))), (1, .int (nI y.1)), (0, .ref (h 0))] ⟨rfl, rfl, rfl, trivial⟩ ?_
    exact ih (step + 1) y τ R (by omega) (by have := E.k; omega) u2 (F.tr u3)
theorem c_run_in (PC : Sg → Prop) (w vars : Nat → Int32) (kz : Nat) (fz out : Nat → Int32) (c : List (Nat × Int32)) (τ0 : Sg) (hP : PC τ0) (Tc : Cod τ0 c) (hv : ∀ v, v < 6 → τ0 5 v = vars v) (ho : ∀ j, τ0 20 j = out j) (n : Nat) (hn : n ≤ 90000) (R : Rn c n (0, [vars 5, vars 4, vars 3, vars 2, vars 1, vars 0], 0, out) (c.length, [w 5, w 4, w 3, w 2, w 1, w 0], kz, fz)) {X : CX} {D : va_G} {h : Nat → Nat} {d : Nat → ClassId} (C : CA X cX0_run 3 (some .int) 6 D h d (rnQ PC w kz fz)) :
    ∀ (f v : Nat), v + f = 6 → XW X (PA D h d (cpr τ0 5 17 v)) 16 [(1, .int (nI v)), (0, .ref (h 0))] [] := by
  have B := C.1
  intro f
  induction f with
  | zero =>
    intro v hv6
    have ev : v = 6 := by omega
    subst ev
    refine xw_iload_n B dX0_run_16 rfl ?_
    refine xw_bipush (v := nI 6) B dX0_run_17 (by decide) ?_
    refine xw_icmp_ge (tgt := 40) B dX0_run_19 (by decide) (fun _ => ?_) (fun q => absurd (by rw [zle (by omega) (by omega)]; omega) q)
    refine xw_aload_n B dX0_run_40 rfl ?_
    refine xw_bipush (v := nI 6) B dX0_run_41 (by decide) ?_
    refine xa_put (ty := .int) C 18 (by decide) (xa_f18 h d _ _) q60 rfl (by decide +kernel) (rfl) (rfl) dX0_run_43 ?_
    refine xw_aload_n B dX0_run_46 rfl ?_
    refine xw_iconst (v := nI 0) B dX0_run_47 (by decide) ?_
    refine xa_put (ty := .int) C 19 (by decide) (xa_f19 h d _ _) q61 rfl (by decide +kernel) (rfl) (rfl) dX0_run_48 ?_
    refine xw_iconst (v := nI 0) B dX0_run_51 (by decide) ?_
    refine xw_istore_n (i := 1) B dX0_run_52 rfl (by decide) ?_
    refine xw_iconst (v := nI 0) B dX0_run_53 (by decide) ?_
    refine xw_istore_n (i := 2) B dX0_run_54 rfl (by decide) ?_
    refine xw_loc [(2, .int (nI 0)), (1, .int (nI 0)), (0, .ref (h 0))] ⟨rfl, rfl, rfl, trivial⟩ ?_
    refine c_run_mach PC w kz fz c τ0 hP Tc C n 0 _ _ R (by omega) (Nat.le_refl _) ⟨⟨rfl, by simp, ?_⟩, rfl, fun j => ?_⟩ ⟨fun k j h1 h2 h3 => ?_, fun j h1 h2 => ?_⟩
    · have key : ∀ u, u < 6 → su (su (cpr τ0 5 17 6) 0 18 (nI 6)) 0 19 (nI 0) 17 u = vars u := fun u hu => (cpr_i τ0 hu).trans (hv u hu)
      intro j x hj
      have hl := lt_of_q hj
      simp only [List.length_cons, List.length_nil] at hl
      have e : j = 0 ∨ j = 1 ∨ j = 2 ∨ j = 3 ∨ j = 4 ∨ j = 5 := by omega
      rcases e with e | e | e | e | e | e <;> subst e <;> simp at hj <;> subst hj
      · exact key 5 (by decide)
      · exact key 4 (by decide)
      · exact key 3 (by decide)
      · exact key 2 (by decide)
      · exact key 1 (by decide)
      · exact key 0 (by decide)
    · exact (cpr_o (a := 5) (b := 17) (i := 6) τ0 (by decide)).trans (ho j)
    · simp [su, cpr, h1, h2]
    · simp [su, cpr, h1, h2]
  | succ f ih =>
    intro v hv6
    refine xw_iload_n B dX0_run_16 rfl ?_
    refine xw_bipush (v := nI 6) B dX0_run_17 (by decide) ?_
    refine xw_icmp_ge (tgt := 40) B dX0_run_19 (by decide) (fun q => absurd q (by rw [zle (by omega) (by omega)]; omega)) (fun _ => ?_)
    refine xw_aload_n B dX0_run_22 rfl ?_
    refine xa_getA C 17 (by decide) rfl q59 dX0_run_23 ?_
    refine xw_iload_n B dX0_run_26 rfl ?_
    refine xw_aload_n B dX0_run_27 rfl ?_
    refine xa_getA C 5 (by decide) rfl q47 dX0_run_28 ?_
    refine xw_iload_n B dX0_run_31 rfl ?_
    refine xa_iald C 5 4 5 rfl rfl (by decide) dX0_run_32 (v) (rfl) (by omega) (cpr_o τ0 (by decide)) ?_
    refine xa_iast C 11 10 17 rfl rfl (xa_s17 h d _) (by decide) dX0_run_33 (v) (rfl) (by omega) ?_
    refine xw_iinc B dX0_run_34 rfl (zinc v) (by decide) ?_
    refine xw_goto (tgt := 16) B dX0_run_37 (by decide) ?_
    rw [cpr_s]
    refine xw_loc [(1, .int (nI (v + 1))), (0, .ref (h 0))] ⟨rfl, rfl, trivial⟩ ?_
    exact ih (v + 1) (by omega)
/-- run of a sound program -/
theorem c_run (σ : Sg) (PC : Sg → Prop) (Mc : XA 5 yX0_compile cX0_compile 2 none [] σ (fun _ τ => PC τ)) (w vars : Nat → Int32) (kz : Nat) (fz out : Nat → Int32) (c : List (Nat × Int32)) (h7 : ∀ τ, PC τ → τ 0 7 = 1) (Tc : ∀ τ, PC τ → Cod τ c) (hv : ∀ τ, PC τ → ∀ v, v < 6 → τ 5 v = vars v) (ho : ∀ τ, PC τ → ∀ j, τ 20 j = out j) (n : Nat) (hn : n ≤ 90000) (R : Rn c n (0, [vars 5, vars 4, vars 3, vars 2, vars 1, vars 0], 0, out) (c.length, [w 5, w 4, w 3, w 2, w 1, w 0], kz, fz)) : XA 6 yX0_run cX0_run 3 (some .int) [] σ (rnQ PC w kz fz) := by
  refine xa_ofI [] (by decide) rfl (Nat.le_of_ble_eq_true rfl) (fun X D h d C => ?_)
  have B := C.1
  show XW X _ 0 [(0, .ref (h 0))] []
  refine xw_aload_n B dX0_run_0 rfl ?_
  refine xa_callv C (lw_V q121 q123 qs0 q32 q124) hdX0_compile (by decide) (by decide) rfl (Nat.le_of_ble_eq_true rfl) dX0_run_1 (Mc) rfl (fun τ u => ?_)
  refine xw_aload_n B dX0_run_4 rfl ?_
  refine xa_getS C 7 (by decide) rfl q49 dX0_run_5 (h7 τ u) ?_
  refine xw_if_ne (tgt := 14) B dX0_run_8 (by decide) (fun _ => ?_) (fun q => absurd q (by decide))
  refine xw_iconst (v := nI 0) B dX0_run_14 (by decide) ?_
  refine xw_istore_n (i := 1) B dX0_run_15 rfl (by decide) ?_
  refine xw_loc [(1, .int (nI 0)), (0, .ref (h 0))] ⟨rfl, rfl, trivial⟩ ?_
  have := c_run_in PC w vars kz fz out c τ u (Tc τ u) (hv τ u) (ho τ u) n hn R C 6 0 (by omega)
  rw [cpr_0] at this
  exact this
/-- run of an unsound one -/
theorem c_run_no (σ : Sg) (PC : Sg → Prop) (Mc : XA 5 yX0_compile cX0_compile 2 none [] σ (fun _ τ => PC τ)) (h7 : ∀ τ, PC τ → τ 0 7 = 0) : XA 6 yX0_run cX0_run 3 (some .int) [] σ (fun r τ => r = some (-3) ∧ PC τ) := by
  refine xa_ofI [] (by decide) rfl (Nat.le_of_ble_eq_true rfl) (fun X D h d C => ?_)
  have B := C.1
  show XW X _ 0 [(0, .ref (h 0))] []
  refine xw_aload_n B dX0_run_0 rfl ?_
  refine xa_callv C (lw_V q121 q123 qs0 q32 q124) hdX0_compile (by decide) (by decide) rfl (Nat.le_of_ble_eq_true rfl) dX0_run_1 (Mc) rfl (fun τ u => ?_)
  refine xw_aload_n B dX0_run_4 rfl ?_
  refine xa_getS C 7 (by decide) rfl q49 dX0_run_5 (h7 τ u) ?_
  refine xw_if_ne (tgt := 14) B dX0_run_8 (by decide) (fun q => absurd (rfl) q) (fun _ => ?_)
  refine xw_bipush (v := (-3)) B dX0_run_11 (by decide) ?_
  exact xa_iret C rfl (rfl) dX0_run_13 (⟨rfl, u⟩)
theorem c_sound (σ : Sg) (PC : Sg → Prop) (b : Bool) (Mc : XA 5 yX0_compile cX0_compile 2 none [] σ (fun _ τ => PC τ)) (h7 : ∀ τ, PC τ → τ 0 7 = bI b) : XA 6 yX0_sound cX0_sound 1 (some .boolean) [] σ (fun r τ => r = some (bI b) ∧ PC τ) := by
  refine xa_ofI [] (by decide) rfl (Nat.le_of_ble_eq_true rfl) (fun X D h d C => ?_)
  have B := C.1
  show XW X _ 0 [(0, .ref (h 0))] []
  refine xw_aload_n B dX0_sound_0 rfl ?_
  refine xa_callv C (lw_V q121 q123 qs0 q32 q124) hdX0_compile (by decide) (by decide) rfl (Nat.le_of_ble_eq_true rfl) dX0_sound_1 (Mc) rfl (fun τ u => ?_)
  refine xw_aload_n B dX0_sound_4 rfl ?_
  refine xa_getS C 7 (by decide) rfl q49 dX0_sound_5 (h7 τ u) ?_
  exact xa_iret C rfl (bI_nar b) dX0_sound_8 (⟨rfl, u⟩)
theorem c_printed (σ : Sg) : XA 0 yX0_printed cX0_printed 1 (some .int) [] σ (fun r τ => τ = σ ∧ r = some (σ 0 19)) := by
  refine xa_ofI [] (by decide) rfl (Nat.le_of_ble_eq_true rfl) (fun X D h d C => ?_)
  have B := C.1
  show XW X _ 0 [(0, .ref (h 0))] []
  refine xw_aload_n B dX0_printed_0 rfl ?_
  refine xa_getS C 19 (by decide) rfl q61 dX0_printed_1 (rfl) ?_
  exact xa_iret C rfl (rfl) dX0_printed_4 (⟨rfl, rfl⟩)
theorem c_variable (σ : Sg) (v : Int32) : XA 0 yX0_variable cX0_variable 2 (some .int) [.int v] σ (fun r τ => τ = σ ∧ (∀ j, j ≤ 5 → v = nI j → r = some (σ 5 j)) ∧ ((∀ j, j ≤ 5 → v ≠ nI j) → r = some 0)) := by
  refine xa_ofI [v] (by decide) rfl (Nat.le_of_ble_eq_true rfl) (fun X D h d C => ?_)
  have B := C.1
  show XW X _ 0 [(0, .ref (h 0)), (1, .int (v))] []
  refine xw_iload_n B dX0_variable_0 rfl ?_
  refine xw_if_lt (tgt := 9) B dX0_variable_1 (by decide) (fun c1 => ?_) (fun c1 => ?_)
  · refine xw_iconst (v := nI 0) B dX0_variable_9 (by decide) ?_
    refine xw_goto (tgt := 19) B dX0_variable_10 (by decide) ?_
    exact xa_iret C rfl (rfl) dX0_variable_19 (⟨rfl, fun j hj e => absurd c1 (by rw [e]; exact z0nl (by omega)), fun _ => rfl⟩)
  · refine xw_iload_n B dX0_variable_4 rfl ?_
    refine xw_iconst (v := nI 5) B dX0_variable_5 (by decide) ?_
    refine xw_icmp_le (tgt := 13) B dX0_variable_6 (by decide) (fun c2 => ?_) (fun c2 => ?_)
    · obtain ⟨j, hj, e⟩ := nI_of2 (M := nI 5) (n := 5) (by decide) c1 c2
      subst e
      refine xw_aload_n B dX0_variable_13 rfl ?_
      refine xa_getA C 5 (by decide) rfl q47 dX0_variable_14 ?_
      refine xw_iload_n B dX0_variable_17 rfl ?_
      refine xa_iald C 5 4 5 rfl rfl (by decide) dX0_variable_18 (j) (rfl) (by omega) (rfl) ?_
      exact xa_iret C rfl (rfl) dX0_variable_19 (⟨rfl, fun j' hj' e => by rw [zeq (by omega) (by omega)] at e; rw [e], fun e => absurd rfl (e j hj)⟩)
    · refine xw_iconst (v := nI 0) B dX0_variable_9 (by decide) ?_
      refine xw_goto (tgt := 19) B dX0_variable_10 (by decide) ?_
      exact xa_iret C rfl (rfl) dX0_variable_19 (⟨rfl, fun j hj e => absurd (by rw [e, zle (by omega) (by omega)]; exact hj) c2, fun _ => rfl⟩)
theorem c_put (σ : Sg) (v u : Int32) : XA 0 yX0_put cX0_put 3 (some .boolean) [.int v, .int u] σ (fun r τ => (∀ j, j ≤ 5 → v = nI j → r = some 1 ∧ τ = su σ 5 j u) ∧ ((∀ j, j ≤ 5 → v ≠ nI j) → r = some 0 ∧ τ = σ)) := by
  refine xa_ofI [v, u] (by decide) rfl (Nat.le_of_ble_eq_true rfl) (fun X D h d C => ?_)
  have B := C.1
  show XW X _ 0 [(0, .ref (h 0)), (1, .int (v)), (2, .int (u))] []
  refine xw_iload_n B dX0_put_0 rfl ?_
  refine xw_if_lt (tgt := 9) B dX0_put_1 (by decide) (fun c1 => ?_) (fun c1 => ?_)
  · refine xw_iconst (v := nI 0) B dX0_put_9 (by decide) ?_
    exact xa_iret C rfl (rfl) dX0_put_10 (⟨fun j hj e => absurd c1 (by rw [e]; exact z0nl (by omega)), fun _ => ⟨rfl, rfl⟩⟩)
  · refine xw_iload_n B dX0_put_4 rfl ?_
    refine xw_iconst (v := nI 5) B dX0_put_5 (by decide) ?_
    refine xw_icmp_le (tgt := 11) B dX0_put_6 (by decide) (fun c2 => ?_) (fun c2 => ?_)
    · obtain ⟨j, hj, e⟩ := nI_of2 (M := nI 5) (n := 5) (by decide) c1 c2
      subst e
      refine xw_aload_n B dX0_put_11 rfl ?_
      refine xa_getA C 5 (by decide) rfl q47 dX0_put_12 ?_
      refine xw_iload_n B dX0_put_15 rfl ?_
      refine xw_iload_n B dX0_put_16 rfl ?_
      refine xa_iast C 5 4 5 rfl rfl (xa_s5 h d _) (by decide) dX0_put_17 (j) (rfl) (by omega) ?_
      refine xw_iconst (v := nI 1) B dX0_put_18 (by decide) ?_
      exact xa_iret C rfl (rfl) dX0_put_19 (⟨fun j' hj' e => by rw [zeq (by omega) (by omega)] at e; rw [e]; exact ⟨rfl, rfl⟩, fun e => absurd rfl (e j hj)⟩)
    · refine xw_iconst (v := nI 0) B dX0_put_9 (by decide) ?_
      exact xa_iret C rfl (rfl) dX0_put_10 (⟨fun j hj e => absurd (by rw [e, zle (by omega) (by omega)]; exact hj) c2, fun _ => ⟨rfl, rfl⟩⟩)
theorem c_output (σ : Sg) (v : Int32) (k : Nat) (hk : k < 2 ^ 30) (h19 : σ 0 19 = nI k) : XA 0 yX0_output cX0_output 2 (some .int) [.int v] σ (fun r τ => τ = σ ∧ (∀ j, j < k → j < 64 → v = nI j → r = some (σ 20 j)) ∧ ((∀ j, j < k → j < 64 → v ≠ nI j) → r = some 0)) := by
  refine xa_ofI [v] (by decide) rfl (Nat.le_of_ble_eq_true rfl) (fun X D h d C => ?_)
  have B := C.1
  show XW X _ 0 [(0, .ref (h 0)), (1, .int (v))] []
  have J18 : (∀ j, j < k → j < 64 → v ≠ nI j) → XW X (PA D h d σ) 18 [(0, .ref (h 0)), (1, .int v)] [] := by
    intro hn
    refine xw_iconst (v := nI 0) B dX0_output_18 (by decide) ?_
    exact xa_iret C rfl (rfl) dX0_output_19 (⟨rfl, fun j h1 h2 e => absurd e (hn j h1 h2), fun _ => rfl⟩)
  refine xw_iload_n B dX0_output_0 rfl ?_
  refine xw_if_lt (tgt := 18) B dX0_output_1 (by decide) (fun c1 => ?_) (fun c1 => ?_)
  · exact J18 (fun j h1 h2 e => absurd c1 (by rw [e]; exact z0nl (by omega)))
  · refine xw_iload_n B dX0_output_4 rfl ?_
    refine xw_aload_n B dX0_output_5 rfl ?_
    refine xa_getS C 19 (by decide) rfl q61 dX0_output_6 (h19) ?_
    refine xw_icmp_ge (tgt := 18) B dX0_output_9 (by decide) (fun c2 => ?_) (fun c2 => ?_)
    · exact J18 (fun j h1 h2 e => by rw [e, zle (by omega) (by omega)] at c2; omega)
    · refine xw_iload_n B dX0_output_12 rfl ?_
      refine xw_bipush (v := nI 64) B dX0_output_13 (by decide) ?_
      refine xw_icmp_lt (tgt := 20) B dX0_output_15 (by decide) (fun c3 => ?_) (fun c3 => ?_)
      · obtain ⟨j, hj, e⟩ := nI_of c1
        subst e
        rw [zle (by omega) (by omega)] at c2
        rw [zlt (by omega) (by omega)] at c3
        refine xw_aload_n B dX0_output_20 rfl ?_
        refine xa_getA C 20 (by decide) rfl q62 dX0_output_21 ?_
        refine xw_iload_n B dX0_output_24 rfl ?_
        refine xa_iald C 12 11 20 rfl rfl (by decide) dX0_output_25 (j) (rfl) (by omega) (rfl) ?_
        exact xa_iret C rfl (rfl) dX0_output_26 (⟨rfl, fun j' h1 h2 e => by rw [zeq (by omega) (by omega)] at e; rw [e], fun e => absurd rfl (e j (by omega) c3)⟩)
      · exact J18 (fun j h1 h2 e => by rw [e, zlt (by omega) (by omega)] at c3; omega)
theorem c_retract (σ : Sg) (n : Nat) (hn : n ≤ 40) (h0 : σ 0 0 = nI n) : XA 0 yX0_retract cX0_retract 1 (some .int) [] σ (fun r τ => (n = 0 → r = some (-1) ∧ τ = σ) ∧ (n ≠ 0 → r = some (nI (n - 1)) ∧ τ = su (su σ 0 0 (nI (n - 1))) 0 6 0)) := by
  refine xa_ofI [] (by decide) rfl (Nat.le_of_ble_eq_true rfl) (fun X D h d C => ?_)
  have B := C.1
  show XW X _ 0 [(0, .ref (h 0))] []
  refine xw_aload_n B dX0_retract_0 rfl ?_
  refine xa_getS C 0 (by decide) rfl q42 dX0_retract_1 (h0) ?_
  refine xw_if_ne (tgt := 9) B dX0_retract_4 (by decide) (fun c1 => ?_) (fun c1 => ?_)
  · rw [z0eq (by omega)] at c1
    refine xw_aload_n B dX0_retract_9 rfl ?_
    refine xw_dup B dX0_retract_10 rfl ?_
    refine xa_getS C 0 (by decide) rfl q42 dX0_retract_11 (h0) ?_
    refine xw_iconst (v := nI 1) B dX0_retract_14 (by decide) ?_
    refine xw_isub B dX0_retract_15 (zsub (by omega)) ?_
    refine xa_put (ty := .int) C 0 (by decide) (xa_f0 h d _ _) q42 rfl (by decide +kernel) (rfl) (rfl) dX0_retract_16 ?_
    refine xw_aload_n B dX0_retract_19 rfl ?_
    refine xw_iconst (v := nI 0) B dX0_retract_20 (by decide) ?_
    refine xa_put (ty := .boolean) C 6 (by decide) (xa_f6 h d _ _) q48 rfl (by decide +kernel) (rfl) (rfl) dX0_retract_21 ?_
    refine xw_aload_n B dX0_retract_24 rfl ?_
    refine xa_getS C 0 (by decide) rfl q42 dX0_retract_25 (rfl) ?_
    exact xa_iret C rfl (rfl) dX0_retract_28 (⟨fun e => absurd e c1, fun _ => ⟨rfl, rfl⟩⟩)
  · rw [z0eq (by omega)] at c1
    refine xw_iconst (v := (-1)) B dX0_retract_7 (by decide) ?_
    exact xa_iret C rfl (rfl) dX0_retract_8 (⟨fun _ => ⟨rfl, rfl⟩, fun e => absurd c1 e⟩)
/-- a row's first places set to 0 -/
def zr (σ : Sg) (b i : Nat) : Sg := fun k j => if k = b ∧ j < i then 0 else σ k j
theorem zr_0 (σ : Sg) (b : Nat) : zr σ b 0 = σ := by
  funext k j
  simp [zr]
theorem zr_s (σ : Sg) (b i : Nat) : su (zr σ b i) b i (nI 0) = zr σ b (i + 1) := by
  funext k j
  rw [show nI 0 = 0 from rfl]
  simp only [su, zr]
  by_cases hk : k = b
  · subst hk
    by_cases hj : j = i
    · subst hj; simp
    · by_cases hl : j < i
      · simp [hj, hl]; omega
      · simp [hj, hl]; omega
  · simp [hk]
theorem c_clear_loop (σ : Sg) {X : CX} {D : va_G} {h : Nat → Nat} {d : Nat → ClassId} {lv : Nat} (C : CA X cX0_clear 2 none lv D h d (fun r τ => r = none ∧ τ = zr σ 5 6)) :
    ∀ (f v : Nat), v + f = 6 → XW X (PA D h d (zr σ 5 v)) 17 [(1, .int (nI v)), (0, .ref (h 0))] [] := by
  have B := C.1
  intro f
  induction f with
  | zero =>
    intro v hv
    have ev : v = 6 := by omega
    subst ev
    refine xw_iload_n B dX0_clear_17 rfl ?_
    refine xw_bipush (v := nI 6) B dX0_clear_18 (by decide) ?_
    refine xw_icmp_ge (tgt := 36) B dX0_clear_20 (by decide) (fun _ => ?_) (fun q => absurd (by rw [zle (by omega) (by omega)]; omega) q)
    exact xa_vret C rfl dX0_clear_36 (⟨rfl, rfl⟩)
  | succ f ih =>
    intro v hv
    refine xw_iload_n B dX0_clear_17 rfl ?_
    refine xw_bipush (v := nI 6) B dX0_clear_18 (by decide) ?_
    refine xw_icmp_ge (tgt := 36) B dX0_clear_20 (by decide) (fun q => absurd q (by rw [zle (by omega) (by omega)]; omega)) (fun _ => ?_)
    refine xw_aload_n B dX0_clear_23 rfl ?_
    refine xa_getA C 5 (by decide) rfl q47 dX0_clear_24 ?_
    refine xw_iload_n B dX0_clear_27 rfl ?_
    refine xw_iconst (v := nI 0) B dX0_clear_28 (by decide) ?_
    refine xa_iast C 5 4 5 rfl rfl (xa_s5 h d _) (by decide) dX0_clear_29 (v) (rfl) (by omega) ?_
    refine xw_iinc B dX0_clear_30 rfl (zinc v) (by decide) ?_
    refine xw_goto (tgt := 17) B dX0_clear_33 (by decide) ?_
    rw [zr_s]
    refine xw_loc [(1, .int (nI (v + 1))), (0, .ref (h 0))] ⟨rfl, rfl, trivial⟩ ?_
    exact ih (v + 1) (by omega)
theorem c_clear (σ : Sg) : XA 0 yX0_clear cX0_clear 2 none [] σ (fun r τ => r = none ∧ τ = zr (su (su (su σ 0 0 0) 0 19 0) 0 6 0) 5 6) := by
  refine xa_ofI [] (by decide) rfl (Nat.le_of_ble_eq_true rfl) (fun X D h d C => ?_)
  have B := C.1
  show XW X _ 0 [(0, .ref (h 0))] []
  refine xw_aload_n B dX0_clear_0 rfl ?_
  refine xw_iconst (v := nI 0) B dX0_clear_1 (by decide) ?_
  refine xa_put (ty := .int) C 0 (by decide) (xa_f0 h d _ _) q42 rfl (by decide +kernel) (rfl) (rfl) dX0_clear_2 ?_
  refine xw_aload_n B dX0_clear_5 rfl ?_
  refine xw_iconst (v := nI 0) B dX0_clear_6 (by decide) ?_
  refine xa_put (ty := .int) C 19 (by decide) (xa_f19 h d _ _) q61 rfl (by decide +kernel) (rfl) (rfl) dX0_clear_7 ?_
  refine xw_aload_n B dX0_clear_10 rfl ?_
  refine xw_iconst (v := nI 0) B dX0_clear_11 (by decide) ?_
  refine xa_put (ty := .boolean) C 6 (by decide) (xa_f6 h d _ _) q48 rfl (by decide +kernel) (rfl) (rfl) dX0_clear_12 ?_
  refine xw_iconst (v := nI 0) B dX0_clear_15 (by decide) ?_
  refine xw_istore_n (i := 1) B dX0_clear_16 rfl (by decide) ?_
  refine xw_loc [(1, .int (nI 0)), (0, .ref (h 0))] ⟨rfl, rfl, trivial⟩ ?_
  have := c_clear_loop _ C 6 0 (by omega)
  rw [zr_0] at this
  exact this
end
section
/-! adding a statement -/
def vld (k a b c : Int32) : Prop := ∃ kk, kk ≤ 11 ∧ k = nI kk ∧ (kk ≠ 9 → kk ≠ 11 → ∃ aa, aa ≤ 5 ∧ a = nI aa) ∧ (1 ≤ kk → kk ≤ 6 → ∃ bb, bb ≤ 5 ∧ b = nI bb) ∧ (2 ≤ kk → kk ≤ 6 → ∃ cc, cc ≤ 5 ∧ c = nI cc)
def upN {α : Type} (f : Nat → α) (n : Nat) (v : α) : Nat → α := fun i => if i = n then v else f i
theorem upN_eq {α : Type} {f : Nat → α} {n : Nat} {v : α} : upN f n v n = v := by simp [upN]
theorem upN_ne {α : Type} {f : Nat → α} {n i : Nat} {v : α} (h : i ≠ n) : upN f n v i = f i := by simp [upN, h]
def ext (g : Pg) (k a b c : Int32) : Pg := (pN g + 1, upN (pK g) (pN g) k.toNatClampNeg, upN (pA g) (pN g) a.toNatClampNeg, upN (pB g) (pN g) b.toNatClampNeg, upN (pC g) (pN g) c.toNatClampNeg, upN (pI g) (pN g) b)
theorem ext_N (g : Pg) (k a b c : Int32) : pN (ext g k a b c) = pN g + 1 := rfl
theorem ext_o {g : Pg} {k a b c : Int32} {i : Nat} (h : i < pN g) : pK (ext g k a b c) i = pK g i ∧ pA (ext g k a b c) i = pA g i ∧ pB (ext g k a b c) i = pB g i ∧ pC (ext g k a b c) i = pC g i ∧ pI (ext g k a b c) i = pI g i := ⟨upN_ne (by omega), upN_ne (by omega), upN_ne (by omega), upN_ne (by omega), upN_ne (by omega)⟩
theorem ext_n (g : Pg) (k a b c : Int32) : pK (ext g k a b c) (pN g) = k.toNatClampNeg ∧ pA (ext g k a b c) (pN g) = a.toNatClampNeg ∧ pB (ext g k a b c) (pN g) = b.toNatClampNeg ∧ pC (ext g k a b c) (pN g) = c.toNatClampNeg ∧ pI (ext g k a b c) (pN g) = b := ⟨upN_eq, upN_eq, upN_eq, upN_eq, upN_eq⟩
theorem ext_ok {g : Pg} (H : Pok g) (hn : pN g < 40) {k a b c : Int32} (V : vld k a b c) : Pok (ext g k a b c) := by
  obtain ⟨kk, hk, e, va, vb, vc⟩ := V
  refine ⟨by rw [ext_N]; omega, fun i hi => ?_⟩
  rw [ext_N] at hi
  by_cases q : i < pN g
  · obtain ⟨e1, e2, e3, e4, e5⟩ := ext_o (k := k) (a := a) (b := b) (c := c) q
    rw [e1, e2, e3, e4]
    exact H.2 i q
  · have ei : i = pN g := by omega
    subst ei
    obtain ⟨e1, e2, e3, e4, e5⟩ := ext_n g k a b c
    rw [e1, e2, e3, e4, e, nI_clamp (by omega)]
    refine ⟨hk, fun h1 h2 => ?_, fun h1 h2 => ?_, fun h1 h2 => ?_⟩
    · obtain ⟨aa, h3, h4⟩ := va h1 h2
      rw [h4, nI_clamp (by omega)]
      exact h3
    · obtain ⟨aa, h3, h4⟩ := vb h1 h2
      rw [h4, nI_clamp (by omega)]
      exact h3
    · obtain ⟨aa, h3, h4⟩ := vc h1 h2
      rw [h4, nI_clamp (by omega)]
      exact h3
theorem Sx.ext {σ τ : Sg} {g : Pg} (S : Sx σ g) (hn : pN g < 40) {k a b c : Int32} (V : vld k a b c) (h0 : τ 0 0 = nI (pN g + 1)) (ho : ∀ r j, 1 ≤ r → r ≤ 4 → j ≠ pN g → τ r j = σ r j) (h1 : τ 1 (pN g) = k) (h2 : τ 2 (pN g) = if k = 0 then b else a) (h3 : τ 3 (pN g) = (if k = 0 then a else b).toInt8.toInt32) (h4 : τ 4 (pN g) = c.toInt8.toInt32) : Sx τ (ext g k a b c) := by
  refine ⟨ext_ok S.1 hn V, h0, fun i hi => ?_⟩
  rw [ext_N] at hi
  by_cases q : i < pN g
  · obtain ⟨e1, e2, e3, e4, e5⟩ := ext_o (k := k) (a := a) (b := b) (c := c) q
    rw [e1, e2, e3, e4, e5, ho 1 i (by decide) (by decide) (by omega), ho 2 i (by decide) (by decide) (by omega), ho 3 i (by decide) (by decide) (by omega), ho 4 i (by decide) (by decide) (by omega)]
    exact S.2.2 i q
  · have ei : i = pN g := by omega
    subst ei
    obtain ⟨e1, e2, e3, e4, e5⟩ := ext_n g k a b c
    obtain ⟨kk, hk, e, va, vb, vc⟩ := V
    rw [e1, e2, e3, e4, e5, h1, h2, h3, h4]
    subst e
    rw [nI_clamp (by omega)]
    have hz : nI kk = 0 ↔ kk = 0 := z0eq (by omega)
    refine ⟨rfl, fun z => ?_, fun z1 z2 z3 => ?_, fun z1 z2 => ?_, fun z1 z2 => ?_⟩
    · obtain ⟨aa, q1, q2⟩ := va (by omega) (by omega)
      rw [if_pos (hz.mpr z), if_pos (hz.mpr z), q2, nI_clamp (by omega)]
      exact ⟨rfl, z8 aa (by omega)⟩
    · obtain ⟨aa, q1, q2⟩ := va z2 z3
      rw [if_neg (fun y => z1 (hz.mp y)), q2, nI_clamp (by omega)]
    · obtain ⟨aa, q1, q2⟩ := vb z1 z2
      rw [if_neg (fun y => by have := hz.mp y; omega), q2, nI_clamp (by omega)]
      exact z8 aa (by omega)
    · obtain ⟨aa, q1, q2⟩ := vc z1 z2
      rw [q2, nI_clamp (by omega)]
      exact z8 aa (by omega)
def Fa (σ τ : Sg) : Prop := (∀ k j, 5 ≤ k → τ k j = σ k j) ∧ ∀ j, j ≠ 0 → j ≠ 6 → τ 0 j = σ 0 j
theorem c_add (σ : Sg) (g : Pg) (S : Sx σ g) (k a b c : Int32) : XA 0 yX0_add cX0_add 5 (some .int) [.int k, .int a, .int b, .int c] σ (fun r τ => (pN g = 40 → r = some (-2) ∧ τ = σ) ∧ (pN g < 40 → ¬ vld k a b c → r = some (-1) ∧ τ = σ) ∧ (pN g < 40 → vld k a b c → r = some (nI (pN g + 1)) ∧ Sx τ (ext g k a b c) ∧ τ 0 6 = 0 ∧ Fa σ τ)) := by
  have hn : pN g ≤ 40 := S.1.1
  have h0 := S.2.1
  refine xa_ofI [k, a, b, c] (by decide) rfl (Nat.le_of_ble_eq_true rfl) (fun X D h d C => ?_)
  have B := C.1
  show XW X _ 0 [(0, .ref (h 0)), (1, .int (k)), (2, .int (a)), (3, .int (b)), (4, .int (c))] []
  have no : pN g < 40 → ¬ vld k a b c → ∀ r : Option Int32, r = some (-1) → ((pN g = 40 → r = some (-2) ∧ σ = σ) ∧ (pN g < 40 → ¬ vld k a b c → r = some (-1) ∧ σ = σ) ∧ (pN g < 40 → vld k a b c → r = some (nI (pN g + 1)) ∧ Sx σ (ext g k a b c) ∧ σ 0 6 = 0 ∧ Fa σ σ)) := fun q1 q2 r hr => ⟨fun e => by omega, fun _ _ => ⟨hr, rfl⟩, fun _ v => absurd v q2⟩
  refine xw_aload_n B dX0_add_0 rfl ?_
  refine xa_getS C 0 (by decide) rfl q42 dX0_add_1 (h0) ?_
  refine xw_bipush (v := nI 40) B dX0_add_4 (by decide) ?_
  refine xw_icmp_lt (tgt := 12) B dX0_add_6 (by decide) (fun b1 => ?_) (fun b1 => ?_)
  · rw [zlt (by omega) (by omega)] at b1
    refine xw_iload_n B dX0_add_12 rfl ?_
    refine xw_if_lt (tgt := 22) B dX0_add_13 (by decide) (fun b2 => ?_) (fun b2 => ?_)
    · refine xw_iconst (v := (-1)) B dX0_add_22 (by decide) ?_
      refine xa_iret C rfl rfl dX0_add_23 (no b1 (fun V => ?_) _ rfl)
      obtain ⟨kk, hk, e, -⟩ := V
      rw [e] at b2
      exact z0nl (by omega) b2
    · refine xw_iload_n B dX0_add_16 rfl ?_
      refine xw_bipush (v := nI 11) B dX0_add_17 (by decide) ?_
      refine xw_icmp_le (tgt := 24) B dX0_add_19 (by decide) (fun b3 => ?_) (fun b3 => ?_)
      · obtain ⟨kk, hk, e⟩ := nI_of2 (M := nI 11) (n := 11) (by decide) b2 b3
        have J93 : vld k a b c → XW X (PA D h d σ) 93 [(0, .ref (h 0)), (1, .int k), (2, .int a), (3, .int b), (4, .int c)] [] := by
          intro V
          have hz : k = 0 ↔ kk = 0 := by rw [e]; exact z0eq (by omega)
          have fin : ∀ (σ1 : Sg), σ1 0 0 = nI (pN g) → (∀ r j, 1 ≤ r → r ≤ 3 → j ≠ pN g → σ1 r j = σ r j) → (∀ j, σ1 4 j = σ 4 j) → σ1 1 (pN g) = k → σ1 2 (pN g) = (if k = 0 then b else a) → σ1 3 (pN g) = (if k = 0 then a else b).toInt8.toInt32 → (∀ r j, 5 ≤ r → σ1 r j = σ r j) → (∀ j, σ1 0 j = σ 0 j) → XW X (PA D h d σ1) 141 [(0, .ref (h 0)), (1, .int k), (2, .int a), (3, .int b), (4, .int c)] [] := by
            intro σ1 f0 f1 f4 g1 g2 g3 f5 f6
            refine xw_aload_n B dX0_add_141 rfl ?_
            refine xa_getA C 4 (by decide) rfl q46 dX0_add_142 ?_
            refine xw_aload_n B dX0_add_145 rfl ?_
            refine xa_getS C 0 (by decide) rfl q42 dX0_add_146 (f0) ?_
            refine xw_iload B dX0_add_149 rfl ?_
            refine xw_i2b B dX0_add_151 (rfl) ?_
            refine xa_bast C 4 3 4 rfl rfl (xa_s4 h d _) (by decide) dX0_add_152 (pN g) (rfl) (by omega) (pk_vb c) ?_
            refine xw_aload_n B dX0_add_153 rfl ?_
            refine xw_dup B dX0_add_154 rfl ?_
            refine xa_getS C 0 (by decide) rfl q42 dX0_add_155 (f0) ?_
            refine xw_iconst (v := nI 1) B dX0_add_158 (by decide) ?_
            refine xw_iadd B dX0_add_159 (nI_add (pN g) 1) ?_
            refine xa_put (ty := .int) C 0 (by decide) (xa_f0 h d _ _) q42 rfl (by decide +kernel) (rfl) (rfl) dX0_add_160 ?_
            refine xw_aload_n B dX0_add_163 rfl ?_
            refine xw_iconst (v := nI 0) B dX0_add_164 (by decide) ?_
            refine xa_put (ty := .boolean) C 6 (by decide) (xa_f6 h d _ _) q48 rfl (by decide +kernel) (rfl) (rfl) dX0_add_165 ?_
            refine xw_aload_n B dX0_add_168 rfl ?_
            refine xa_getS C 0 (by decide) rfl q42 dX0_add_169 (rfl) ?_
            refine xa_iret C rfl rfl dX0_add_172 ⟨fun z => by omega, fun _ v => absurd V v, fun _ _ => ⟨rfl, ?_, rfl, fun r j hr => ?_, fun j j0 j6 => ?_⟩⟩
            · refine S.ext b1 V rfl (fun r j r1 r4 hj => ?_) g1 g2 g3 ?_
              · have r0 : r ≠ 0 := by omega
                by_cases e4 : r = 4
                · subst e4
                  simp [su, hj]
                  exact f4 j
                · simp [su, r0, e4]
                  exact f1 r j r1 (by omega) hj
              · simp [su]
            · have r0 : r ≠ 0 := by omega
              have r4 : r ≠ 4 := by omega
              simp [su, r0, r4]
              exact f5 r j hr
            · simp [su, j0, j6]
              exact f6 j
          by_cases k0 : kk = 0
          · have hk0 : k = 0 := hz.mpr k0
            refine xw_aload_n B dX0_add_93 rfl ?_
            refine xa_getA C 1 (by decide) rfl q43 dX0_add_94 ?_
            refine xw_aload_n B dX0_add_97 rfl ?_
            refine xa_getS C 0 (by decide) rfl q42 dX0_add_98 (h0) ?_
            refine xw_iload_n B dX0_add_101 rfl ?_
            refine xw_i2b B dX0_add_102 (show k.toInt8.toInt32 = k by rw [e]; exact z8 kk (by omega)) ?_
            refine xa_bast C 1 0 1 rfl rfl (xa_s1 h d _) (by decide) dX0_add_103 (pN g) (rfl) (by omega) (show vp_nar .byte k = k by rw [e]; exact z8n kk (by omega)) ?_
            refine xw_aload_n B dX0_add_104 rfl ?_
            refine xa_getA C 2 (by decide) rfl q44 dX0_add_105 ?_
            refine xw_aload_n B dX0_add_108 rfl ?_
            refine xa_getS C 0 (by decide) rfl q42 dX0_add_109 (h0) ?_
            refine xw_iload_n B dX0_add_112 rfl ?_
            refine xw_if_ne (tgt := 120) B dX0_add_113 (by decide) (fun q => absurd (hk0) q) (fun _ => ?_)
            refine xw_iload_n B dX0_add_116 rfl ?_
            refine xw_goto (tgt := 121) B dX0_add_117 (by decide) ?_
            refine xa_iast C 2 1 2 rfl rfl (xa_s2 h d _) (by decide) dX0_add_121 (pN g) (rfl) (by omega) ?_
            refine xw_aload_n B dX0_add_122 rfl ?_
            refine xa_getA C 3 (by decide) rfl q45 dX0_add_123 ?_
            refine xw_aload_n B dX0_add_126 rfl ?_
            refine xa_getS C 0 (by decide) rfl q42 dX0_add_127 (h0) ?_
            refine xw_iload_n B dX0_add_130 rfl ?_
            refine xw_if_ne (tgt := 138) B dX0_add_131 (by decide) (fun q => absurd (hk0) q) (fun _ => ?_)
            refine xw_iload_n B dX0_add_134 rfl ?_
            refine xw_goto (tgt := 139) B dX0_add_135 (by decide) ?_
            refine xw_i2b B dX0_add_139 (rfl) ?_
            refine xa_bast C 3 2 3 rfl rfl (xa_s3 h d _) (by decide) dX0_add_140 (pN g) (rfl) (by omega) (pk_vb a) ?_
            refine fin _ h0 (fun r j r1 r3 hj => ?_) (fun j => rfl) ?_ ?_ ?_ (fun r j hr => ?_) (fun j => rfl)
            · simp [su, hj]
            · simp [su]
            · simp [su, hk0]
            · simp [su, hk0]
            · simp only [su]
              rw [if_neg (by omega), if_neg (by omega), if_neg (by omega)]
          · have hk0 : ¬ k = 0 := fun z => k0 (hz.mp z)
            refine xw_aload_n B dX0_add_93 rfl ?_
            refine xa_getA C 1 (by decide) rfl q43 dX0_add_94 ?_
            refine xw_aload_n B dX0_add_97 rfl ?_
            refine xa_getS C 0 (by decide) rfl q42 dX0_add_98 (h0) ?_
            refine xw_iload_n B dX0_add_101 rfl ?_
            refine xw_i2b B dX0_add_102 (show k.toInt8.toInt32 = k by rw [e]; exact z8 kk (by omega)) ?_
            refine xa_bast C 1 0 1 rfl rfl (xa_s1 h d _) (by decide) dX0_add_103 (pN g) (rfl) (by omega) (show vp_nar .byte k = k by rw [e]; exact z8n kk (by omega)) ?_
            refine xw_aload_n B dX0_add_104 rfl ?_
            refine xa_getA C 2 (by decide) rfl q44 dX0_add_105 ?_
            refine xw_aload_n B dX0_add_108 rfl ?_
            refine xa_getS C 0 (by decide) rfl q42 dX0_add_109 (h0) ?_
            refine xw_iload_n B dX0_add_112 rfl ?_
            refine xw_if_ne (tgt := 120) B dX0_add_113 (by decide) (fun _ => ?_) (fun q => absurd q (hk0))
            refine xw_iload_n B dX0_add_120 rfl ?_
            refine xa_iast C 2 1 2 rfl rfl (xa_s2 h d _) (by decide) dX0_add_121 (pN g) (rfl) (by omega) ?_
            refine xw_aload_n B dX0_add_122 rfl ?_
            refine xa_getA C 3 (by decide) rfl q45 dX0_add_123 ?_
            refine xw_aload_n B dX0_add_126 rfl ?_
            refine xa_getS C 0 (by decide) rfl q42 dX0_add_127 (h0) ?_
            refine xw_iload_n B dX0_add_130 rfl ?_
            refine xw_if_ne (tgt := 138) B dX0_add_131 (by decide) (fun _ => ?_) (fun q => absurd q (hk0))
            refine xw_iload_n B dX0_add_138 rfl ?_
            refine xw_i2b B dX0_add_139 (rfl) ?_
            refine xa_bast C 3 2 3 rfl rfl (xa_s3 h d _) (by decide) dX0_add_140 (pN g) (rfl) (by omega) (pk_vb b) ?_
            refine fin _ h0 (fun r j r1 r3 hj => ?_) (fun j => rfl) ?_ ?_ ?_ (fun r j hr => ?_) (fun j => rfl)
            · simp [su, hj]
            · simp [su]
            · simp [su, hk0]
            · simp [su, hk0]
            · simp only [su]
              rw [if_neg (by omega), if_neg (by omega), if_neg (by omega)]
        have J69 : (kk ≠ 9 → kk ≠ 11 → ∃ aa, aa ≤ 5 ∧ a = nI aa) → (1 ≤ kk → kk ≤ 6 → ∃ bb, bb ≤ 5 ∧ b = nI bb) → XW X (PA D h d σ) 69 [(0, .ref (h 0)), (1, .int k), (2, .int a), (3, .int b), (4, .int c)] [] := by
          intro hA hB
          subst e
          by_cases q1 : kk < 2
          · refine xw_iload_n B dX0_add_69 rfl ?_
            refine xw_iconst (v := nI 2) B dX0_add_70 (by decide) ?_
            refine xw_icmp_lt (tgt := 93) B dX0_add_71 (by decide) (fun _ => ?_) (fun q => absurd (by rw [zlt (by omega) (by omega)]; exact q1) q)
            exact J93 ⟨kk, hk, rfl, hA, hB, fun z1 z2 => by omega⟩
          · by_cases q2 : 6 < kk
            · refine xw_iload_n B dX0_add_69 rfl ?_
              refine xw_iconst (v := nI 2) B dX0_add_70 (by decide) ?_
              refine xw_icmp_lt (tgt := 93) B dX0_add_71 (by decide) (fun q => absurd q (by rw [zlt (by omega) (by omega)]; exact q1)) (fun _ => ?_)
              refine xw_iload_n B dX0_add_74 rfl ?_
              refine xw_bipush (v := nI 6) B dX0_add_75 (by decide) ?_
              refine xw_icmp_gt (tgt := 93) B dX0_add_77 (by decide) (fun _ => ?_) (fun q => absurd (by rw [zlt (by omega) (by omega)]; exact q2) q)
              exact J93 ⟨kk, hk, rfl, hA, hB, fun z1 z2 => by omega⟩
            · refine xw_iload_n B dX0_add_69 rfl ?_
              refine xw_iconst (v := nI 2) B dX0_add_70 (by decide) ?_
              refine xw_icmp_lt (tgt := 93) B dX0_add_71 (by decide) (fun q => absurd q (by rw [zlt (by omega) (by omega)]; exact q1)) (fun _ => ?_)
              refine xw_iload_n B dX0_add_74 rfl ?_
              refine xw_bipush (v := nI 6) B dX0_add_75 (by decide) ?_
              refine xw_icmp_gt (tgt := 93) B dX0_add_77 (by decide) (fun q => absurd q (by rw [zlt (by omega) (by omega)]; exact q2)) (fun _ => ?_)
              refine xw_iload B dX0_add_80 rfl ?_
              refine xw_if_lt (tgt := 91) B dX0_add_82 (by decide) (fun b4 => ?_) (fun b4 => ?_)
              · refine xw_iconst (v := (-1)) B dX0_add_91 (by decide) ?_
                refine xa_iret C rfl rfl dX0_add_92 (no b1 (fun V => ?_) _ rfl)
                obtain ⟨k', hk', e', va, vb, vc⟩ := V
                rw [zeq (by omega) (by omega)] at e'
                obtain ⟨cc, z1, z2⟩ := vc (by omega) (by omega)
                rw [z2] at b4
                exact z0nl (by omega) b4
              · refine xw_iload B dX0_add_85 rfl ?_
                refine xw_iconst (v := nI 5) B dX0_add_87 (by decide) ?_
                refine xw_icmp_le (tgt := 93) B dX0_add_88 (by decide) (fun b5 => ?_) (fun b5 => ?_)
                · obtain ⟨cc, hc, ec⟩ := nI_of2 (M := nI 5) (n := 5) (by decide) b4 b5
                  exact J93 ⟨kk, hk, rfl, hA, hB, fun z1 z2 => ⟨cc, hc, ec⟩⟩
                · refine xw_iconst (v := (-1)) B dX0_add_91 (by decide) ?_
                  refine xa_iret C rfl rfl dX0_add_92 (no b1 (fun V => ?_) _ rfl)
                  obtain ⟨k', hk', e', va, vb, vc⟩ := V
                  rw [zeq (by omega) (by omega)] at e'
                  obtain ⟨cc, z1, z2⟩ := vc (by omega) (by omega)
                  rw [z2, zle (by omega) (by omega)] at b5
                  exact b5 z1
        have J47 : (kk ≠ 9 → kk ≠ 11 → ∃ aa, aa ≤ 5 ∧ a = nI aa) → XW X (PA D h d σ) 47 [(0, .ref (h 0)), (1, .int k), (2, .int a), (3, .int b), (4, .int c)] [] := by
          intro hA
          subst e
          by_cases q1 : kk < 1
          · refine xw_iload_n B dX0_add_47 rfl ?_
            refine xw_iconst (v := nI 1) B dX0_add_48 (by decide) ?_
            refine xw_icmp_lt (tgt := 69) B dX0_add_49 (by decide) (fun _ => ?_) (fun q => absurd (by rw [zlt (by omega) (by omega)]; exact q1) q)
            exact J69 hA (fun z1 z2 => by omega)
          · by_cases q2 : 6 < kk
            · refine xw_iload_n B dX0_add_47 rfl ?_
              refine xw_iconst (v := nI 1) B dX0_add_48 (by decide) ?_
              refine xw_icmp_lt (tgt := 69) B dX0_add_49 (by decide) (fun q => absurd q (by rw [zlt (by omega) (by omega)]; exact q1)) (fun _ => ?_)
              refine xw_iload_n B dX0_add_52 rfl ?_
              refine xw_bipush (v := nI 6) B dX0_add_53 (by decide) ?_
              refine xw_icmp_gt (tgt := 69) B dX0_add_55 (by decide) (fun _ => ?_) (fun q => absurd (by rw [zlt (by omega) (by omega)]; exact q2) q)
              exact J69 hA (fun z1 z2 => by omega)
            · refine xw_iload_n B dX0_add_47 rfl ?_
              refine xw_iconst (v := nI 1) B dX0_add_48 (by decide) ?_
              refine xw_icmp_lt (tgt := 69) B dX0_add_49 (by decide) (fun q => absurd q (by rw [zlt (by omega) (by omega)]; exact q1)) (fun _ => ?_)
              refine xw_iload_n B dX0_add_52 rfl ?_
              refine xw_bipush (v := nI 6) B dX0_add_53 (by decide) ?_
              refine xw_icmp_gt (tgt := 69) B dX0_add_55 (by decide) (fun q => absurd q (by rw [zlt (by omega) (by omega)]; exact q2)) (fun _ => ?_)
              refine xw_iload_n B dX0_add_58 rfl ?_
              refine xw_if_lt (tgt := 67) B dX0_add_59 (by decide) (fun b4 => ?_) (fun b4 => ?_)
              · refine xw_iconst (v := (-1)) B dX0_add_67 (by decide) ?_
                refine xa_iret C rfl rfl dX0_add_68 (no b1 (fun V => ?_) _ rfl)
                obtain ⟨k', hk', e', va, vb, vc⟩ := V
                rw [zeq (by omega) (by omega)] at e'
                obtain ⟨cc, z1, z2⟩ := vb (by omega) (by omega)
                rw [z2] at b4
                exact z0nl (by omega) b4
              · refine xw_iload_n B dX0_add_62 rfl ?_
                refine xw_iconst (v := nI 5) B dX0_add_63 (by decide) ?_
                refine xw_icmp_le (tgt := 69) B dX0_add_64 (by decide) (fun b5 => ?_) (fun b5 => ?_)
                · obtain ⟨cc, hc, ec⟩ := nI_of2 (M := nI 5) (n := 5) (by decide) b4 b5
                  exact J69 hA (fun z1 z2 => ⟨cc, hc, ec⟩)
                · refine xw_iconst (v := (-1)) B dX0_add_67 (by decide) ?_
                  refine xa_iret C rfl rfl dX0_add_68 (no b1 (fun V => ?_) _ rfl)
                  obtain ⟨k', hk', e', va, vb, vc⟩ := V
                  rw [zeq (by omega) (by omega)] at e'
                  obtain ⟨cc, z1, z2⟩ := vb (by omega) (by omega)
                  rw [z2, zle (by omega) (by omega)] at b5
                  exact b5 z1
        subst e
        by_cases q9 : kk = 9
        · refine xw_iload_n B dX0_add_24 rfl ?_
          refine xw_bipush (v := nI 9) B dX0_add_25 (by decide) ?_
          refine xw_icmp_eq (tgt := 47) B dX0_add_27 (by decide) (fun _ => ?_) (fun q => absurd (by rw [q9]) q)
          exact J47 (fun z _ => absurd q9 z)
        · by_cases q11 : kk = 11
          · refine xw_iload_n B dX0_add_24 rfl ?_
            refine xw_bipush (v := nI 9) B dX0_add_25 (by decide) ?_
            refine xw_icmp_eq (tgt := 47) B dX0_add_27 (by decide) (fun q => absurd q (by rw [zeq (by omega) (by omega)]; exact q9)) (fun _ => ?_)
            refine xw_iload_n B dX0_add_30 rfl ?_
            refine xw_bipush (v := nI 11) B dX0_add_31 (by decide) ?_
            refine xw_icmp_eq (tgt := 47) B dX0_add_33 (by decide) (fun _ => ?_) (fun q => absurd (by rw [q11]) q)
            exact J47 (fun _ z => absurd q11 z)
          · refine xw_iload_n B dX0_add_24 rfl ?_
            refine xw_bipush (v := nI 9) B dX0_add_25 (by decide) ?_
            refine xw_icmp_eq (tgt := 47) B dX0_add_27 (by decide) (fun q => absurd q (by rw [zeq (by omega) (by omega)]; exact q9)) (fun _ => ?_)
            refine xw_iload_n B dX0_add_30 rfl ?_
            refine xw_bipush (v := nI 11) B dX0_add_31 (by decide) ?_
            refine xw_icmp_eq (tgt := 47) B dX0_add_33 (by decide) (fun q => absurd q (by rw [zeq (by omega) (by omega)]; exact q11)) (fun _ => ?_)
            refine xw_iload_n B dX0_add_36 rfl ?_
            refine xw_if_lt (tgt := 45) B dX0_add_37 (by decide) (fun b4 => ?_) (fun b4 => ?_)
            · refine xw_iconst (v := (-1)) B dX0_add_45 (by decide) ?_
              refine xa_iret C rfl rfl dX0_add_46 (no b1 (fun V => ?_) _ rfl)
              obtain ⟨k', hk', e', va, vb, vc⟩ := V
              rw [zeq (by omega) (by omega)] at e'
              obtain ⟨cc, z1, z2⟩ := va (fun z => q9 (e'.trans z)) (fun z => q11 (e'.trans z))
              rw [z2] at b4
              exact z0nl (by omega) b4
            · refine xw_iload_n B dX0_add_40 rfl ?_
              refine xw_iconst (v := nI 5) B dX0_add_41 (by decide) ?_
              refine xw_icmp_le (tgt := 47) B dX0_add_42 (by decide) (fun b5 => ?_) (fun b5 => ?_)
              · obtain ⟨cc, hc, ec⟩ := nI_of2 (M := nI 5) (n := 5) (by decide) b4 b5
                exact J47 (fun z1 z2 => ⟨cc, hc, ec⟩)
              · refine xw_iconst (v := (-1)) B dX0_add_45 (by decide) ?_
                refine xa_iret C rfl rfl dX0_add_46 (no b1 (fun V => ?_) _ rfl)
                obtain ⟨k', hk', e', va, vb, vc⟩ := V
                rw [zeq (by omega) (by omega)] at e'
                obtain ⟨cc, z1, z2⟩ := va (fun z => q9 (e'.trans z)) (fun z => q11 (e'.trans z))
                rw [z2, zle (by omega) (by omega)] at b5
                exact b5 z1
      · refine xw_iconst (v := (-1)) B dX0_add_22 (by decide) ?_
        refine xa_iret C rfl rfl dX0_add_23 (no b1 (fun V => ?_) _ rfl)
        obtain ⟨kk, hk, e, -⟩ := V
        rw [e, zle (by omega) (by omega)] at b3
        exact b3 hk
  · rw [zlt (by omega) (by omega)] at b1
    refine xw_bipush (v := (-2)) B dX0_add_9 (by decide) ?_
    exact xa_iret C rfl (rfl) dX0_add_11 (⟨fun _ => ⟨rfl, rfl⟩, fun z => by omega, fun z => by omega⟩)
end
section
/-! the block structure -/
def chk (g : Pg) : List (Nat × Nat) → Prop
  | [] => True
  | q :: t => t = stk g q.1 ∧ chk g t
theorem stk_op {g : Pg} {i : Nat} (h : pK g i = 8 ∨ pK g i = 10) : stk g (i + 1) = (i, i) :: stk g i := by rw [stk, if_pos h]
theorem stk_el {g : Pg} {i : Nat} (h : pK g i = 9) {q : Nat × Nat} {t : List (Nat × Nat)} (e : stk g i = q :: t) : stk g (i + 1) = (q.1, i) :: t := by rw [stk, if_neg (by omega), if_pos h, e]
theorem stk_en {g : Pg} {i : Nat} (h : pK g i = 11) : stk g (i + 1) = (stk g i).tail := by rw [stk, if_neg (by omega), if_neg (by omega), if_pos h]
theorem stk_st {g : Pg} {i : Nat} (h : pK g i ≠ 8) (h2 : pK g i ≠ 9) (h3 : pK g i ≠ 10) (h4 : pK g i ≠ 11) : stk g (i + 1) = stk g i := by rw [stk, if_neg (by omega), if_neg h2, if_neg h4]
theorem stk_el0 {g : Pg} {i : Nat} (h : pK g i = 9) (e : stk g i = []) : stk g (i + 1) = [] := by rw [stk, if_neg (by omega), if_pos h, e]
theorem stk_ch (g : Pg) : ∀ i, chk g (stk g i)
  | 0 => trivial
  | i + 1 => by
    have ih := stk_ch g i
    by_cases h8 : pK g i = 8 ∨ pK g i = 10
    · rw [stk_op h8]
      exact ⟨rfl, ih⟩
    · by_cases h9 : pK g i = 9
      · cases e : stk g i with
        | nil => rw [stk_el0 h9 e]; trivial
        | cons q t =>
          rw [stk_el h9 e]
          rw [e] at ih
          exact ih
      · by_cases h11 : pK g i = 11
        · rw [stk_en h11]
          cases e : stk g i with
          | nil => trivial
          | cons q t => rw [e] at ih; exact ih.2
        · rw [stk_st (by omega) h9 (by omega) h11]
          exact ih
theorem chk_mem {g : Pg} {q : Nat × Nat} : ∀ {l : List (Nat × Nat)}, chk g l → q ∈ l → ∃ pre, l = pre ++ q :: stk g q.1
  | [], _, h => by cases h
  | a :: t, hc, h => by
    rcases List.mem_cons.mp h with e | e
    · subst e
      exact ⟨[], by rw [hc.1]; rfl⟩
    · obtain ⟨pre, hp⟩ := chk_mem hc.2 e
      exact ⟨a :: pre, by rw [hp]; rfl⟩
theorem stk_mem {g : Pg} {i : Nat} {q : Nat × Nat} (h : q ∈ stk g i) : (stk g q.1).length + 1 ≤ (stk g i).length := by
  obtain ⟨pre, hp⟩ := chk_mem (stk_ch g i) h
  rw [hp]
  simp
theorem stk_tl {g : Pg} {i : Nat} {q : Nat × Nat} {t : List (Nat × Nat)} (h : stk g i = q :: t) : t = stk g q.1 := by
  have := stk_ch g i
  rw [h] at this
  exact this.1
/-- an opener that is open behind statement k was open ahead of it, or is k -/
theorem stk_back {g : Pg} {k o p : Nat} (h : (o, p) ∈ stk g (k + 1)) (ho : o ≠ k) : ∃ p', (o, p') ∈ stk g k := by
  by_cases h8 : pK g k = 8 ∨ pK g k = 10
  · rw [stk_op h8] at h
    rcases List.mem_cons.mp h with e | e
    · exact absurd (congrArg Prod.fst e) ho
    · exact ⟨p, e⟩
  · by_cases h9 : pK g k = 9
    · cases e : stk g k with
      | nil => rw [stk_el0 h9 e] at h; cases h
      | cons q t =>
        rw [stk_el h9 e] at h
        rcases List.mem_cons.mp h with e1 | e1
        · refine ⟨q.2, ?_⟩
          have := congrArg Prod.fst e1
          simp only at this
          rw [this]
          exact List.mem_cons_self
        · exact ⟨p, List.mem_cons_of_mem _ e1⟩
    · by_cases h11 : pK g k = 11
      · rw [stk_en h11] at h
        exact ⟨p, List.mem_of_mem_tail h⟩
      · rw [stk_st (by omega) h9 (by omega) h11] at h
        exact ⟨p, h⟩
theorem stk_all {g : Pg} {o e p : Nat} (h : (o, p) ∈ stk g e) : ∀ k, o < k → k ≤ e → ∃ p', (o, p') ∈ stk g k := by
  intro k hk hke
  obtain ⟨d, hd⟩ : ∃ d, e = k + d := ⟨e - k, by omega⟩
  clear hke
  induction d generalizing e p with
  | zero => rw [show e = k by omega] at h; exact ⟨p, h⟩
  | succ d ih =>
    have he : e = (k + d) + 1 := by omega
    rw [he] at h
    obtain ⟨p', h'⟩ := stk_back h (by omega)
    exact ih h' rfl
/-- while a block is open, the depth stays above its opener's -/
theorem stk_deep {g : Pg} {o e p : Nat} (h : (o, p) ∈ stk g e) {k : Nat} (hk : o < k) (hke : k ≤ e) : (stk g o).length + 1 ≤ (stk g k).length := by
  obtain ⟨p', h'⟩ := stk_all h k hk hke
  exact stk_mem h'
/-- the depth, statement by statement -/
theorem dep_op {g : Pg} {i : Nat} (h : pK g i = 8 ∨ pK g i = 10) : (stk g (i + 1)).length = (stk g i).length + 1 := by rw [stk_op h]; rfl
theorem dep_en {g : Pg} {i : Nat} (hq : okq g i = true) (h : pK g i = 11) : (stk g i).length = (stk g (i + 1)).length + 1 := by
  rw [stk_en h]
  rw [okq, if_neg (by omega), if_neg (by omega), if_pos h] at hq
  cases e : stk g i with
  | nil => rw [e] at hq; cases hq
  | cons q t => rfl
theorem dep_st {g : Pg} {i : Nat} (h : pK g i ≠ 8) (h3 : pK g i ≠ 10) (h4 : pK g i ≠ 11) : (stk g (i + 1)).length = (stk g i).length := by
  by_cases h9 : pK g i = 9
  · cases e : stk g i with
    | nil => rw [stk_el0 h9 e]
    | cons q t => rw [stk_el h9 e]; rfl
  · rw [stk_st h h9 h3 h4]
theorem okq_9 {g : Pg} {i : Nat} (hq : okq g i = true) (h : pK g i = 9) : ∃ o, stk g i = (o, o) :: stk g o ∧ pK g o = 8 := by
  rw [okq, if_neg (by omega), if_pos h] at hq
  cases e : stk g i with
  | nil => rw [e] at hq; cases hq
  | cons q t =>
    rw [e] at hq
    simp at hq
    have ht := stk_tl e
    obtain ⟨a, b⟩ := q
    simp only at hq ht
    refine ⟨a, ?_, hq.2⟩
    rw [← hq.1, ht]
theorem okq_11 {g : Pg} {i : Nat} (hq : okq g i = true) (h : pK g i = 11) : ∃ o p, stk g i = (o, p) :: stk g o := by
  rw [okq, if_neg (by omega), if_neg (by omega), if_pos h] at hq
  cases e : stk g i with
  | nil => rw [e] at hq; cases hq
  | cons q t => exact ⟨q.1, q.2, by rw [stk_tl e]⟩
theorem stk_k {g : Pg} {i : Nat} : ∀ q ∈ stk g i, pK g q.1 = 8 ∨ pK g q.1 = 10 := by
  induction i with
  | zero => intro q hq; cases hq
  | succ i ih =>
    intro q hq
    by_cases h8 : pK g i = 8 ∨ pK g i = 10
    · rw [stk_op h8] at hq
      rcases List.mem_cons.mp hq with e | e
      · rw [e]; exact h8
      · exact ih q e
    · by_cases h9 : pK g i = 9
      · cases e : stk g i with
        | nil => rw [stk_el0 h9 e] at hq; cases hq
        | cons a t =>
          rw [stk_el h9 e] at hq
          rcases List.mem_cons.mp hq with e1 | e1
          · rw [e1]; exact ih a (by rw [e]; exact List.mem_cons_self)
          · exact ih q (by rw [e]; exact List.mem_cons_of_mem _ e1)
      · by_cases h11 : pK g i = 11
        · rw [stk_en h11] at hq
          exact ih q (List.mem_of_mem_tail hq)
        · rw [stk_st (by omega) h9 (by omega) h11] at hq
          exact ih q hq
/-- what a block's second number is -/
theorem stk_p {g : Pg} {i : Nat} (hok : okb g i = true) : ∀ o p, (o, p) ∈ stk g i → p ≠ o → o < p ∧ p < i ∧ pK g p = 9 ∧ pK g o = 8 ∧ stk g p = (o, o) :: stk g o := by
  induction i with
  | zero => intro o p hq; cases hq
  | succ i ih =>
    simp only [okb, Bool.and_eq_true] at hok
    have ih := ih hok.1
    intro o p hq hne
    by_cases h8 : pK g i = 8 ∨ pK g i = 10
    · rw [stk_op h8] at hq
      rcases List.mem_cons.mp hq with e | e
      · cases e; exact absurd rfl hne
      · have := ih o p e hne; exact ⟨this.1, by omega, this.2.2⟩
    · by_cases h9 : pK g i = 9
      · obtain ⟨a, ha, ha8⟩ := okq_9 hok.2 h9
        rw [stk_el h9 ha] at hq
        rcases List.mem_cons.mp hq with e | e
        · cases e
          have := (stk_lt (a, a) (by rw [ha]; exact List.mem_cons_self)).1
          exact ⟨this, by omega, h9, ha8, ha⟩
        · have := ih o p (by rw [ha]; exact List.mem_cons_of_mem _ e) hne; exact ⟨this.1, by omega, this.2.2⟩
      · by_cases h11 : pK g i = 11
        · rw [stk_en h11] at hq
          have := ih o p (List.mem_of_mem_tail hq) hne; exact ⟨this.1, by omega, this.2.2⟩
        · rw [stk_st (by omega) h9 (by omega) h11] at hq
          have := ih o p hq hne; exact ⟨this.1, by omega, this.2.2⟩
/-- an ELSE of an open block is its second number -/
theorem stk_e {g : Pg} {i : Nat} (hok : okb g i = true) : ∀ o p k p' t, (o, p) ∈ stk g i → pK g k = 9 → k < i → stk g k = (o, p') :: t → p = k := by
  induction i with
  | zero => intro o p k p' t hq; cases hq
  | succ i ih =>
    simp only [okb, Bool.and_eq_true] at hok
    have ih := ih hok.1
    intro o p k p' t hq hk9 hki hst
    have hok' := (stk_lt (o, p') (by rw [hst]; exact List.mem_cons_self)).1
    simp only at hok'
    by_cases eki : k = i
    · subst eki
      rw [stk_el hk9 hst] at hq
      rcases List.mem_cons.mp hq with e | e
      · cases e; rfl
      · rw [stk_tl hst] at e
        have := (stk_lt _ e).1
        simp only at this
        omega
    · by_cases h8 : pK g i = 8 ∨ pK g i = 10
      · rw [stk_op h8] at hq
        rcases List.mem_cons.mp hq with e | e
        · cases e; omega
        · exact ih o p k p' t e hk9 (by omega) hst
      · by_cases h9 : pK g i = 9
        · obtain ⟨a, ha, ha8⟩ := okq_9 hok.2 h9
          rw [stk_el h9 ha] at hq
          rcases List.mem_cons.mp hq with e | e
          · cases e
            have := ih a a k p' t (by rw [ha]; exact List.mem_cons_self) hk9 (by omega) hst
            omega
          · exact ih o p k p' t (by rw [ha]; exact List.mem_cons_of_mem _ e) hk9 (by omega) hst
        · by_cases h11 : pK g i = 11
          · rw [stk_en h11] at hq
            exact ih o p k p' t (List.mem_of_mem_tail hq) hk9 (by omega) hst
          · rw [stk_st (by omega) h9 (by omega) h11] at hq
            exact ih o p k p' t hq hk9 (by omega) hst
/-- where an open block ends -/
theorem stk_end {g : Pg} {o p i : Nat} (h : (o, p) ∈ stk g i) {n : Nat} (hin : i ≤ n) (hn : ∀ p', (o, p') ∉ stk g n) : ∃ e p', i ≤ e ∧ e < n ∧ pK g e = 11 ∧ stk g e = (o, p') :: stk g o := by
  obtain ⟨d, hd⟩ : ∃ d, n = i + d := ⟨n - i, by omega⟩
  clear hin
  induction d generalizing i p with
  | zero => rw [show n = i by omega] at hn; exact absurd h (hn p)
  | succ d ih =>
    have hlt : o < i := (stk_lt _ h).1
    by_cases hm : ∃ p', (o, p') ∈ stk g (i + 1)
    · obtain ⟨p', h'⟩ := hm
      obtain ⟨e, p'', h1, h2⟩ := ih h' (by omega)
      exact ⟨e, p'', by omega, h2⟩
    · have hm : ∀ p', (o, p') ∉ stk g (i + 1) := fun p' h' => hm ⟨p', h'⟩
      by_cases h8 : pK g i = 8 ∨ pK g i = 10
      · exact absurd (by rw [stk_op h8]; exact List.mem_cons_of_mem _ h) (hm p)
      · by_cases h9 : pK g i = 9
        · cases e : stk g i with
          | nil => rw [e] at h; cases h
          | cons q t =>
            rw [e] at h
            rcases List.mem_cons.mp h with e1 | e1
            · exact absurd (by rw [stk_el h9 e, ← e1]; exact List.mem_cons_self) (hm i)
            · exact absurd (by rw [stk_el h9 e]; exact List.mem_cons_of_mem _ e1) (hm p)
        · by_cases h11 : pK g i = 11
          · cases e : stk g i with
            | nil => rw [e] at h; cases h
            | cons q t =>
              rw [e] at h
              rcases List.mem_cons.mp h with e1 | e1
              · refine ⟨i, p, Nat.le_refl _, by omega, h11, ?_⟩
                rw [e, stk_tl e, ← e1]
              · exact absurd (by rw [stk_en h11, e]; exact e1) (hm p)
          · exact absurd (by rw [stk_st (by omega) h9 (by omega) h11]; exact h) (hm p)
end
section
/-! StackSchedulerModel: it holds the program -/
def Sm (σ : Sg) (g : Pg) : Prop := Pok g ∧ σ 0 0 = nI (pN g) ∧ ∀ i, i < pN g → σ 1 i = nI (pK g i) ∧ (pK g i ≠ 9 → pK g i ≠ 11 → σ 2 i = nI (pA g i)) ∧ (pK g i = 0 → σ 3 i = pI g i) ∧ (1 ≤ pK g i → pK g i ≤ 6 → σ 3 i = nI (pB g i)) ∧ (2 ≤ pK g i → pK g i ≤ 6 → σ 4 i = nI (pC g i))
theorem Sm.of {σ τ : Sg} {g : Pg} (h : Sm σ g) (e0 : τ 0 0 = σ 0 0) (e1 : ∀ j, τ 1 j = σ 1 j) (e2 : ∀ j, τ 2 j = σ 2 j) (e3 : ∀ j, τ 3 j = σ 3 j) (e4 : ∀ j, τ 4 j = σ 4 j) : Sm τ g := by
  refine ⟨h.1, by rw [e0]; exact h.2.1, fun i hi => ?_⟩
  rw [e1, e2, e3, e4]
  exact h.2.2 i hi
theorem zdec (j : Nat) : nI (j + 1) + Int32.ofInt (-1) = nI j := by
  rw [show Int32.ofInt (-1) = -1 by decide]
  exact pk_m1 j
theorem zpre (x : Int32) : x + Int32.ofInt (-1) = x - nI 1 := by
  rw [show Int32.ofInt (-1) = -(nI 1) by decide]
  exact (Int32.sub_eq_add_neg _ _).symm
theorem b_isVariable (σ : Sg) (v : Int32) : XB 0 yX1_isVariable cX1_isVariable 2 (some .boolean) [.int v] σ (fun r τ => τ = σ ∧ ((∃ j, j ≤ 5 ∧ v = nI j) → r = some 1) ∧ (¬ (∃ j, j ≤ 5 ∧ v = nI j) → r = some 0)) := by
  refine xb_ofI [v] (by decide) rfl (Nat.le_of_ble_eq_true rfl) (fun X D h d C => ?_)
  have B := C.1
  show XW X _ 0 [(0, .ref (h 0)), (1, .int (v))] []
  refine xw_iload_n B dX1_isVariable_0 rfl ?_
  refine xw_if_lt (tgt := 13) B dX1_isVariable_1 (by decide) (fun c1 => ?_) (fun c1 => ?_)
  · refine xw_iconst (v := nI 0) B dX1_isVariable_13 (by decide) ?_
    exact xb_iret C rfl (rfl) dX1_isVariable_14 (⟨rfl, fun ⟨j, hj, e⟩ => absurd c1 (by rw [e]; exact z0nl (by omega)), fun _ => rfl⟩)
  · refine xw_iload_n B dX1_isVariable_4 rfl ?_
    refine xw_iconst (v := nI 5) B dX1_isVariable_5 (by decide) ?_
    refine xw_icmp_gt (tgt := 13) B dX1_isVariable_6 (by decide) (fun c2 => ?_) (fun c2 => ?_)
    · refine xw_iconst (v := nI 0) B dX1_isVariable_13 (by decide) ?_
      exact xb_iret C rfl (rfl) dX1_isVariable_14 (⟨rfl, fun ⟨j, hj, e⟩ => absurd c2 (by rw [e, zlt (by omega) (by omega)]; omega), fun _ => rfl⟩)
    · refine xw_iconst (v := nI 1) B dX1_isVariable_9 (by decide) ?_
      refine xw_goto (tgt := 14) B dX1_isVariable_10 (by decide) ?_
      exact xb_iret C rfl (rfl) dX1_isVariable_14 (⟨rfl, fun _ => rfl, fun e => absurd (nI_of2 (M := nI 5) (n := 5) (by decide) c1 (Int32.not_lt.mp c2)) e⟩)
theorem b_fits (σ : Sg) (k a b c : Int32) : XB 1 yX1_fits cX1_fits 5 (some .boolean) [.int k, .int a, .int b, .int c] σ (fun r τ => τ = σ ∧ (vld k a b c → r = some 1) ∧ (¬ vld k a b c → r = some 0)) := by
  refine xb_ofI [k, a, b, c] (by decide) rfl (Nat.le_of_ble_eq_true rfl) (fun X D h d C => ?_)
  have B := C.1
  show XW X _ 0 [(0, .ref (h 0)), (1, .int (k)), (2, .int (a)), (3, .int (b)), (4, .int (c))] []
  refine xw_iload_n B dX1_fits_0 rfl ?_
  refine xw_if_lt (tgt := 10) B dX1_fits_1 (by decide) (fun b2 => ?_) (fun b2 => ?_)
  · refine xw_iconst (v := nI 0) B dX1_fits_10 (by decide) ?_
    exact xb_iret C rfl (rfl) dX1_fits_11 (⟨rfl, fun ⟨kk, hk, e, _⟩ => absurd b2 (by rw [e]; exact z0nl (by omega)), fun _ => rfl⟩)
  · refine xw_iload_n B dX1_fits_4 rfl ?_
    refine xw_bipush (v := nI 11) B dX1_fits_5 (by decide) ?_
    refine xw_icmp_le (tgt := 12) B dX1_fits_7 (by decide) (fun b3 => ?_) (fun b3 => ?_)
    · obtain ⟨kk, hk, e⟩ := nI_of2 (M := nI 11) (n := 11) (by decide) b2 b3
      subst e
      have hv : vld (nI kk) a b c ↔ ((kk ≠ 9 → kk ≠ 11 → ∃ aa, aa ≤ 5 ∧ a = nI aa) ∧ (1 ≤ kk → kk ≤ 6 → ∃ bb, bb ≤ 5 ∧ b = nI bb) ∧ (2 ≤ kk → kk ≤ 6 → ∃ cc, cc ≤ 5 ∧ c = nI cc)) := by
        constructor
        · intro V
          obtain ⟨k', hk', e', r⟩ := V
          rw [zeq (by omega) (by omega)] at e'
          subst e'
          exact r
        · exact fun r => ⟨kk, hk, rfl, r⟩
      have J24 : kk = 9 ∨ kk = 11 → XW X (PB D h d σ) 24 [(0, .ref (h 0)), (1, .int (nI kk)), (2, .int a), (3, .int b), (4, .int c)] [] := by
        intro q
        refine xw_iconst (v := nI 1) B dX1_fits_24 (by decide) ?_
        refine xb_iret C rfl rfl dX1_fits_25 ⟨rfl, fun _ => rfl, fun V => absurd (hv.mpr ⟨?_, ?_, ?_⟩) V⟩
        · intro z1 z2; exact absurd q (by omega)
        · intro z1 z2; exact absurd q (by omega)
        · intro z1 z2; exact absurd q (by omega)
      by_cases q9 : kk = 9
      · refine xw_iload_n B dX1_fits_12 rfl ?_
        refine xw_bipush (v := nI 9) B dX1_fits_13 (by decide) ?_
        refine xw_icmp_eq (tgt := 24) B dX1_fits_15 (by decide) (fun _ => ?_) (fun q => absurd (by rw [q9]) q)
        exact J24 (Or.inl q9)
      · by_cases q11 : kk = 11
        · refine xw_iload_n B dX1_fits_12 rfl ?_
          refine xw_bipush (v := nI 9) B dX1_fits_13 (by decide) ?_
          refine xw_icmp_eq (tgt := 24) B dX1_fits_15 (by decide) (fun q => absurd q (by rw [zeq (by omega) (by omega)]; exact q9)) (fun _ => ?_)
          refine xw_iload_n B dX1_fits_18 rfl ?_
          refine xw_bipush (v := nI 11) B dX1_fits_19 (by decide) ?_
          refine xw_icmp_ne (tgt := 26) B dX1_fits_21 (by decide) (fun q => absurd (by rw [q11]) q) (fun _ => ?_)
          exact J24 (Or.inr q11)
        · refine xw_iload_n B dX1_fits_12 rfl ?_
          refine xw_bipush (v := nI 9) B dX1_fits_13 (by decide) ?_
          refine xw_icmp_eq (tgt := 24) B dX1_fits_15 (by decide) (fun q => absurd q (by rw [zeq (by omega) (by omega)]; exact q9)) (fun _ => ?_)
          refine xw_iload_n B dX1_fits_18 rfl ?_
          refine xw_bipush (v := nI 11) B dX1_fits_19 (by decide) ?_
          refine xw_icmp_ne (tgt := 26) B dX1_fits_21 (by decide) (fun _ => ?_) (fun q => absurd q (by rw [zeq (by omega) (by omega)]; exact q11))
          refine xw_aload_n B dX1_fits_26 rfl ?_
          refine xw_iload_n B dX1_fits_27 rfl ?_
          refine xb_calli C (lw_V q276 q278 qs23 q33 q279) hdX1_isVariable (by decide) (by decide) rfl (Nat.le_of_ble_eq_true rfl) dX1_fits_28 (b_isVariable σ a) rfl (fun r τ hp => ?_)
          obtain ⟨e1, e2, e3⟩ := hp
          rw [e1]
          clear e1
          by_cases va : ∃ j, j ≤ 5 ∧ a = nI j
          · have e2 := e2 va
            cases e2
            by_cases q1 : kk = 1
            · refine xw_if_ne (tgt := 36) B dX1_fits_31 (by decide) (fun _ => ?_) (fun q => absurd q (by decide))
              refine xw_iload_n B dX1_fits_36 rfl ?_
              refine xw_iconst (v := nI 1) B dX1_fits_37 (by decide) ?_
              refine xw_icmp_ne (tgt := 47) B dX1_fits_38 (by decide) (fun q => absurd (by rw [q1]) q) (fun _ => ?_)
              refine xw_aload_n B dX1_fits_41 rfl ?_
              refine xw_iload_n B dX1_fits_42 rfl ?_
              refine xb_calli C (lw_V q276 q278 qs23 q33 q279) hdX1_isVariable (by decide) (by decide) rfl (Nat.le_of_ble_eq_true rfl) dX1_fits_43 (b_isVariable σ b) rfl (fun r τ hp => ?_)
              obtain ⟨e1, e4, e5⟩ := hp
              rw [e1]
              clear e1
              by_cases vb : ∃ j, j ≤ 5 ∧ b = nI j
              · have e4 := e4 vb
                cases e4
                refine xb_iret C rfl rfl dX1_fits_46 ⟨rfl, fun _ => rfl, fun V => absurd (hv.mpr ⟨fun _ _ => va, fun _ _ => vb, fun z _ => ?_⟩) V⟩
                exact absurd z (by rw [q1]; decide)
              · have e5 := e5 vb
                cases e5
                exact xb_iret C rfl (rfl) dX1_fits_46 (⟨rfl, fun V => absurd ((hv.mp V).2.1 (by rw [q1]; decide) (by rw [q1]; decide)) vb, fun _ => rfl⟩)
            · have J75 : ¬ (2 ≤ kk ∧ kk ≤ 6) ∨ ((∃ j, j ≤ 5 ∧ b = nI j) ∧ ∃ j, j ≤ 5 ∧ c = nI j) → XW X (PB D h d σ) 75 [(0, .ref (h 0)), (1, .int (nI kk)), (2, .int a), (3, .int b), (4, .int c)] [] := by
                intro q
                refine xw_iconst (v := nI 1) B dX1_fits_75 (by decide) ?_
                refine xw_goto (tgt := 80) B dX1_fits_76 (by decide) ?_
                refine xb_iret C rfl rfl dX1_fits_80 ⟨rfl, fun _ => rfl, fun V => absurd (hv.mpr ⟨fun _ _ => va, fun z1 z2 => ?_, fun z1 z2 => ?_⟩) V⟩
                · rcases q with q | q
                  · exact absurd q (by clear va hv e3; omega)
                  · exact q.1
                · rcases q with q | q
                  · exact absurd q (by clear va hv e3; omega)
                  · exact q.2
              by_cases q2 : kk < 2
              · refine xw_if_ne (tgt := 36) B dX1_fits_31 (by decide) (fun _ => ?_) (fun q => absurd q (by decide))
                refine xw_iload_n B dX1_fits_36 rfl ?_
                refine xw_iconst (v := nI 1) B dX1_fits_37 (by decide) ?_
                refine xw_icmp_ne (tgt := 47) B dX1_fits_38 (by decide) (fun _ => ?_) (fun q => absurd q (by rw [zeq (by omega) (by omega)]; exact q1))
                refine xw_iload_n B dX1_fits_47 rfl ?_
                refine xw_iconst (v := nI 2) B dX1_fits_48 (by decide) ?_
                refine xw_icmp_lt (tgt := 75) B dX1_fits_49 (by decide) (fun _ => ?_) (fun q => absurd (by rw [zlt (by omega) (by omega)]; exact q2) q)
                exact J75 (Or.inl (by clear va hv e3; omega))
              · by_cases q6 : 6 < kk
                · refine xw_if_ne (tgt := 36) B dX1_fits_31 (by decide) (fun _ => ?_) (fun q => absurd q (by decide))
                  refine xw_iload_n B dX1_fits_36 rfl ?_
                  refine xw_iconst (v := nI 1) B dX1_fits_37 (by decide) ?_
                  refine xw_icmp_ne (tgt := 47) B dX1_fits_38 (by decide) (fun _ => ?_) (fun q => absurd q (by rw [zeq (by omega) (by omega)]; exact q1))
                  refine xw_iload_n B dX1_fits_47 rfl ?_
                  refine xw_iconst (v := nI 2) B dX1_fits_48 (by decide) ?_
                  refine xw_icmp_lt (tgt := 75) B dX1_fits_49 (by decide) (fun q => absurd q (by rw [zlt (by omega) (by omega)]; exact q2)) (fun _ => ?_)
                  refine xw_iload_n B dX1_fits_52 rfl ?_
                  refine xw_bipush (v := nI 6) B dX1_fits_53 (by decide) ?_
                  refine xw_icmp_gt (tgt := 75) B dX1_fits_55 (by decide) (fun _ => ?_) (fun q => absurd (by rw [zlt (by omega) (by omega)]; exact q6) q)
                  exact J75 (Or.inl (by clear va hv e3; omega))
                · refine xw_if_ne (tgt := 36) B dX1_fits_31 (by decide) (fun _ => ?_) (fun q => absurd q (by decide))
                  refine xw_iload_n B dX1_fits_36 rfl ?_
                  refine xw_iconst (v := nI 1) B dX1_fits_37 (by decide) ?_
                  refine xw_icmp_ne (tgt := 47) B dX1_fits_38 (by decide) (fun _ => ?_) (fun q => absurd q (by rw [zeq (by omega) (by omega)]; exact q1))
                  refine xw_iload_n B dX1_fits_47 rfl ?_
                  refine xw_iconst (v := nI 2) B dX1_fits_48 (by decide) ?_
                  refine xw_icmp_lt (tgt := 75) B dX1_fits_49 (by decide) (fun q => absurd q (by rw [zlt (by omega) (by omega)]; exact q2)) (fun _ => ?_)
                  refine xw_iload_n B dX1_fits_52 rfl ?_
                  refine xw_bipush (v := nI 6) B dX1_fits_53 (by decide) ?_
                  refine xw_icmp_gt (tgt := 75) B dX1_fits_55 (by decide) (fun q => absurd q (by rw [zlt (by omega) (by omega)]; exact q6)) (fun _ => ?_)
                  refine xw_aload_n B dX1_fits_58 rfl ?_
                  refine xw_iload_n B dX1_fits_59 rfl ?_
                  refine xb_calli C (lw_V q276 q278 qs23 q33 q279) hdX1_isVariable (by decide) (by decide) rfl (Nat.le_of_ble_eq_true rfl) dX1_fits_60 (b_isVariable σ b) rfl (fun r τ hp => ?_)
                  obtain ⟨e1, e4, e5⟩ := hp
                  rw [e1]
                  clear e1
                  by_cases vb : ∃ j, j ≤ 5 ∧ b = nI j
                  · have e4 := e4 vb
                    cases e4
                    refine xw_if_eq (tgt := 79) B dX1_fits_63 (by decide) (fun q => absurd q (by decide)) (fun _ => ?_)
                    refine xw_aload_n B dX1_fits_66 rfl ?_
                    refine xw_iload B dX1_fits_67 rfl ?_
                    refine xb_calli C (lw_V q276 q278 qs23 q33 q279) hdX1_isVariable (by decide) (by decide) rfl (Nat.le_of_ble_eq_true rfl) dX1_fits_69 (b_isVariable σ c) rfl (fun r τ hp => ?_)
                    obtain ⟨e1, e6, e7⟩ := hp
                    rw [e1]
                    clear e1
                    by_cases vc : ∃ j, j ≤ 5 ∧ c = nI j
                    · have e6 := e6 vc
                      cases e6
                      refine xw_if_eq (tgt := 79) B dX1_fits_72 (by decide) (fun q => absurd q (by decide)) (fun _ => ?_)
                      exact J75 (Or.inr ⟨vb, vc⟩)
                    · have e7 := e7 vc
                      cases e7
                      refine xw_if_eq (tgt := 79) B dX1_fits_72 (by decide) (fun _ => ?_) (fun q => absurd (rfl) q)
                      refine xw_iconst (v := nI 0) B dX1_fits_79 (by decide) ?_
                      refine xb_iret C rfl rfl dX1_fits_80 ⟨rfl, fun V => absurd ((hv.mp V).2.2 ?_ ?_) vc, fun _ => rfl⟩
                      · exact Nat.not_lt.mp q2
                      · exact Nat.not_lt.mp q6
                  · have e5 := e5 vb
                    cases e5
                    refine xw_if_eq (tgt := 79) B dX1_fits_63 (by decide) (fun _ => ?_) (fun q => absurd (rfl) q)
                    refine xw_iconst (v := nI 0) B dX1_fits_79 (by decide) ?_
                    refine xb_iret C rfl rfl dX1_fits_80 ⟨rfl, fun V => absurd ((hv.mp V).2.1 ?_ ?_) vb, fun _ => rfl⟩
                    · exact Nat.le_trans (by decide) (Nat.not_lt.mp q2)
                    · exact Nat.not_lt.mp q6
          · have e3 := e3 va
            cases e3
            refine xw_if_ne (tgt := 36) B dX1_fits_31 (by decide) (fun q => absurd (rfl) q) (fun _ => ?_)
            refine xw_iconst (v := nI 0) B dX1_fits_34 (by decide) ?_
            exact xb_iret C rfl (rfl) dX1_fits_35 (⟨rfl, fun V => absurd ((hv.mp V).1 q9 q11) va, fun _ => rfl⟩)
    · refine xw_iconst (v := nI 0) B dX1_fits_10 (by decide) ?_
      refine xb_iret C rfl rfl dX1_fits_11 ⟨rfl, fun V => ?_, fun _ => rfl⟩
      obtain ⟨kk, hk, e, _⟩ := V
      rw [e, zle (by omega) (by omega)] at b3
      exact absurd hk b3
def Fb (σ τ : Sg) : Prop := (∀ k j, 5 ≤ k → τ k j = σ k j) ∧ ∀ j, j ≠ 0 → τ 0 j = σ 0 j
theorem Sm.ext {σ τ : Sg} {g : Pg} (S : Sm σ g) (hn : pN g < 40) {k a b c : Int32} (V : vld k a b c) (h0 : τ 0 0 = nI (pN g + 1)) (ho : ∀ r j, 1 ≤ r → r ≤ 4 → j ≠ pN g → τ r j = σ r j) (h1 : τ 1 (pN g) = k) (h2 : τ 2 (pN g) = a) (h3 : τ 3 (pN g) = b) (h4 : τ 4 (pN g) = c) : Sm τ (ext g k a b c) := by
  refine ⟨ext_ok S.1 hn V, h0, fun i hi => ?_⟩
  rw [ext_N] at hi
  by_cases q : i < pN g
  · obtain ⟨e1, e2, e3, e4, e5⟩ := ext_o (k := k) (a := a) (b := b) (c := c) q
    rw [e1, e2, e3, e4, e5, ho 1 i (by decide) (by decide) (by omega), ho 2 i (by decide) (by decide) (by omega), ho 3 i (by decide) (by decide) (by omega), ho 4 i (by decide) (by decide) (by omega)]
    exact S.2.2 i q
  · have ei : i = pN g := by omega
    subst ei
    obtain ⟨e1, e2, e3, e4, e5⟩ := ext_n g k a b c
    obtain ⟨kk, hk, e, va, vb, vc⟩ := V
    rw [e1, e2, e3, e4, e5, h1, h2, h3, h4]
    subst e
    rw [nI_clamp (by omega)]
    refine ⟨rfl, fun z1 z2 => ?_, fun z => rfl, fun z1 z2 => ?_, fun z1 z2 => ?_⟩
    · obtain ⟨aa, q1, q2⟩ := va z1 z2
      rw [q2, nI_clamp (by omega)]
    · obtain ⟨aa, q1, q2⟩ := vb z1 z2
      rw [q2, nI_clamp (by omega)]
    · obtain ⟨aa, q1, q2⟩ := vc z1 z2
      rw [q2, nI_clamp (by omega)]
theorem b_add (σ : Sg) (g : Pg) (S : Sm σ g) (k a b c : Int32) : XB 2 yX1_add cX1_add 5 (some .int) [.int k, .int a, .int b, .int c] σ (fun r τ => (pN g = 40 → r = some (-2) ∧ τ = σ) ∧ (pN g < 40 → ¬ vld k a b c → r = some (-1) ∧ τ = σ) ∧ (pN g < 40 → vld k a b c → r = some (nI (pN g + 1)) ∧ Sm τ (ext g k a b c) ∧ Fb σ τ)) := by
  have hn : pN g ≤ 40 := S.1.1
  have h0 := S.2.1
  refine xb_ofI [k, a, b, c] (by decide) rfl (Nat.le_of_ble_eq_true rfl) (fun X D h d C => ?_)
  have B := C.1
  show XW X _ 0 [(0, .ref (h 0)), (1, .int (k)), (2, .int (a)), (3, .int (b)), (4, .int (c))] []
  refine xw_aload_n B dX1_add_0 rfl ?_
  refine xb_getS C 0 (by decide) rfl q240 dX1_add_1 (h0) ?_
  refine xw_bipush (v := nI 40) B dX1_add_4 (by decide) ?_
  refine xw_icmp_ne (tgt := 12) B dX1_add_6 (by decide) (fun b1 => ?_) (fun b1 => ?_)
  · rw [zeq (by omega) (by omega)] at b1
    have hn4 : pN g < 40 := by omega
    refine xw_aload_n B dX1_add_12 rfl ?_
    refine xw_iload_n B dX1_add_13 rfl ?_
    refine xw_iload_n B dX1_add_14 rfl ?_
    refine xw_iload_n B dX1_add_15 rfl ?_
    refine xw_iload B dX1_add_16 rfl ?_
    refine xb_calli C (lw_V q272 q274 qs22 q33 q275) hdX1_fits (by decide) (by decide) rfl (Nat.le_of_ble_eq_true rfl) dX1_add_18 (b_fits σ k a b c) rfl (fun r τ hp => ?_)
    obtain ⟨e1, e2, e3⟩ := hp
    rw [e1]
    clear e1
    by_cases V : vld k a b c
    · have e2 := e2 V
      cases e2
      clear e3
      refine xw_if_ne (tgt := 26) B dX1_add_21 (by decide) (fun _ => ?_) (fun q => absurd q (by decide))
      refine xw_aload_n B dX1_add_26 rfl ?_
      refine xb_getA C 1 (by decide) rfl q241 dX1_add_27 ?_
      refine xw_aload_n B dX1_add_30 rfl ?_
      refine xb_getS C 0 (by decide) rfl q240 dX1_add_31 (h0) ?_
      refine xw_iload_n B dX1_add_34 rfl ?_
      refine xb_iast C 1 0 1 rfl rfl (xb_s1 h d _) (by decide) dX1_add_35 (pN g) (rfl) (hn4) ?_
      refine xw_aload_n B dX1_add_36 rfl ?_
      refine xb_getA C 2 (by decide) rfl q242 dX1_add_37 ?_
      refine xw_aload_n B dX1_add_40 rfl ?_
      refine xb_getS C 0 (by decide) rfl q240 dX1_add_41 (h0) ?_
      refine xw_iload_n B dX1_add_44 rfl ?_
      refine xb_iast C 2 1 2 rfl rfl (xb_s2 h d _) (by decide) dX1_add_45 (pN g) (rfl) (hn4) ?_
      refine xw_aload_n B dX1_add_46 rfl ?_
      refine xb_getA C 3 (by decide) rfl q243 dX1_add_47 ?_
      refine xw_aload_n B dX1_add_50 rfl ?_
      refine xb_getS C 0 (by decide) rfl q240 dX1_add_51 (h0) ?_
      refine xw_iload_n B dX1_add_54 rfl ?_
      refine xb_iast C 3 2 3 rfl rfl (xb_s3 h d _) (by decide) dX1_add_55 (pN g) (rfl) (hn4) ?_
      refine xw_aload_n B dX1_add_56 rfl ?_
      refine xb_getA C 4 (by decide) rfl q244 dX1_add_57 ?_
      refine xw_aload_n B dX1_add_60 rfl ?_
      refine xb_getS C 0 (by decide) rfl q240 dX1_add_61 (h0) ?_
      refine xw_iload B dX1_add_64 rfl ?_
      refine xb_iast C 4 3 4 rfl rfl (xb_s4 h d _) (by decide) dX1_add_66 (pN g) (rfl) (hn4) ?_
      refine xw_aload_n B dX1_add_67 rfl ?_
      refine xw_dup B dX1_add_68 rfl ?_
      refine xb_getS C 0 (by decide) rfl q240 dX1_add_69 (h0) ?_
      refine xw_iconst (v := nI 1) B dX1_add_72 (by decide) ?_
      refine xw_iadd B dX1_add_73 (nI_add (pN g) 1) ?_
      refine xb_put (ty := .int) C 0 (by decide) (xb_f0 h d _ _) q240 rfl (by decide +kernel) (rfl) (rfl) dX1_add_74 ?_
      refine xw_aload_n B dX1_add_77 rfl ?_
      refine xb_getS C 0 (by decide) rfl q240 dX1_add_78 (rfl) ?_
      refine xb_iret C rfl rfl dX1_add_81 ⟨fun z => absurd z b1, fun _ v => absurd V v, fun _ _ => ⟨rfl, ?_, fun r j hr => ?_, fun j j0 => ?_⟩⟩
      · refine S.ext hn4 V rfl (fun r j r1 r4 hj => ?_) ?_ ?_ ?_ ?_
        · have r0 : r ≠ 0 := by omega
          simp [su, hj, r0]
        · simp [su]
        · simp [su]
        · simp [su]
        · simp [su]
      · have r0 : r ≠ 0 := by omega
        have r1 : r ≠ 1 := by omega
        have r2 : r ≠ 2 := by omega
        have r3 : r ≠ 3 := by omega
        have r4 : r ≠ 4 := by omega
        simp [su, r0, r1, r2, r3, r4]
      · simp [su, j0]
    · have e3 := e3 V
      cases e3
      refine xw_if_ne (tgt := 26) B dX1_add_21 (by decide) (fun q => absurd (rfl) q) (fun _ => ?_)
      refine xw_iconst (v := (-1)) B dX1_add_24 (by decide) ?_
      exact xb_iret C rfl (rfl) dX1_add_25 (⟨fun z => absurd z b1, fun _ _ => ⟨rfl, rfl⟩, fun _ v => absurd v V⟩)
  · rw [zeq (by omega) (by omega)] at b1
    refine xw_bipush (v := (-2)) B dX1_add_9 (by decide) ?_
    exact xb_iret C rfl (rfl) dX1_add_11 (⟨fun _ => ⟨rfl, rfl⟩, fun z => by omega, fun z => by omega⟩)
theorem b_retract (σ : Sg) (n : Nat) (hn : n ≤ 40) (h0 : σ 0 0 = nI n) : XB 0 yX1_retract cX1_retract 1 (some .int) [] σ (fun r τ => (n = 0 → r = some (-1) ∧ τ = σ) ∧ (n ≠ 0 → r = some (nI (n - 1)) ∧ τ = su σ 0 0 (nI (n - 1)))) := by
  refine xb_ofI [] (by decide) rfl (Nat.le_of_ble_eq_true rfl) (fun X D h d C => ?_)
  have B := C.1
  show XW X _ 0 [(0, .ref (h 0))] []
  refine xw_aload_n B dX1_retract_0 rfl ?_
  refine xb_getS C 0 (by decide) rfl q240 dX1_retract_1 (h0) ?_
  refine xw_if_ne (tgt := 9) B dX1_retract_4 (by decide) (fun c1 => ?_) (fun c1 => ?_)
  · rw [z0eq (by omega)] at c1
    refine xw_aload_n B dX1_retract_9 rfl ?_
    refine xw_dup B dX1_retract_10 rfl ?_
    refine xb_getS C 0 (by decide) rfl q240 dX1_retract_11 (h0) ?_
    refine xw_iconst (v := nI 1) B dX1_retract_14 (by decide) ?_
    refine xw_isub B dX1_retract_15 (zsub (by omega)) ?_
    refine xb_put (ty := .int) C 0 (by decide) (xb_f0 h d _ _) q240 rfl (by decide +kernel) (rfl) (rfl) dX1_retract_16 ?_
    refine xw_aload_n B dX1_retract_19 rfl ?_
    refine xb_getS C 0 (by decide) rfl q240 dX1_retract_20 (rfl) ?_
    exact xb_iret C rfl (rfl) dX1_retract_23 (⟨fun e => absurd e c1, fun _ => ⟨rfl, rfl⟩⟩)
  · rw [z0eq (by omega)] at c1
    refine xw_iconst (v := (-1)) B dX1_retract_7 (by decide) ?_
    exact xb_iret C rfl (rfl) dX1_retract_8 (⟨fun _ => ⟨rfl, rfl⟩, fun e => absurd c1 e⟩)
theorem b_put (σ : Sg) (v u : Int32) : XB 1 yX1_put cX1_put 3 (some .boolean) [.int v, .int u] σ (fun r τ => (∀ j, j ≤ 5 → v = nI j → r = some 1 ∧ τ = su σ 5 j u) ∧ ((∀ j, j ≤ 5 → v ≠ nI j) → r = some 0 ∧ τ = σ)) := by
  refine xb_ofI [v, u] (by decide) rfl (Nat.le_of_ble_eq_true rfl) (fun X D h d C => ?_)
  have B := C.1
  show XW X _ 0 [(0, .ref (h 0)), (1, .int (v)), (2, .int (u))] []
  refine xw_aload_n B dX1_put_0 rfl ?_
  refine xw_iload_n B dX1_put_1 rfl ?_
  refine xb_calli C (lw_V q276 q278 qs23 q33 q279) hdX1_isVariable (by decide) (by decide) rfl (Nat.le_of_ble_eq_true rfl) dX1_put_2 (b_isVariable σ v) rfl (fun r τ hp => ?_)
  obtain ⟨e1, e2, e3⟩ := hp
  rw [e1]
  clear e1
  by_cases V : ∃ j, j ≤ 5 ∧ v = nI j
  · have e2 := e2 V
    cases e2
    obtain ⟨j, hj, e⟩ := V
    subst e
    clear e3
    refine xw_if_ne (tgt := 10) B dX1_put_5 (by decide) (fun _ => ?_) (fun q => absurd q (by decide))
    refine xw_aload_n B dX1_put_10 rfl ?_
    refine xb_getA C 5 (by decide) rfl q245 dX1_put_11 ?_
    refine xw_iload_n B dX1_put_14 rfl ?_
    refine xw_iload_n B dX1_put_15 rfl ?_
    refine xb_iast C 5 4 5 rfl rfl (xb_s5 h d _) (by decide) dX1_put_16 (j) (rfl) (by omega) ?_
    refine xw_iconst (v := nI 1) B dX1_put_17 (by decide) ?_
    exact xb_iret C rfl (rfl) dX1_put_18 (⟨fun j' hj' e => by rw [zeq (by omega) (by omega)] at e; rw [e]; exact ⟨rfl, rfl⟩, fun e => absurd rfl (e j hj)⟩)
  · have e3 := e3 V
    cases e3
    refine xw_if_ne (tgt := 10) B dX1_put_5 (by decide) (fun q => absurd (rfl) q) (fun _ => ?_)
    refine xw_iconst (v := nI 0) B dX1_put_8 (by decide) ?_
    exact xb_iret C rfl (rfl) dX1_put_9 (⟨fun j hj e => absurd ⟨j, hj, e⟩ V, fun _ => ⟨rfl, rfl⟩⟩)
theorem b_variable (σ : Sg) (v : Int32) : XB 1 yX1_variable cX1_variable 2 (some .int) [.int v] σ (fun r τ => τ = σ ∧ (∀ j, j ≤ 5 → v = nI j → r = some (σ 5 j)) ∧ ((∀ j, j ≤ 5 → v ≠ nI j) → r = some 0)) := by
  refine xb_ofI [v] (by decide) rfl (Nat.le_of_ble_eq_true rfl) (fun X D h d C => ?_)
  have B := C.1
  show XW X _ 0 [(0, .ref (h 0)), (1, .int (v))] []
  refine xw_aload_n B dX1_variable_0 rfl ?_
  refine xw_iload_n B dX1_variable_1 rfl ?_
  refine xb_calli C (lw_V q276 q278 qs23 q33 q279) hdX1_isVariable (by decide) (by decide) rfl (Nat.le_of_ble_eq_true rfl) dX1_variable_2 (b_isVariable σ v) rfl (fun r τ hp => ?_)
  obtain ⟨e1, e2, e3⟩ := hp
  rw [e1]
  clear e1
  by_cases V : ∃ j, j ≤ 5 ∧ v = nI j
  · have e2 := e2 V
    cases e2
    obtain ⟨j, hj, e⟩ := V
    subst e
    clear e3
    refine xw_if_eq (tgt := 17) B dX1_variable_5 (by decide) (fun q => absurd q (by decide)) (fun _ => ?_)
    refine xw_aload_n B dX1_variable_8 rfl ?_
    refine xb_getA C 5 (by decide) rfl q245 dX1_variable_9 ?_
    refine xw_iload_n B dX1_variable_12 rfl ?_
    refine xb_iald C 5 4 5 rfl rfl (by decide) dX1_variable_13 (j) (rfl) (by omega) (rfl) ?_
    refine xw_goto (tgt := 18) B dX1_variable_14 (by decide) ?_
    exact xb_iret C rfl (rfl) dX1_variable_18 (⟨rfl, fun j' hj' e => by rw [zeq (by omega) (by omega)] at e; rw [e], fun e => absurd rfl (e j hj)⟩)
  · have e3 := e3 V
    cases e3
    refine xw_if_eq (tgt := 17) B dX1_variable_5 (by decide) (fun _ => ?_) (fun q => absurd (rfl) q)
    refine xw_iconst (v := nI 0) B dX1_variable_17 (by decide) ?_
    exact xb_iret C rfl (rfl) dX1_variable_18 (⟨rfl, fun j hj e => absurd ⟨j, hj, e⟩ V, fun _ => rfl⟩)
theorem b_printed (σ : Sg) : XB 0 yX1_printed cX1_printed 1 (some .int) [] σ (fun r τ => τ = σ ∧ r = some (σ 0 7)) := by
  refine xb_ofI [] (by decide) rfl (Nat.le_of_ble_eq_true rfl) (fun X D h d C => ?_)
  have B := C.1
  show XW X _ 0 [(0, .ref (h 0))] []
  refine xw_aload_n B dX1_printed_0 rfl ?_
  refine xb_getS C 7 (by decide) rfl q247 dX1_printed_1 (rfl) ?_
  exact xb_iret C rfl (rfl) dX1_printed_4 (⟨rfl, rfl⟩)
theorem b_output (σ : Sg) (v : Int32) (k : Nat) (hk : k < 2 ^ 30) (h7 : σ 0 7 = nI k) : XB 0 yX1_output cX1_output 2 (some .int) [.int v] σ (fun r τ => τ = σ ∧ (∀ j, j < k → j < 64 → v = nI j → r = some (σ 6 j)) ∧ ((∀ j, j < k → j < 64 → v ≠ nI j) → r = some 0)) := by
  refine xb_ofI [v] (by decide) rfl (Nat.le_of_ble_eq_true rfl) (fun X D h d C => ?_)
  have B := C.1
  show XW X _ 0 [(0, .ref (h 0)), (1, .int (v))] []
  have J27 : (∀ j, j < k → j < 64 → v ≠ nI j) → XW X (PB D h d σ) 27 [(0, .ref (h 0)), (1, .int v)] [] := by
    intro hn
    refine xw_iconst (v := nI 0) B dX1_output_27 (by decide) ?_
    exact xb_iret C rfl (rfl) dX1_output_28 (⟨rfl, fun j h1 h2 e => absurd e (hn j h1 h2), fun _ => rfl⟩)
  refine xw_iload_n B dX1_output_0 rfl ?_
  refine xw_if_lt (tgt := 27) B dX1_output_1 (by decide) (fun c1 => ?_) (fun c1 => ?_)
  · exact J27 (fun j h1 h2 e => absurd c1 (by rw [e]; exact z0nl (by omega)))
  · refine xw_iload_n B dX1_output_4 rfl ?_
    refine xw_aload_n B dX1_output_5 rfl ?_
    refine xb_getS C 7 (by decide) rfl q247 dX1_output_6 (h7) ?_
    refine xw_icmp_ge (tgt := 27) B dX1_output_9 (by decide) (fun c2 => ?_) (fun c2 => ?_)
    · exact J27 (fun j h1 h2 e => by rw [e, zle (by omega) (by omega)] at c2; omega)
    · refine xw_iload_n B dX1_output_12 rfl ?_
      refine xw_bipush (v := nI 64) B dX1_output_13 (by decide) ?_
      refine xw_icmp_ge (tgt := 27) B dX1_output_15 (by decide) (fun c3 => ?_) (fun c3 => ?_)
      · exact J27 (fun j h1 h2 e => by rw [e, zle (by omega) (by omega)] at c3; omega)
      · obtain ⟨j, hj, e⟩ := nI_of c1
        subst e
        rw [zle (by omega) (by omega)] at c2
        rw [zle (by omega) (by omega)] at c3
        refine xw_aload_n B dX1_output_18 rfl ?_
        refine xb_getA C 6 (by decide) rfl q246 dX1_output_19 ?_
        refine xw_iload_n B dX1_output_22 rfl ?_
        refine xb_iald C 6 5 6 rfl rfl (by decide) dX1_output_23 (j) (rfl) (by omega) (rfl) ?_
        refine xw_goto (tgt := 28) B dX1_output_24 (by decide) ?_
        exact xb_iret C rfl (rfl) dX1_output_28 (⟨rfl, fun j' h1 h2 e => by rw [zeq (by omega) (by omega)] at e; rw [e], fun e => absurd rfl (e j (by omega) (by omega))⟩)
theorem b_clear_loop (σ : Sg) {X : CX} {D : va_G} {h : Nat → Nat} {d : Nat → ClassId} {lv : Nat} (C : CB X cX1_clear 2 none lv D h d (fun r τ => r = none ∧ τ = zr σ 5 6)) :
    ∀ (f v : Nat), v + f = 6 → XW X (PB D h d (zr σ 5 v)) 12 [(1, .int (nI v)), (0, .ref (h 0))] [] := by
  have B := C.1
  intro f
  induction f with
  | zero =>
    intro v hv
    have ev : v = 6 := by omega
    subst ev
    refine xw_iload_n B dX1_clear_12 rfl ?_
    refine xw_bipush (v := nI 6) B dX1_clear_13 (by decide) ?_
    refine xw_icmp_ge (tgt := 31) B dX1_clear_15 (by decide) (fun _ => ?_) (fun q => absurd (by rw [zle (by omega) (by omega)]; omega) q)
    exact xb_vret C rfl dX1_clear_31 (⟨rfl, rfl⟩)
  | succ f ih =>
    intro v hv
    refine xw_iload_n B dX1_clear_12 rfl ?_
    refine xw_bipush (v := nI 6) B dX1_clear_13 (by decide) ?_
    refine xw_icmp_ge (tgt := 31) B dX1_clear_15 (by decide) (fun q => absurd q (by rw [zle (by omega) (by omega)]; omega)) (fun _ => ?_)
    refine xw_aload_n B dX1_clear_18 rfl ?_
    refine xb_getA C 5 (by decide) rfl q245 dX1_clear_19 ?_
    refine xw_iload_n B dX1_clear_22 rfl ?_
    refine xw_iconst (v := nI 0) B dX1_clear_23 (by decide) ?_
    refine xb_iast C 5 4 5 rfl rfl (xb_s5 h d _) (by decide) dX1_clear_24 (v) (rfl) (by omega) ?_
    refine xw_iinc B dX1_clear_25 rfl (zinc v) (by decide) ?_
    refine xw_goto (tgt := 12) B dX1_clear_28 (by decide) ?_
    rw [zr_s]
    refine xw_loc [(1, .int (nI (v + 1))), (0, .ref (h 0))] ⟨rfl, rfl, trivial⟩ ?_
    exact ih (v + 1) (by omega)
theorem b_clear (σ : Sg) : XB 0 yX1_clear cX1_clear 2 none [] σ (fun r τ => r = none ∧ τ = zr (su (su σ 0 0 0) 0 7 0) 5 6) := by
  refine xb_ofI [] (by decide) rfl (Nat.le_of_ble_eq_true rfl) (fun X D h d C => ?_)
  have B := C.1
  show XW X _ 0 [(0, .ref (h 0))] []
  refine xw_aload_n B dX1_clear_0 rfl ?_
  refine xw_iconst (v := nI 0) B dX1_clear_1 (by decide) ?_
  refine xb_put (ty := .int) C 0 (by decide) (xb_f0 h d _ _) q240 rfl (by decide +kernel) (rfl) (rfl) dX1_clear_2 ?_
  refine xw_aload_n B dX1_clear_5 rfl ?_
  refine xw_iconst (v := nI 0) B dX1_clear_6 (by decide) ?_
  refine xb_put (ty := .int) C 7 (by decide) (xb_f7 h d _ _) q247 rfl (by decide +kernel) (rfl) (rfl) dX1_clear_7 ?_
  refine xw_iconst (v := nI 0) B dX1_clear_10 (by decide) ?_
  refine xw_istore_n (i := 1) B dX1_clear_11 rfl (by decide) ?_
  refine xw_loc [(1, .int (nI 0)), (0, .ref (h 0))] ⟨rfl, rfl, trivial⟩ ?_
  have := b_clear_loop _ C 6 0 (by omega)
  rw [zr_0] at this
  exact this
end
section
/-! StackSchedulerModel: openers and ends -/
theorem stk_len (g : Pg) : ∀ i, (stk g i).length ≤ i
  | 0 => by simp [stk]
  | i + 1 => by
    have ih := stk_len g i
    by_cases h8 : pK g i = 8 ∨ pK g i = 10
    · rw [stk_op h8, List.length_cons]; omega
    · by_cases h11 : pK g i = 11
      · rw [stk_en h11, List.length_tail]; omega
      · rw [dep_st (by omega) (by omega) h11]; omega
theorem b_opens (σ : Sg) (g : Pg) (S : Sm σ g) (i : Nat) (hi : i < pN g) : XB 0 yX1_opens cX1_opens 2 (some .boolean) [.int (nI i)] σ (fun r τ => τ = σ ∧ r = some (if pK g i = 8 ∨ pK g i = 10 then 1 else 0)) := by
  have hn : pN g ≤ 40 := S.1.1
  have k1 := (S.1.2 i hi).1
  have s1 := (S.2.2 i hi).1
  refine xb_ofI [nI i] (by decide) rfl (Nat.le_of_ble_eq_true rfl) (fun X D h d C => ?_)
  have B := C.1
  show XW X _ 0 [(0, .ref (h 0)), (1, .int (nI i))] []
  refine xw_aload_n B dX1_opens_0 rfl ?_
  refine xb_getA C 1 (by decide) rfl q241 dX1_opens_1 ?_
  refine xw_iload_n B dX1_opens_4 rfl ?_
  refine xb_iald C 1 0 1 rfl rfl (by decide) dX1_opens_5 (i) (rfl) (by omega) (s1) ?_
  refine xw_bipush (v := nI 8) B dX1_opens_6 (by decide) ?_
  refine xw_icmp_eq (tgt := 22) B dX1_opens_8 (by decide) (fun c1 => ?_) (fun c1 => ?_)
  · rw [zeq (by omega) (by omega)] at c1
    refine xw_iconst (v := nI 1) B dX1_opens_22 (by decide) ?_
    refine xw_goto (tgt := 27) B dX1_opens_23 (by decide) ?_
    exact xb_iret C rfl (rfl) dX1_opens_27 (⟨rfl, by rw [if_pos (Or.inl c1)]; rfl⟩)
  · rw [zeq (by omega) (by omega)] at c1
    refine xw_aload_n B dX1_opens_11 rfl ?_
    refine xb_getA C 1 (by decide) rfl q241 dX1_opens_12 ?_
    refine xw_iload_n B dX1_opens_15 rfl ?_
    refine xb_iald C 1 0 1 rfl rfl (by decide) dX1_opens_16 (i) (rfl) (by omega) (s1) ?_
    refine xw_bipush (v := nI 10) B dX1_opens_17 (by decide) ?_
    refine xw_icmp_ne (tgt := 26) B dX1_opens_19 (by decide) (fun c2 => ?_) (fun c2 => ?_)
    · rw [zeq (by omega) (by omega)] at c2
      refine xw_iconst (v := nI 0) B dX1_opens_26 (by decide) ?_
      exact xb_iret C rfl (rfl) dX1_opens_27 (⟨rfl, by rw [if_neg (by omega)]; rfl⟩)
    · rw [zeq (by omega) (by omega)] at c2
      refine xw_iconst (v := nI 1) B dX1_opens_22 (by decide) ?_
      refine xw_goto (tgt := 27) B dX1_opens_23 (by decide) ?_
      exact xb_iret C rfl (rfl) dX1_opens_27 (⟨rfl, by rw [if_pos (Or.inr c2)]; rfl⟩)
theorem b_endOf_loop (σ : Sg) (g : Pg) (S : Sm σ g) (hok : okb g (pN g) = true) (i e p : Nat) (hop : pK g i = 8 ∨ pK g i = 10) (he : e < pN g) (hk : pK g e = 11) (hst : stk g e = (i, p) :: stk g i) {X : CX} {D : va_G} {h : Nat → Nat} {d : Nat → ClassId}
    (C : CB X cX1_endOf 4 (some .int) 1 D h d (fun r τ => τ = σ ∧ r = some (nI e))) :
    ∀ (f k o : Nat), i ≤ k → k ≤ e → e < k + f → o + (stk g i).length = (stk g k).length → XW X (PB D h d σ) 4 [(3, .int (nI k)), (2, .int (nI o)), (0, .ref (h 0))] [] := by
  have B := C.1
  have hn : pN g ≤ 40 := S.1.1
  have hm : (i, p) ∈ stk g e := by rw [hst]; exact List.mem_cons_self
  have hie : i < e := (stk_lt _ hm).1
  have hee : (stk g (e + 1)).length = (stk g i).length := by rw [stk_en hk, hst]; rfl
  intro f
  induction f with
  | zero => intro k o h1 h2; omega
  | succ f ih =>
    intro k o h1 h2 h4 h5
    have hkn : k < pN g := by omega
    have hq := okb_q hkn hok
    have s1 := (S.2.2 k hkn).1
    have k1 := (S.1.2 k hkn).1
    have l1 := stk_len g k
    have l2 := stk_len g (k + 1)
    have J37 : ∀ (o : Nat), o + (stk g i).length = (stk g (k + 1)).length → XW X (PB D h d σ) 37 [(2, .int (nI o)), (3, .int (nI k)), (0, .ref (h 0))] [] := by
      intro o ho
      by_cases o0 : o = 0
      · have hke : k = e := Classical.byContradiction (fun q => by have := stk_deep hm (k := k + 1) (by omega) (by omega); omega)
        refine xw_iload_n B dX1_endOf_37 rfl ?_
        refine xw_if_ne (tgt := 43) B dX1_endOf_38 (by decide) (fun q => absurd (by rw [z0eq (by omega)]; exact o0) q) (fun _ => ?_)
        refine xw_iload_n B dX1_endOf_41 rfl ?_
        exact xb_iret C rfl (rfl) dX1_endOf_42 (⟨rfl, by rw [hke]⟩)
      · have hke : k ≠ e := fun q => by have := hee; rw [← q] at this; omega
        refine xw_iload_n B dX1_endOf_37 rfl ?_
        refine xw_if_ne (tgt := 43) B dX1_endOf_38 (by decide) (fun _ => ?_) (fun q => absurd q (by rw [z0eq (by omega)]; exact o0))
        refine xw_iinc B dX1_endOf_43 rfl (zinc k) (by decide) ?_
        refine xw_goto (tgt := 4) B dX1_endOf_46 (by decide) ?_
        refine xw_loc [(3, .int (nI (k + 1))), (2, .int (nI o)), (0, .ref (h 0))] ⟨rfl, rfl, rfl, trivial⟩ ?_
        exact ih (k + 1) o (by omega) (by omega) (by omega) ho
    refine xw_iload_n B dX1_endOf_4 rfl ?_
    refine xw_aload_n B dX1_endOf_5 rfl ?_
    refine xb_getS C 0 (by decide) rfl q240 dX1_endOf_6 (S.2.1) ?_
    refine xw_icmp_ge (tgt := 49) B dX1_endOf_9 (by decide) (fun q => absurd q (by rw [zle (by omega) (by omega)]; omega)) (fun _ => ?_)
    refine xw_aload_n B dX1_endOf_12 rfl ?_
    refine xw_iload_n B dX1_endOf_13 rfl ?_
    refine xb_calli C (lw_V q288 q290 qs24 q33 q291) hdX1_opens (by decide) (by decide) rfl (Nat.le_of_ble_eq_true rfl) dX1_endOf_14 (b_opens σ g S k hkn) rfl (fun r τ hp => ?_)
    obtain ⟨e1, e2⟩ := hp
    cases e2
    rw [e1]
    clear e1
    by_cases ho8 : pK g k = 8 ∨ pK g k = 10
    · rw [if_pos ho8]
      have e1 := dep_op ho8
      refine xw_if_eq (tgt := 23) B dX1_endOf_17 (by decide) (fun q => absurd q (by decide)) (fun _ => ?_)
      refine xw_iinc B dX1_endOf_20 rfl (zinc o) (by decide) ?_
      refine xw_aload_n B dX1_endOf_23 rfl ?_
      refine xb_getA C 1 (by decide) rfl q241 dX1_endOf_24 ?_
      refine xw_iload_n B dX1_endOf_27 rfl ?_
      refine xb_iald C 1 0 1 rfl rfl (by decide) dX1_endOf_28 (k) (rfl) (by omega) (s1) ?_
      refine xw_bipush (v := nI 11) B dX1_endOf_29 (by decide) ?_
      refine xw_icmp_ne (tgt := 37) B dX1_endOf_31 (by decide) (fun _ => ?_) (fun q => absurd q (by rw [zeq (by omega) (by omega)]; omega))
      refine xw_loc [(2, .int (nI (o + 1))), (3, .int (nI k)), (0, .ref (h 0))] ⟨rfl, rfl, rfl, trivial⟩ ?_
      exact J37 _ (by omega)
    · rw [if_neg ho8]
      have hki : k ≠ i := fun z => by rw [z] at ho8; exact ho8 hop
      have hd := stk_deep hm (k := k) (by omega) h2
      by_cases h11 : pK g k = 11
      · have e1 := dep_en hq h11
        obtain ⟨j, hj⟩ : ∃ j, o = j + 1 := ⟨o - 1, by omega⟩
        subst hj
        refine xw_if_eq (tgt := 23) B dX1_endOf_17 (by decide) (fun _ => ?_) (fun q => absurd (rfl) q)
        refine xw_aload_n B dX1_endOf_23 rfl ?_
        refine xb_getA C 1 (by decide) rfl q241 dX1_endOf_24 ?_
        refine xw_iload_n B dX1_endOf_27 rfl ?_
        refine xb_iald C 1 0 1 rfl rfl (by decide) dX1_endOf_28 (k) (rfl) (by omega) (s1) ?_
        refine xw_bipush (v := nI 11) B dX1_endOf_29 (by decide) ?_
        refine xw_icmp_ne (tgt := 37) B dX1_endOf_31 (by decide) (fun q => absurd (by rw [zeq (by omega) (by omega)]; exact h11) q) (fun _ => ?_)
        refine xw_iinc B dX1_endOf_34 rfl (zdec j) (by decide) ?_
        refine xw_loc [(2, .int (nI j)), (3, .int (nI k)), (0, .ref (h 0))] ⟨rfl, rfl, rfl, trivial⟩ ?_
        exact J37 _ (by omega)
      · have e1 := dep_st (g := g) (i := k) (by omega) (by omega) h11
        refine xw_if_eq (tgt := 23) B dX1_endOf_17 (by decide) (fun _ => ?_) (fun q => absurd (rfl) q)
        refine xw_aload_n B dX1_endOf_23 rfl ?_
        refine xb_getA C 1 (by decide) rfl q241 dX1_endOf_24 ?_
        refine xw_iload_n B dX1_endOf_27 rfl ?_
        refine xb_iald C 1 0 1 rfl rfl (by decide) dX1_endOf_28 (k) (rfl) (by omega) (s1) ?_
        refine xw_bipush (v := nI 11) B dX1_endOf_29 (by decide) ?_
        refine xw_icmp_ne (tgt := 37) B dX1_endOf_31 (by decide) (fun _ => ?_) (fun q => absurd q (by rw [zeq (by omega) (by omega)]; exact h11))
        refine xw_loc [(2, .int (nI o)), (3, .int (nI k)), (0, .ref (h 0))] ⟨rfl, rfl, rfl, trivial⟩ ?_
        exact J37 _ (by omega)
theorem b_endOf (σ : Sg) (g : Pg) (S : Sm σ g) (hok : okb g (pN g) = true) (i e p : Nat) (hop : pK g i = 8 ∨ pK g i = 10) (he : e < pN g) (hk : pK g e = 11) (hst : stk g e = (i, p) :: stk g i) : XB 1 yX1_endOf cX1_endOf 4 (some .int) [.int (nI i)] σ (fun r τ => τ = σ ∧ r = some (nI e)) := by
  have hie : i < e := (stk_lt (i, p) (by rw [hst]; exact List.mem_cons_self)).1
  refine xb_ofI [nI i] (by decide) rfl (Nat.le_of_ble_eq_true rfl) (fun X D h d C => ?_)
  have B := C.1
  show XW X _ 0 [(0, .ref (h 0)), (1, .int (nI i))] []
  refine xw_iconst (v := nI 0) B dX1_endOf_0 (by decide) ?_
  refine xw_istore_n (i := 2) B dX1_endOf_1 rfl (by decide) ?_
  refine xw_iload_n B dX1_endOf_2 rfl ?_
  refine xw_istore_n (i := 3) B dX1_endOf_3 rfl (by decide) ?_
  refine xw_loc [(3, .int (nI i)), (2, .int (nI 0)), (0, .ref (h 0))] ⟨rfl, rfl, rfl, trivial⟩ ?_
  exact b_endOf_loop σ g S hok i e p hop he hk hst C (e + 1) i 0 (Nat.le_refl _) (by omega) (by omega) (by omega)
def ov (g : Pg) (i : Nat) : Int32 := match stk g i with | [] => -1 | q :: _ => nI q.1
theorem ov_0 {g : Pg} {i : Nat} (h : stk g i = []) : ov g i = -1 := by simp [ov, h]
theorem ov_1 {g : Pg} {i : Nat} {q : Nat × Nat} {t : List (Nat × Nat)} (h : stk g i = q :: t) : ov g i = nI q.1 := by simp [ov, h]
theorem b_openerOf_loop (σ : Sg) (g : Pg) (S : Sm σ g) (i : Nat) (hi : i ≤ pN g) (hok : okb g i = true) {X : CX} {D : va_G} {h : Nat → Nat} {d : Nat → ClassId}
    (C : CB X cX1_openerOf 4 (some .int) 1 D h d (fun r τ => τ = σ ∧ r = some (ov g i))) :
    ∀ (k o : Nat), k ≤ i → o + (stk g i).length = (stk g k).length + 1 → (∀ q t, stk g i = q :: t → q.1 < k) → XW X (PB D h d σ) 6 [(3, .int (nI k - nI 1)), (2, .int (nI o)), (0, .ref (h 0))] [] := by
  have B := C.1
  have hn : pN g ≤ 40 := S.1.1
  intro k
  induction k with
  | zero =>
    intro o h1 h2 h3
    have hs : stk g i = [] := by
      cases e : stk g i with
      | nil => rfl
      | cons q t => exact absurd (h3 q t e) (by omega)
    refine xw_iload_n B dX1_openerOf_6 rfl ?_
    refine xw_if_lt (tgt := 47) B dX1_openerOf_7 (by decide) (fun _ => ?_) (fun q => absurd (by decide) q)
    refine xw_iconst (v := (-1)) B dX1_openerOf_47 (by decide) ?_
    exact xb_iret C rfl (rfl) dX1_openerOf_48 (⟨rfl, by rw [ov_0 hs]⟩)
  | succ k ih =>
    intro o h1 h2 h3
    have hkn : k < pN g := by omega
    have hq := okb_q (show k < i by omega) hok
    have s1 := (S.2.2 k hkn).1
    have k1 := (S.1.2 k hkn).1
    have l1 := stk_len g k
    have l2 := stk_len g (k + 1)
    have ez : nI (k + 1) - nI 1 = nI k := (zsub (a := k + 1) (b := 1) (by omega)).trans (by rw [Nat.add_sub_cancel])
    rw [ez]
    have J35 : ∀ (o : Nat), o + (stk g i).length = (stk g k).length + 1 → XW X (PB D h d σ) 35 [(2, .int (nI o)), (3, .int (nI k)), (0, .ref (h 0))] [] := by
      intro o ho
      by_cases o0 : o = 0
      · have hov : ov g i = nI k := by
          cases e : stk g i with
          | nil => rw [e] at ho; simp at ho; omega
          | cons q t =>
            rw [ov_1 e]
            have h4 := h3 q t e
            have h5 : (stk g i).length = (stk g q.1).length + 1 := by rw [e, stk_tl e]; rfl
            have h6 : q.1 = k := Classical.byContradiction (fun z => by
              have := stk_deep (o := q.1) (p := q.2) (e := i) (by rw [e]; exact List.mem_cons_self) (k := k) (by omega) (by omega)
              omega)
            rw [h6]
        refine xw_iload_n B dX1_openerOf_35 rfl ?_
        refine xw_if_ne (tgt := 41) B dX1_openerOf_36 (by decide) (fun q => absurd (by rw [z0eq (by omega)]; exact o0) q) (fun _ => ?_)
        refine xw_iload_n B dX1_openerOf_39 rfl ?_
        exact xb_iret C rfl (rfl) dX1_openerOf_40 (⟨rfl, by rw [hov]⟩)
      · refine xw_iload_n B dX1_openerOf_35 rfl ?_
        refine xw_if_ne (tgt := 41) B dX1_openerOf_36 (by decide) (fun _ => ?_) (fun q => absurd q (by rw [z0eq (by omega)]; exact o0))
        refine xw_iinc B dX1_openerOf_41 rfl (zpre _) (by decide) ?_
        refine xw_goto (tgt := 6) B dX1_openerOf_44 (by decide) ?_
        refine xw_loc [(3, .int (nI k - nI 1)), (2, .int (nI o)), (0, .ref (h 0))] ⟨rfl, rfl, rfl, trivial⟩ ?_
        refine ih o (by omega) ho (fun q t e => ?_)
        have h4 := h3 q t e
        have h5 : (stk g i).length = (stk g q.1).length + 1 := by rw [e, stk_tl e]; rfl
        have h6 : q.1 ≠ k := fun z => by rw [z] at h5; omega
        omega
    by_cases h11 : pK g k = 11
    · have e1 := dep_en hq h11
      refine xw_iload_n B dX1_openerOf_6 rfl ?_
      refine xw_if_lt (tgt := 47) B dX1_openerOf_7 (by decide) (fun q => absurd q (z0nl (by omega))) (fun _ => ?_)
      refine xw_aload_n B dX1_openerOf_10 rfl ?_
      refine xb_getA C 1 (by decide) rfl q241 dX1_openerOf_11 ?_
      refine xw_iload_n B dX1_openerOf_14 rfl ?_
      refine xb_iald C 1 0 1 rfl rfl (by decide) dX1_openerOf_15 (k) (rfl) (by omega) (s1) ?_
      refine xw_bipush (v := nI 11) B dX1_openerOf_16 (by decide) ?_
      refine xw_icmp_ne (tgt := 24) B dX1_openerOf_18 (by decide) (fun q => absurd (by rw [zeq (by omega) (by omega)]; exact h11) q) (fun _ => ?_)
      refine xw_iinc B dX1_openerOf_21 rfl (zinc o) (by decide) ?_
      refine xw_aload_n B dX1_openerOf_24 rfl ?_
      refine xw_iload_n B dX1_openerOf_25 rfl ?_
      refine xb_calli C (lw_V q288 q290 qs24 q33 q291) hdX1_opens (by decide) (by decide) rfl (Nat.le_of_ble_eq_true rfl) dX1_openerOf_26 (b_opens σ g S k hkn) rfl (fun r τ hp => ?_)
      obtain ⟨e1, e2⟩ := hp
      cases e2
      rw [e1]
      clear e1
      rw [if_neg (by omega)]
      refine xw_if_eq (tgt := 35) B dX1_openerOf_29 (by decide) (fun _ => ?_) (fun q => absurd (rfl) q)
      refine xw_loc [(2, .int (nI (o + 1))), (3, .int (nI k)), (0, .ref (h 0))] ⟨rfl, rfl, rfl, trivial⟩ ?_
      exact J35 _ (by omega)
    · refine xw_iload_n B dX1_openerOf_6 rfl ?_
      refine xw_if_lt (tgt := 47) B dX1_openerOf_7 (by decide) (fun q => absurd q (z0nl (by omega))) (fun _ => ?_)
      refine xw_aload_n B dX1_openerOf_10 rfl ?_
      refine xb_getA C 1 (by decide) rfl q241 dX1_openerOf_11 ?_
      refine xw_iload_n B dX1_openerOf_14 rfl ?_
      refine xb_iald C 1 0 1 rfl rfl (by decide) dX1_openerOf_15 (k) (rfl) (by omega) (s1) ?_
      refine xw_bipush (v := nI 11) B dX1_openerOf_16 (by decide) ?_
      refine xw_icmp_ne (tgt := 24) B dX1_openerOf_18 (by decide) (fun _ => ?_) (fun q => absurd q (by rw [zeq (by omega) (by omega)]; exact h11))
      refine xw_aload_n B dX1_openerOf_24 rfl ?_
      refine xw_iload_n B dX1_openerOf_25 rfl ?_
      refine xb_calli C (lw_V q288 q290 qs24 q33 q291) hdX1_opens (by decide) (by decide) rfl (Nat.le_of_ble_eq_true rfl) dX1_openerOf_26 (b_opens σ g S k hkn) rfl (fun r τ hp => ?_)
      obtain ⟨e1, e2⟩ := hp
      cases e2
      rw [e1]
      clear e1
      by_cases ho8 : pK g k = 8 ∨ pK g k = 10
      · rw [if_pos ho8]
        have e1 := dep_op ho8
        obtain ⟨j, hj⟩ : ∃ j, o = j + 1 := by
          refine ⟨o - 1, ?_⟩
          have h7 : (stk g i).length ≤ (stk g (k + 1)).length := by
            cases e : stk g i with
            | nil => simp
            | cons q t =>
              have h4 := h3 q t e
              have h5 : (stk g i).length = (stk g q.1).length + 1 := by rw [e, stk_tl e]; rfl
              have := stk_deep (o := q.1) (p := q.2) (e := i) (by rw [e]; exact List.mem_cons_self) (k := k + 1) (by omega) (by omega)
              rw [← e]
              omega
          omega
        subst hj
        refine xw_if_eq (tgt := 35) B dX1_openerOf_29 (by decide) (fun q => absurd q (by decide)) (fun _ => ?_)
        refine xw_iinc B dX1_openerOf_32 rfl (zdec j) (by decide) ?_
        refine xw_loc [(2, .int (nI j)), (3, .int (nI k)), (0, .ref (h 0))] ⟨rfl, rfl, rfl, trivial⟩ ?_
        exact J35 _ (by omega)
      · rw [if_neg ho8]
        have e1 := dep_st (g := g) (i := k) (by omega) (by omega) h11
        refine xw_if_eq (tgt := 35) B dX1_openerOf_29 (by decide) (fun _ => ?_) (fun q => absurd (rfl) q)
        refine xw_loc [(2, .int (nI o)), (3, .int (nI k)), (0, .ref (h 0))] ⟨rfl, rfl, rfl, trivial⟩ ?_
        exact J35 _ (by omega)
theorem b_openerOf (σ : Sg) (g : Pg) (S : Sm σ g) (i : Nat) (hi : i ≤ pN g) (hok : okb g i = true) : XB 1 yX1_openerOf cX1_openerOf 4 (some .int) [.int (nI i)] σ (fun r τ => τ = σ ∧ r = some (ov g i)) := by
  refine xb_ofI [nI i] (by decide) rfl (Nat.le_of_ble_eq_true rfl) (fun X D h d C => ?_)
  have B := C.1
  show XW X _ 0 [(0, .ref (h 0)), (1, .int (nI i))] []
  refine xw_iconst (v := nI 1) B dX1_openerOf_0 (by decide) ?_
  refine xw_istore_n (i := 2) B dX1_openerOf_1 rfl (by decide) ?_
  refine xw_iload_n B dX1_openerOf_2 rfl ?_
  refine xw_iconst (v := nI 1) B dX1_openerOf_3 (by decide) ?_
  refine xw_isub B dX1_openerOf_4 (rfl) ?_
  refine xw_istore_n (i := 3) B dX1_openerOf_5 rfl (by decide) ?_
  refine xw_loc [(3, .int (nI i - nI 1)), (2, .int (nI 1)), (0, .ref (h 0))] ⟨rfl, rfl, rfl, trivial⟩ ?_
  exact b_openerOf_loop σ g S i hi hok C i 1 (Nat.le_refl _) (by omega) (fun q t e => (stk_lt q (by rw [e]; exact List.mem_cons_self)).1)
end
section
/-! StackSchedulerModel: ELSE, soundness -/
theorem b_elseFits_loop (σ : Sg) (g : Pg) (S : Sm σ g) (i o p : Nat) (hi : i < pN g) (hok : okb g i = true) (hst : stk g i = (o, p) :: stk g o) {X : CX} {D : va_G} {h : Nat → Nat} {d : Nat → ClassId}
    (C : CB X cX1_elseFits 5 (some .boolean) 2 D h d (fun r τ => τ = σ ∧ r = some (bI (o == p)))) :
    ∀ (f k : Nat), o < k → k ≤ i → i < k + f → (p = o ∨ k ≤ p) → XW X (PB D h d σ) 27 [(3, .int (nI k)), (2, .int (nI o)), (1, .int (nI i)), (0, .ref (h 0))] [] := by
  have B := C.1
  have hn : pN g ≤ 40 := S.1.1
  have hm : (o, p) ∈ stk g i := by rw [hst]; exact List.mem_cons_self
  have hlt := stk_lt _ hm
  simp only at hlt
  intro f
  induction f with
  | zero => intro k h1 h2; omega
  | succ f ih =>
    intro k h1 h2 h4 h5
    by_cases hki : k < i
    · have hkn : k < pN g := by omega
      have s1 := (S.2.2 k hkn).1
      have k1 := (S.1.2 k hkn).1
      have J58 : ∀ (L : List (Nat × Value)), lk L 3 = some (.int (nI k)) → lk L 2 = some (.int (nI o)) → lk L 1 = some (.int (nI i)) → lk L 0 = some (.ref (h 0)) → p ≠ k → XW X (PB D h d σ) 58 L [] := by
        intro L a3 a2 a1 a0 hpk
        refine xw_loc [(3, .int (nI k)), (2, .int (nI o)), (1, .int (nI i)), (0, .ref (h 0))] ⟨a3, a2, a1, a0, trivial⟩ ?_
        refine xw_iinc B dX1_elseFits_58 rfl (zinc k) (by decide) ?_
        refine xw_goto (tgt := 27) B dX1_elseFits_61 (by decide) ?_
        refine xw_loc [(3, .int (nI (k + 1))), (2, .int (nI o)), (1, .int (nI i)), (0, .ref (h 0))] ⟨rfl, rfl, rfl, rfl, trivial⟩ ?_
        exact ih (k + 1) (by omega) (by omega) (by omega) (by omega)
      by_cases h9 : pK g k = 9
      · refine xw_iload_n B dX1_elseFits_27 rfl ?_
        refine xw_iload_n B dX1_elseFits_28 rfl ?_
        refine xw_icmp_ge (tgt := 64) B dX1_elseFits_29 (by decide) (fun q => absurd q (by rw [zle (by omega) (by omega)]; omega)) (fun _ => ?_)
        refine xw_aload_n B dX1_elseFits_32 rfl ?_
        refine xb_getA C 1 (by decide) rfl q241 dX1_elseFits_33 ?_
        refine xw_iload_n B dX1_elseFits_36 rfl ?_
        refine xb_iald C 1 0 1 rfl rfl (by decide) dX1_elseFits_37 (k) (rfl) (by omega) (s1) ?_
        refine xw_bipush (v := nI 9) B dX1_elseFits_38 (by decide) ?_
        refine xw_icmp_ne (tgt := 58) B dX1_elseFits_40 (by decide) (fun q => absurd (by rw [zeq (by omega) (by omega)]; exact h9) q) (fun _ => ?_)
        refine xw_aload_n B dX1_elseFits_43 rfl ?_
        refine xw_iload_n B dX1_elseFits_44 rfl ?_
        refine xb_calli C (lw_V q296 q298 qs26 q33 q299) hdX1_openerOf (by decide) (by decide) rfl (Nat.le_of_ble_eq_true rfl) dX1_elseFits_45 (b_openerOf σ g S k (by omega) (okb_le (by omega) hok)) rfl (fun r τ hp => ?_)
        obtain ⟨e1, e2⟩ := hp
        cases e2
        rw [e1]
        clear e1
        obtain ⟨p', hp'⟩ := stk_all hm k h1 h2
        cases e : stk g k with
        | nil => rw [e] at hp'; cases hp'
        | cons q t =>
          have hql := (stk_lt q (by rw [e]; exact List.mem_cons_self)).1
          rw [ov_1 e]
          by_cases hqo : q.1 = o
          · have hpk : p = k := stk_e hok o p k q.2 t hm h9 hki (by rw [e, ← hqo])
            refine xw_istore B dX1_elseFits_48 (by decide) ?_
            refine xw_iload B dX1_elseFits_50 rfl ?_
            refine xw_iload_n B dX1_elseFits_52 rfl ?_
            refine xw_icmp_ne (tgt := 58) B dX1_elseFits_53 (by decide) (fun q => absurd (by rw [hqo]) q) (fun _ => ?_)
            refine xw_iconst (v := nI 0) B dX1_elseFits_56 (by decide) ?_
            exact xb_iret C rfl (rfl) dX1_elseFits_57 (⟨rfl, by rw [show (o == p) = false by simp; omega]; rfl⟩)
          · refine xw_istore B dX1_elseFits_48 (by decide) ?_
            refine xw_iload B dX1_elseFits_50 rfl ?_
            refine xw_iload_n B dX1_elseFits_52 rfl ?_
            refine xw_icmp_ne (tgt := 58) B dX1_elseFits_53 (by decide) (fun _ => ?_) (fun q => absurd q (by rw [zeq (by omega) (by omega)]; exact hqo))
            refine J58 _ rfl rfl rfl rfl (fun hpk => ?_)
            have := (stk_p hok o p hm (by omega)).2.2.2.2
            rw [hpk, e] at this
            exact hqo (by rw [(List.cons.inj this).1])
      · refine xw_iload_n B dX1_elseFits_27 rfl ?_
        refine xw_iload_n B dX1_elseFits_28 rfl ?_
        refine xw_icmp_ge (tgt := 64) B dX1_elseFits_29 (by decide) (fun q => absurd q (by rw [zle (by omega) (by omega)]; omega)) (fun _ => ?_)
        refine xw_aload_n B dX1_elseFits_32 rfl ?_
        refine xb_getA C 1 (by decide) rfl q241 dX1_elseFits_33 ?_
        refine xw_iload_n B dX1_elseFits_36 rfl ?_
        refine xb_iald C 1 0 1 rfl rfl (by decide) dX1_elseFits_37 (k) (rfl) (by omega) (s1) ?_
        refine xw_bipush (v := nI 9) B dX1_elseFits_38 (by decide) ?_
        refine xw_icmp_ne (tgt := 58) B dX1_elseFits_40 (by decide) (fun _ => ?_) (fun q => absurd q (by rw [zeq (by omega) (by omega)]; exact h9))
        refine J58 _ rfl rfl rfl rfl (fun hpk => ?_)
        have := (stk_p hok o p hm (by omega)).2.2.1
        rw [hpk] at this
        exact h9 this
    · refine xw_iload_n B dX1_elseFits_27 rfl ?_
      refine xw_iload_n B dX1_elseFits_28 rfl ?_
      refine xw_icmp_ge (tgt := 64) B dX1_elseFits_29 (by decide) (fun _ => ?_) (fun q => absurd (by rw [zle (by omega) (by omega)]; omega) q)
      refine xw_iconst (v := nI 1) B dX1_elseFits_64 (by decide) ?_
      exact xb_iret C rfl (rfl) dX1_elseFits_65 (⟨rfl, by rw [show (o == p) = true by simp; omega]; rfl⟩)
theorem b_elseFits (σ : Sg) (g : Pg) (S : Sm σ g) (i : Nat) (hi : i < pN g) (hok : okb g i = true) (h9 : pK g i = 9) : XB 2 yX1_elseFits cX1_elseFits 5 (some .boolean) [.int (nI i)] σ (fun r τ => τ = σ ∧ r = some (bI (okq g i))) := by
  have hn : pN g ≤ 40 := S.1.1
  have hq : okq g i = (match stk g i with | [] => false | q :: _ => q.1 == q.2 && pK g q.1 == 8) := by rw [okq, if_neg (by omega), if_pos h9]; rfl
  refine xb_ofI [nI i] (by decide) rfl (Nat.le_of_ble_eq_true rfl) (fun X D h d C => ?_)
  have B := C.1
  show XW X _ 0 [(0, .ref (h 0)), (1, .int (nI i))] []
  refine xw_aload_n B dX1_elseFits_0 rfl ?_
  refine xw_iload_n B dX1_elseFits_1 rfl ?_
  refine xb_calli C (lw_V q296 q298 qs26 q33 q299) hdX1_openerOf (by decide) (by decide) rfl (Nat.le_of_ble_eq_true rfl) dX1_elseFits_2 (b_openerOf σ g S i (by omega) hok) rfl (fun r τ hp => ?_)
  obtain ⟨e1, e2⟩ := hp
  cases e2
  rw [e1]
  clear e1
  cases e : stk g i with
  | nil =>
    rw [ov_0 e]
    refine xw_istore_n (i := 2) B dX1_elseFits_5 rfl (by decide) ?_
    refine xw_iload_n B dX1_elseFits_6 rfl ?_
    refine xw_if_lt (tgt := 21) B dX1_elseFits_7 (by decide) (fun _ => ?_) (fun q => absurd (by decide) q)
    refine xw_iconst (v := nI 0) B dX1_elseFits_21 (by decide) ?_
    exact xb_iret C rfl (rfl) dX1_elseFits_22 (⟨rfl, by rw [hq, e]; rfl⟩)
  | cons q t =>
    obtain ⟨o, p⟩ := q
    have ho : ov g i = nI o := ov_1 e
    rw [ho]
    have hql := (stk_lt (o, p) (by rw [e]; exact List.mem_cons_self)).1
    simp only at hql
    have s1 := (S.2.2 o (by omega)).1
    have k1 := (S.1.2 o (by omega)).1
    by_cases h8 : pK g o = 8
    · refine xw_istore_n (i := 2) B dX1_elseFits_5 rfl (by decide) ?_
      refine xw_iload_n B dX1_elseFits_6 rfl ?_
      refine xw_if_lt (tgt := 21) B dX1_elseFits_7 (by decide) (fun q => absurd q (z0nl (by omega))) (fun _ => ?_)
      refine xw_aload_n B dX1_elseFits_10 rfl ?_
      refine xb_getA C 1 (by decide) rfl q241 dX1_elseFits_11 ?_
      refine xw_iload_n B dX1_elseFits_14 rfl ?_
      refine xb_iald C 1 0 1 rfl rfl (by decide) dX1_elseFits_15 (o) (rfl) (by omega) (s1) ?_
      refine xw_bipush (v := nI 8) B dX1_elseFits_16 (by decide) ?_
      refine xw_icmp_eq (tgt := 23) B dX1_elseFits_18 (by decide) (fun _ => ?_) (fun q => absurd (by rw [h8]) q)
      refine xw_iload_n B dX1_elseFits_23 rfl ?_
      refine xw_iconst (v := nI 1) B dX1_elseFits_24 (by decide) ?_
      refine xw_iadd B dX1_elseFits_25 (nI_add o 1) ?_
      refine xw_istore_n (i := 3) B dX1_elseFits_26 rfl (by decide) ?_
      have hb : okq g i = (o == p) := by rw [hq, e]; simp [h8]
      rw [hb] at C
      refine xw_loc [(3, .int (nI (o + 1))), (2, .int (nI o)), (1, .int (nI i)), (0, .ref (h 0))] ⟨rfl, rfl, rfl, rfl, trivial⟩ ?_
      have hst : stk g i = (o, p) :: stk g o := by rw [e, stk_tl e]
      have hm := (stk_lt (o, p) (by rw [e]; exact List.mem_cons_self)).2
      refine b_elseFits_loop σ g S i o p hi hok hst C (i + 1) (o + 1) (by omega) (by omega) (by omega) ?_
      by_cases z : p = o
      · exact Or.inl z
      · have := (stk_p hok o p (by rw [e]; exact List.mem_cons_self) z).1
        exact Or.inr this
    · refine xw_istore_n (i := 2) B dX1_elseFits_5 rfl (by decide) ?_
      refine xw_iload_n B dX1_elseFits_6 rfl ?_
      refine xw_if_lt (tgt := 21) B dX1_elseFits_7 (by decide) (fun q => absurd q (z0nl (by omega))) (fun _ => ?_)
      refine xw_aload_n B dX1_elseFits_10 rfl ?_
      refine xb_getA C 1 (by decide) rfl q241 dX1_elseFits_11 ?_
      refine xw_iload_n B dX1_elseFits_14 rfl ?_
      refine xb_iald C 1 0 1 rfl rfl (by decide) dX1_elseFits_15 (o) (rfl) (by omega) (s1) ?_
      refine xw_bipush (v := nI 8) B dX1_elseFits_16 (by decide) ?_
      refine xw_icmp_eq (tgt := 23) B dX1_elseFits_18 (by decide) (fun q => absurd q (by rw [zeq (by omega) (by omega)]; exact h8)) (fun _ => ?_)
      refine xw_iconst (v := nI 0) B dX1_elseFits_21 (by decide) ?_
      exact xb_iret C rfl (rfl) dX1_elseFits_22 (⟨rfl, by rw [hq, e]; simp [h8, bI]; rfl⟩)
theorem b_elseOf_loop (σ : Sg) (g : Pg) (S : Sm σ g) (hok : okb g (pN g) = true) (i e p : Nat) (he : e < pN g) (hst : stk g e = (i, p) :: stk g i) {X : CX} {D : va_G} {h : Nat → Nat} {d : Nat → ClassId}
    (C : CB X cX1_elseOf 5 (some .int) 2 D h d (fun r τ => τ = σ ∧ r = some (if p = i then -1 else nI p))) :
    ∀ (f k : Nat), i < k → k ≤ e → e < k + f → (p = i ∨ k ≤ p) → XW X (PB D h d σ) 10 [(3, .int (nI k)), (2, .int (nI e)), (1, .int (nI i)), (0, .ref (h 0))] [] := by
  have B := C.1
  have hn : pN g ≤ 40 := S.1.1
  have hoke := okb_le (show e ≤ pN g by omega) hok
  have hm : (i, p) ∈ stk g e := by rw [hst]; exact List.mem_cons_self
  have hlt := stk_lt _ hm
  simp only at hlt
  intro f
  induction f with
  | zero => intro k h1 h2; omega
  | succ f ih =>
    intro k h1 h2 h4 h5
    by_cases hki : k < e
    · have hkn : k < pN g := by omega
      have s1 := (S.2.2 k hkn).1
      have k1 := (S.1.2 k hkn).1
      have J41 : ∀ (L : List (Nat × Value)), lk L 3 = some (.int (nI k)) → lk L 2 = some (.int (nI e)) → lk L 1 = some (.int (nI i)) → lk L 0 = some (.ref (h 0)) → p ≠ k → XW X (PB D h d σ) 41 L [] := by
        intro L a3 a2 a1 a0 hpk
        refine xw_loc [(3, .int (nI k)), (2, .int (nI e)), (1, .int (nI i)), (0, .ref (h 0))] ⟨a3, a2, a1, a0, trivial⟩ ?_
        refine xw_iinc B dX1_elseOf_41 rfl (zinc k) (by decide) ?_
        refine xw_goto (tgt := 10) B dX1_elseOf_44 (by decide) ?_
        refine xw_loc [(3, .int (nI (k + 1))), (2, .int (nI e)), (1, .int (nI i)), (0, .ref (h 0))] ⟨rfl, rfl, rfl, rfl, trivial⟩ ?_
        exact ih (k + 1) (by omega) (by omega) (by omega) (by omega)
      by_cases h9 : pK g k = 9
      · refine xw_iload_n B dX1_elseOf_10 rfl ?_
        refine xw_iload_n B dX1_elseOf_11 rfl ?_
        refine xw_icmp_ge (tgt := 47) B dX1_elseOf_12 (by decide) (fun q => absurd q (by rw [zle (by omega) (by omega)]; omega)) (fun _ => ?_)
        refine xw_aload_n B dX1_elseOf_15 rfl ?_
        refine xb_getA C 1 (by decide) rfl q241 dX1_elseOf_16 ?_
        refine xw_iload_n B dX1_elseOf_19 rfl ?_
        refine xb_iald C 1 0 1 rfl rfl (by decide) dX1_elseOf_20 (k) (rfl) (by omega) (s1) ?_
        refine xw_bipush (v := nI 9) B dX1_elseOf_21 (by decide) ?_
        refine xw_icmp_ne (tgt := 41) B dX1_elseOf_23 (by decide) (fun q => absurd (by rw [zeq (by omega) (by omega)]; exact h9) q) (fun _ => ?_)
        refine xw_aload_n B dX1_elseOf_26 rfl ?_
        refine xw_iload_n B dX1_elseOf_27 rfl ?_
        refine xb_calli C (lw_V q296 q298 qs26 q33 q299) hdX1_openerOf (by decide) (by decide) rfl (Nat.le_of_ble_eq_true rfl) dX1_elseOf_28 (b_openerOf σ g S k (by omega) (okb_le (by omega) hok)) rfl (fun r τ hp => ?_)
        obtain ⟨e1, e2⟩ := hp
        cases e2
        rw [e1]
        clear e1
        obtain ⟨p', hp'⟩ := stk_all hm k h1 h2
        cases ek : stk g k with
        | nil => rw [ek] at hp'; cases hp'
        | cons q t =>
          have hql := (stk_lt q (by rw [ek]; exact List.mem_cons_self)).1
          rw [ov_1 ek]
          by_cases hqo : q.1 = i
          · have hpk : p = k := stk_e hoke i p k q.2 t hm h9 hki (by rw [ek, ← hqo])
            refine xw_istore B dX1_elseOf_31 (by decide) ?_
            refine xw_iload B dX1_elseOf_33 rfl ?_
            refine xw_iload_n B dX1_elseOf_35 rfl ?_
            refine xw_icmp_ne (tgt := 41) B dX1_elseOf_36 (by decide) (fun q => absurd (by rw [hqo]) q) (fun _ => ?_)
            refine xw_iload_n B dX1_elseOf_39 rfl ?_
            exact xb_iret C rfl (rfl) dX1_elseOf_40 (⟨rfl, by rw [if_neg (by omega), hpk]⟩)
          · refine xw_istore B dX1_elseOf_31 (by decide) ?_
            refine xw_iload B dX1_elseOf_33 rfl ?_
            refine xw_iload_n B dX1_elseOf_35 rfl ?_
            refine xw_icmp_ne (tgt := 41) B dX1_elseOf_36 (by decide) (fun _ => ?_) (fun q => absurd q (by rw [zeq (by omega) (by omega)]; exact hqo))
            refine J41 _ rfl rfl rfl rfl (fun hpk => ?_)
            have := (stk_p hoke i p hm (by omega)).2.2.2.2
            rw [hpk, ek] at this
            exact hqo (by rw [(List.cons.inj this).1])
      · refine xw_iload_n B dX1_elseOf_10 rfl ?_
        refine xw_iload_n B dX1_elseOf_11 rfl ?_
        refine xw_icmp_ge (tgt := 47) B dX1_elseOf_12 (by decide) (fun q => absurd q (by rw [zle (by omega) (by omega)]; omega)) (fun _ => ?_)
        refine xw_aload_n B dX1_elseOf_15 rfl ?_
        refine xb_getA C 1 (by decide) rfl q241 dX1_elseOf_16 ?_
        refine xw_iload_n B dX1_elseOf_19 rfl ?_
        refine xb_iald C 1 0 1 rfl rfl (by decide) dX1_elseOf_20 (k) (rfl) (by omega) (s1) ?_
        refine xw_bipush (v := nI 9) B dX1_elseOf_21 (by decide) ?_
        refine xw_icmp_ne (tgt := 41) B dX1_elseOf_23 (by decide) (fun _ => ?_) (fun q => absurd q (by rw [zeq (by omega) (by omega)]; exact h9))
        refine J41 _ rfl rfl rfl rfl (fun hpk => ?_)
        have := (stk_p hoke i p hm (by omega)).2.2.1
        rw [hpk] at this
        exact h9 this
    · refine xw_iload_n B dX1_elseOf_10 rfl ?_
      refine xw_iload_n B dX1_elseOf_11 rfl ?_
      refine xw_icmp_ge (tgt := 47) B dX1_elseOf_12 (by decide) (fun _ => ?_) (fun q => absurd (by rw [zle (by omega) (by omega)]; omega) q)
      refine xw_iconst (v := (-1)) B dX1_elseOf_47 (by decide) ?_
      exact xb_iret C rfl (rfl) dX1_elseOf_48 (⟨rfl, by rw [if_pos (by omega)]⟩)
theorem b_elseOf (σ : Sg) (g : Pg) (S : Sm σ g) (hok : okb g (pN g) = true) (i e p : Nat) (hop : pK g i = 8 ∨ pK g i = 10) (he : e < pN g) (hk : pK g e = 11) (hst : stk g e = (i, p) :: stk g i) : XB 2 yX1_elseOf cX1_elseOf 5 (some .int) [.int (nI i)] σ (fun r τ => τ = σ ∧ r = some (if p = i then -1 else nI p)) := by
  have hm : (i, p) ∈ stk g e := by rw [hst]; exact List.mem_cons_self
  have hlt := stk_lt _ hm
  simp only at hlt
  refine xb_ofI [nI i] (by decide) rfl (Nat.le_of_ble_eq_true rfl) (fun X D h d C => ?_)
  have B := C.1
  show XW X _ 0 [(0, .ref (h 0)), (1, .int (nI i))] []
  refine xw_aload_n B dX1_elseOf_0 rfl ?_
  refine xw_iload_n B dX1_elseOf_1 rfl ?_
  refine xb_calli C (lw_V q313 q315 qs28 q33 q316) hdX1_endOf (by decide) (by decide) rfl (Nat.le_of_ble_eq_true rfl) dX1_elseOf_2 (b_endOf σ g S hok i e p hop he hk hst) rfl (fun r τ hp => ?_)
  obtain ⟨e1, e2⟩ := hp
  cases e2
  rw [e1]
  clear e1
  refine xw_istore_n (i := 2) B dX1_elseOf_5 rfl (by decide) ?_
  refine xw_iload_n B dX1_elseOf_6 rfl ?_
  refine xw_iconst (v := nI 1) B dX1_elseOf_7 (by decide) ?_
  refine xw_iadd B dX1_elseOf_8 (nI_add i 1) ?_
  refine xw_istore_n (i := 3) B dX1_elseOf_9 rfl (by decide) ?_
  refine xw_loc [(3, .int (nI (i + 1))), (2, .int (nI e)), (1, .int (nI i)), (0, .ref (h 0))] ⟨rfl, rfl, rfl, rfl, trivial⟩ ?_
  refine b_elseOf_loop σ g S hok i e p he hst C (e + 1) (i + 1) (by omega) (by omega) (by omega) ?_
  by_cases z : p = i
  · exact Or.inl z
  · exact Or.inr (stk_p (okb_le (by omega) hok) i p hm z).1
theorem b_sound_loop (σ : Sg) (g : Pg) (S : Sm σ g) {X : CX} {D : va_G} {h : Nat → Nat} {d : Nat → ClassId}
    (C : CB X cX1_sound 3 (some .boolean) 3 D h d (fun r τ => τ = σ ∧ r = some (bI (snd g)))) :
    ∀ (f i : Nat), i ≤ pN g → pN g < i + f → okb g i = true → (stk g i).length ≤ 3 → XW X (PB D h d σ) 4 [(2, .int (nI i)), (1, .int (nI (stk g i).length)), (0, .ref (h 0))] [] := by
  have B := C.1
  have hn : pN g ≤ 40 := S.1.1
  intro f
  induction f with
  | zero => intro i h1 h2; omega
  | succ f ih =>
    intro i h1 h2 hok hs3
    by_cases hi : i < pN g
    · have s1 := (S.2.2 i hi).1
      have k1 := (S.1.2 i hi).1
      have J69 : ∀ (o : Nat), okq g i = true → o = (stk g (i + 1)).length → o ≤ 3 → XW X (PB D h d σ) 69 [(1, .int (nI o)), (2, .int (nI i)), (0, .ref (h 0))] [] := by
        intro o hq ho ho3
        subst ho
        refine xw_iinc B dX1_sound_69 rfl (zinc i) (by decide) ?_
        refine xw_goto (tgt := 4) B dX1_sound_72 (by decide) ?_
        refine xw_loc [(2, .int (nI (i + 1))), (1, .int (nI (stk g (i + 1)).length)), (0, .ref (h 0))] ⟨rfl, rfl, rfl, trivial⟩ ?_
        exact ih (i + 1) (by omega) (by omega) (by rw [okb, hok, hq]; rfl) ho3
      refine xw_iload_n B dX1_sound_4 rfl ?_
      refine xw_aload_n B dX1_sound_5 rfl ?_
      refine xb_getS C 0 (by decide) rfl q240 dX1_sound_6 (S.2.1) ?_
      refine xw_icmp_ge (tgt := 75) B dX1_sound_9 (by decide) (fun q => absurd q (by rw [zle (by omega) (by omega)]; omega)) (fun _ => ?_)
      refine xw_aload_n B dX1_sound_12 rfl ?_
      refine xw_iload_n B dX1_sound_13 rfl ?_
      refine xb_calli C (lw_V q288 q290 qs24 q33 q291) hdX1_opens (by decide) (by decide) rfl (Nat.le_of_ble_eq_true rfl) dX1_sound_14 (b_opens σ g S i hi) rfl (fun r τ hp => ?_)
      obtain ⟨e1, e2⟩ := hp
      cases e2
      rw [e1]
      clear e1
      by_cases h8 : pK g i = 8 ∨ pK g i = 10
      · rw [if_pos h8]
        have e1 := dep_op h8
        have hq : okq g i = decide ((stk g i).length < 3) := by rw [okq, if_pos h8]
        by_cases hl : (stk g i).length < 3
        · refine xw_if_eq (tgt := 23) B dX1_sound_17 (by decide) (fun q => absurd q (by decide)) (fun _ => ?_)
          refine xw_iinc B dX1_sound_20 rfl (zinc _) (by decide) ?_
          refine xw_aload_n B dX1_sound_23 rfl ?_
          refine xb_getA C 1 (by decide) rfl q241 dX1_sound_24 ?_
          refine xw_iload_n B dX1_sound_27 rfl ?_
          refine xb_iald C 1 0 1 rfl rfl (by decide) dX1_sound_28 (i) (rfl) (by omega) (s1) ?_
          refine xw_bipush (v := nI 11) B dX1_sound_29 (by decide) ?_
          refine xw_icmp_ne (tgt := 37) B dX1_sound_31 (by decide) (fun _ => ?_) (fun q => absurd q (by rw [zeq (by omega) (by omega)]; omega))
          refine xw_iload_n B dX1_sound_37 rfl ?_
          refine xw_if_lt (tgt := 46) B dX1_sound_38 (by decide) (fun q => absurd q (z0nl (by omega))) (fun _ => ?_)
          refine xw_iload_n B dX1_sound_41 rfl ?_
          refine xw_iconst (v := nI 3) B dX1_sound_42 (by decide) ?_
          refine xw_icmp_le (tgt := 48) B dX1_sound_43 (by decide) (fun _ => ?_) (fun q => absurd (by rw [zle (by omega) (by omega)]; omega) q)
          refine xw_aload_n B dX1_sound_48 rfl ?_
          refine xb_getA C 1 (by decide) rfl q241 dX1_sound_49 ?_
          refine xw_iload_n B dX1_sound_52 rfl ?_
          refine xb_iald C 1 0 1 rfl rfl (by decide) dX1_sound_53 (i) (rfl) (by omega) (s1) ?_
          refine xw_bipush (v := nI 9) B dX1_sound_54 (by decide) ?_
          refine xw_icmp_ne (tgt := 69) B dX1_sound_56 (by decide) (fun _ => ?_) (fun q => absurd q (by rw [zeq (by omega) (by omega)]; omega))
          refine xw_loc [(1, .int (nI ((stk g i).length + 1))), (2, .int (nI i)), (0, .ref (h 0))] ⟨rfl, rfl, rfl, trivial⟩ ?_
          exact J69 _ (by rw [hq]; simpa using hl) (by omega) (by omega)
        · refine xw_if_eq (tgt := 23) B dX1_sound_17 (by decide) (fun q => absurd q (by decide)) (fun _ => ?_)
          refine xw_iinc B dX1_sound_20 rfl (zinc _) (by decide) ?_
          refine xw_aload_n B dX1_sound_23 rfl ?_
          refine xb_getA C 1 (by decide) rfl q241 dX1_sound_24 ?_
          refine xw_iload_n B dX1_sound_27 rfl ?_
          refine xb_iald C 1 0 1 rfl rfl (by decide) dX1_sound_28 (i) (rfl) (by omega) (s1) ?_
          refine xw_bipush (v := nI 11) B dX1_sound_29 (by decide) ?_
          refine xw_icmp_ne (tgt := 37) B dX1_sound_31 (by decide) (fun _ => ?_) (fun q => absurd q (by rw [zeq (by omega) (by omega)]; omega))
          refine xw_iload_n B dX1_sound_37 rfl ?_
          refine xw_if_lt (tgt := 46) B dX1_sound_38 (by decide) (fun q => absurd q (z0nl (by omega))) (fun _ => ?_)
          refine xw_iload_n B dX1_sound_41 rfl ?_
          refine xw_iconst (v := nI 3) B dX1_sound_42 (by decide) ?_
          refine xw_icmp_le (tgt := 48) B dX1_sound_43 (by decide) (fun q => absurd q (by rw [zle (by omega) (by omega)]; omega)) (fun _ => ?_)
          refine xw_iconst (v := nI 0) B dX1_sound_46 (by decide) ?_
          exact xb_iret C rfl (rfl) dX1_sound_47 (⟨rfl, by rw [snd_no hi (by rw [hq]; simpa using hl)]; rfl⟩)
      · rw [if_neg h8]
        by_cases h11 : pK g i = 11
        · have hq : okq g i = !(stk g i).isEmpty := by rw [okq, if_neg h8, if_neg (by omega), if_pos h11]
          cases e : stk g i with
          | nil =>
            refine xw_if_eq (tgt := 23) B dX1_sound_17 (by decide) (fun _ => ?_) (fun q => absurd (rfl) q)
            refine xw_aload_n B dX1_sound_23 rfl ?_
            refine xb_getA C 1 (by decide) rfl q241 dX1_sound_24 ?_
            refine xw_iload_n B dX1_sound_27 rfl ?_
            refine xb_iald C 1 0 1 rfl rfl (by decide) dX1_sound_28 (i) (rfl) (by omega) (s1) ?_
            refine xw_bipush (v := nI 11) B dX1_sound_29 (by decide) ?_
            refine xw_icmp_ne (tgt := 37) B dX1_sound_31 (by decide) (fun q => absurd (by rw [zeq (by omega) (by omega)]; exact h11) q) (fun _ => ?_)
            refine xw_iinc B dX1_sound_34 rfl (rfl) (by decide) ?_
            refine xw_iload_n B dX1_sound_37 rfl ?_
            refine xw_if_lt (tgt := 46) B dX1_sound_38 (by decide) (fun _ => ?_) (fun q => absurd (by decide) q)
            refine xw_iconst (v := nI 0) B dX1_sound_46 (by decide) ?_
            exact xb_iret C rfl (rfl) dX1_sound_47 (⟨rfl, by rw [snd_no hi (by rw [hq, e]; rfl)]; rfl⟩)
          | cons q t =>
            rw [e, List.length_cons] at hs3
            have e1 : stk g (i + 1) = t := by rw [stk_en h11, e]; rfl
            refine xw_if_eq (tgt := 23) B dX1_sound_17 (by decide) (fun _ => ?_) (fun q => absurd (rfl) q)
            refine xw_aload_n B dX1_sound_23 rfl ?_
            refine xb_getA C 1 (by decide) rfl q241 dX1_sound_24 ?_
            refine xw_iload_n B dX1_sound_27 rfl ?_
            refine xb_iald C 1 0 1 rfl rfl (by decide) dX1_sound_28 (i) (rfl) (by omega) (s1) ?_
            refine xw_bipush (v := nI 11) B dX1_sound_29 (by decide) ?_
            refine xw_icmp_ne (tgt := 37) B dX1_sound_31 (by decide) (fun q => absurd (by rw [zeq (by omega) (by omega)]; exact h11) q) (fun _ => ?_)
            refine xw_iinc B dX1_sound_34 rfl (zdec t.length) (by decide) ?_
            refine xw_iload_n B dX1_sound_37 rfl ?_
            refine xw_if_lt (tgt := 46) B dX1_sound_38 (by decide) (fun q => absurd q (z0nl (by omega))) (fun _ => ?_)
            refine xw_iload_n B dX1_sound_41 rfl ?_
            refine xw_iconst (v := nI 3) B dX1_sound_42 (by decide) ?_
            refine xw_icmp_le (tgt := 48) B dX1_sound_43 (by decide) (fun _ => ?_) (fun q => absurd (by rw [zle (by omega) (by omega)]; omega) q)
            refine xw_aload_n B dX1_sound_48 rfl ?_
            refine xb_getA C 1 (by decide) rfl q241 dX1_sound_49 ?_
            refine xw_iload_n B dX1_sound_52 rfl ?_
            refine xb_iald C 1 0 1 rfl rfl (by decide) dX1_sound_53 (i) (rfl) (by omega) (s1) ?_
            refine xw_bipush (v := nI 9) B dX1_sound_54 (by decide) ?_
            refine xw_icmp_ne (tgt := 69) B dX1_sound_56 (by decide) (fun _ => ?_) (fun q => absurd q (by rw [zeq (by omega) (by omega)]; omega))
            refine xw_loc [(1, .int (nI t.length)), (2, .int (nI i)), (0, .ref (h 0))] ⟨rfl, rfl, rfl, trivial⟩ ?_
            exact J69 _ (by rw [hq, e]; rfl) (by rw [e1]) (by omega)
        · have e1 := dep_st (g := g) (i := i) (by omega) (by omega) h11
          by_cases h9 : pK g i = 9
          · refine xw_if_eq (tgt := 23) B dX1_sound_17 (by decide) (fun _ => ?_) (fun q => absurd (rfl) q)
            refine xw_aload_n B dX1_sound_23 rfl ?_
            refine xb_getA C 1 (by decide) rfl q241 dX1_sound_24 ?_
            refine xw_iload_n B dX1_sound_27 rfl ?_
            refine xb_iald C 1 0 1 rfl rfl (by decide) dX1_sound_28 (i) (rfl) (by omega) (s1) ?_
            refine xw_bipush (v := nI 11) B dX1_sound_29 (by decide) ?_
            refine xw_icmp_ne (tgt := 37) B dX1_sound_31 (by decide) (fun _ => ?_) (fun q => absurd q (by rw [zeq (by omega) (by omega)]; exact h11))
            refine xw_iload_n B dX1_sound_37 rfl ?_
            refine xw_if_lt (tgt := 46) B dX1_sound_38 (by decide) (fun q => absurd q (z0nl (by omega))) (fun _ => ?_)
            refine xw_iload_n B dX1_sound_41 rfl ?_
            refine xw_iconst (v := nI 3) B dX1_sound_42 (by decide) ?_
            refine xw_icmp_le (tgt := 48) B dX1_sound_43 (by decide) (fun _ => ?_) (fun q => absurd (by rw [zle (by omega) (by omega)]; omega) q)
            refine xw_aload_n B dX1_sound_48 rfl ?_
            refine xb_getA C 1 (by decide) rfl q241 dX1_sound_49 ?_
            refine xw_iload_n B dX1_sound_52 rfl ?_
            refine xb_iald C 1 0 1 rfl rfl (by decide) dX1_sound_53 (i) (rfl) (by omega) (s1) ?_
            refine xw_bipush (v := nI 9) B dX1_sound_54 (by decide) ?_
            refine xw_icmp_ne (tgt := 69) B dX1_sound_56 (by decide) (fun q => absurd (by rw [zeq (by omega) (by omega)]; exact h9) q) (fun _ => ?_)
            refine xw_aload_n B dX1_sound_59 rfl ?_
            refine xw_iload_n B dX1_sound_60 rfl ?_
            refine xb_calli C (lw_V q292 q294 qs25 q33 q295) hdX1_elseFits (by decide) (by decide) rfl (Nat.le_of_ble_eq_true rfl) dX1_sound_61 (b_elseFits σ g S i hi hok h9) rfl (fun r τ hp => ?_)
            obtain ⟨e1, e2⟩ := hp
            cases e2
            rw [e1]
            clear e1
            cases hq : okq g i with
            | true =>
              refine xw_if_ne (tgt := 69) B dX1_sound_64 (by decide) (fun _ => ?_) (fun q => absurd q (by decide))
              refine xw_loc [(1, .int (nI (stk g i).length)), (2, .int (nI i)), (0, .ref (h 0))] ⟨rfl, rfl, rfl, trivial⟩ ?_
              exact J69 _ hq e1.symm hs3
            | false =>
              refine xw_if_ne (tgt := 69) B dX1_sound_64 (by decide) (fun q => absurd (rfl) q) (fun _ => ?_)
              refine xw_iconst (v := nI 0) B dX1_sound_67 (by decide) ?_
              exact xb_iret C rfl (rfl) dX1_sound_68 (⟨rfl, by rw [snd_no hi hq]; rfl⟩)
          · refine xw_if_eq (tgt := 23) B dX1_sound_17 (by decide) (fun _ => ?_) (fun q => absurd (rfl) q)
            refine xw_aload_n B dX1_sound_23 rfl ?_
            refine xb_getA C 1 (by decide) rfl q241 dX1_sound_24 ?_
            refine xw_iload_n B dX1_sound_27 rfl ?_
            refine xb_iald C 1 0 1 rfl rfl (by decide) dX1_sound_28 (i) (rfl) (by omega) (s1) ?_
            refine xw_bipush (v := nI 11) B dX1_sound_29 (by decide) ?_
            refine xw_icmp_ne (tgt := 37) B dX1_sound_31 (by decide) (fun _ => ?_) (fun q => absurd q (by rw [zeq (by omega) (by omega)]; exact h11))
            refine xw_iload_n B dX1_sound_37 rfl ?_
            refine xw_if_lt (tgt := 46) B dX1_sound_38 (by decide) (fun q => absurd q (z0nl (by omega))) (fun _ => ?_)
            refine xw_iload_n B dX1_sound_41 rfl ?_
            refine xw_iconst (v := nI 3) B dX1_sound_42 (by decide) ?_
            refine xw_icmp_le (tgt := 48) B dX1_sound_43 (by decide) (fun _ => ?_) (fun q => absurd (by rw [zle (by omega) (by omega)]; omega) q)
            refine xw_aload_n B dX1_sound_48 rfl ?_
            refine xb_getA C 1 (by decide) rfl q241 dX1_sound_49 ?_
            refine xw_iload_n B dX1_sound_52 rfl ?_
            refine xb_iald C 1 0 1 rfl rfl (by decide) dX1_sound_53 (i) (rfl) (by omega) (s1) ?_
            refine xw_bipush (v := nI 9) B dX1_sound_54 (by decide) ?_
            refine xw_icmp_ne (tgt := 69) B dX1_sound_56 (by decide) (fun _ => ?_) (fun q => absurd q (by rw [zeq (by omega) (by omega)]; exact h9))
            refine xw_loc [(1, .int (nI (stk g i).length)), (2, .int (nI i)), (0, .ref (h 0))] ⟨rfl, rfl, rfl, trivial⟩ ?_
            exact J69 _ (by rw [okq, if_neg h8, if_neg h9, if_neg h11]) e1.symm hs3
    · have ei : i = pN g := by omega
      by_cases c2 : (stk g i).length = 0
      · refine xw_iload_n B dX1_sound_4 rfl ?_
        refine xw_aload_n B dX1_sound_5 rfl ?_
        refine xb_getS C 0 (by decide) rfl q240 dX1_sound_6 (S.2.1) ?_
        refine xw_icmp_ge (tgt := 75) B dX1_sound_9 (by decide) (fun _ => ?_) (fun q => absurd (by rw [zle (by omega) (by omega)]; omega) q)
        refine xw_iload_n B dX1_sound_75 rfl ?_
        refine xw_if_ne (tgt := 83) B dX1_sound_76 (by decide) (fun q => absurd (by rw [c2]; rfl) q) (fun _ => ?_)
        refine xw_iconst (v := nI 1) B dX1_sound_79 (by decide) ?_
        refine xw_goto (tgt := 84) B dX1_sound_80 (by decide) ?_
        have : snd g = true := by
          rw [snd, ← ei, hok]
          cases e : stk g i with
          | nil => rfl
          | cons a b => rw [e] at c2; simp at c2
        exact xb_iret C rfl (rfl) dX1_sound_84 (⟨rfl, by rw [this]; rfl⟩)
      · refine xw_iload_n B dX1_sound_4 rfl ?_
        refine xw_aload_n B dX1_sound_5 rfl ?_
        refine xb_getS C 0 (by decide) rfl q240 dX1_sound_6 (S.2.1) ?_
        refine xw_icmp_ge (tgt := 75) B dX1_sound_9 (by decide) (fun _ => ?_) (fun q => absurd (by rw [zle (by omega) (by omega)]; omega) q)
        refine xw_iload_n B dX1_sound_75 rfl ?_
        refine xw_if_ne (tgt := 83) B dX1_sound_76 (by decide) (fun _ => ?_) (fun q => absurd q (by rw [z0eq (by omega)]; exact c2))
        refine xw_iconst (v := nI 0) B dX1_sound_83 (by decide) ?_
        have : snd g = false := by
          rw [snd, ← ei, hok]
          cases e : stk g i with
          | nil => rw [e] at c2; simp at c2
          | cons a b => rfl
        exact xb_iret C rfl (rfl) dX1_sound_84 (⟨rfl, by rw [this]; rfl⟩)
theorem b_sound (σ : Sg) (g : Pg) (S : Sm σ g) : XB 3 yX1_sound cX1_sound 3 (some .boolean) [] σ (fun r τ => τ = σ ∧ r = some (bI (snd g))) := by
  refine xb_ofI [] (by decide) rfl (Nat.le_of_ble_eq_true rfl) (fun X D h d C => ?_)
  have B := C.1
  show XW X _ 0 [(0, .ref (h 0))] []
  refine xw_iconst (v := nI 0) B dX1_sound_0 (by decide) ?_
  refine xw_istore_n (i := 1) B dX1_sound_1 rfl (by decide) ?_
  refine xw_iconst (v := nI 0) B dX1_sound_2 (by decide) ?_
  refine xw_istore_n (i := 2) B dX1_sound_3 rfl (by decide) ?_
  refine xw_loc [(2, .int (nI 0)), (1, .int (nI (stk g 0).length)), (0, .ref (h 0))] ⟨rfl, rfl, rfl, trivial⟩ ?_
  exact b_sound_loop σ g S C (pN g + 1) 0 (by omega) (by omega) rfl (by simp [stk])
end
section
/-! StackSchedulerModel: a plain statement, a pass, the run -/
/-- what a plain statement writes -/
def mpl (g : Pg) (i : Nat) (v : Nat → Int32) : Int32 := if pK g i = 0 then pI g i else if pK g i = 1 then v (pB g i) else cmp (pK g i) (v (pB g i)) (v (pC g i))
theorem b_plain (σ : Sg) (g : Pg) (S : Sm σ g) (i : Nat) (hi : i < pN g) (hk7 : pK g i ≤ 7) (k : Nat) (hk : k < 2 ^ 30) (h7 : σ 0 7 = nI k) : XB 0 yX1_plain cX1_plain 2 none [.int (nI i)] σ (fun r τ => r = none ∧ (pK g i ≤ 6 → τ = su σ 5 (pA g i) (mpl g i (σ 5))) ∧ (pK g i = 7 → τ = su (if k < 64 then su σ 6 k (σ 5 (pA g i)) else σ) 0 7 (nI (k + 1)))) := by
  have hn : pN g ≤ 40 := S.1.1
  obtain ⟨k1, k2, k3, k4⟩ := S.1.2 i hi
  obtain ⟨s1, s2, s3, s4, s5⟩ := S.2.2 i hi
  have hA := k2 (by omega) (by omega)
  have sA := s2 (by omega) (by omega)
  refine xb_ofI [nI i] (by decide) rfl (Nat.le_of_ble_eq_true rfl) (fun X D h d C => ?_)
  have B := C.1
  show XW X _ 0 [(0, .ref (h 0)), (1, .int (nI i))] []
  by_cases e0 : pK g i = 0
  · refine xw_aload_n B dX1_plain_0 rfl ?_
    refine xb_getA C 1 (by decide) rfl q241 dX1_plain_1 ?_
    refine xw_iload_n B dX1_plain_4 rfl ?_
    refine xb_iald C 1 0 1 rfl rfl (by decide) dX1_plain_5 (i) (rfl) (by omega) (s1) ?_
    refine xw_if_ne (tgt := 26) B dX1_plain_6 (by decide) (fun q => absurd (by rw [z0eq (by omega)]; exact e0) q) (fun _ => ?_)
    refine xw_aload_n B dX1_plain_9 rfl ?_
    refine xb_getA C 5 (by decide) rfl q245 dX1_plain_10 ?_
    refine xw_aload_n B dX1_plain_13 rfl ?_
    refine xb_getA C 2 (by decide) rfl q242 dX1_plain_14 ?_
    refine xw_iload_n B dX1_plain_17 rfl ?_
    refine xb_iald C 2 1 2 rfl rfl (by decide) dX1_plain_18 (i) (rfl) (by omega) (sA) ?_
    refine xw_aload_n B dX1_plain_19 rfl ?_
    refine xb_getA C 3 (by decide) rfl q243 dX1_plain_20 ?_
    refine xw_iload_n B dX1_plain_23 rfl ?_
    refine xb_iald C 3 2 3 rfl rfl (by decide) dX1_plain_24 (i) (rfl) (by omega) (s3 e0) ?_
    refine xb_iast C 5 4 5 rfl rfl (xb_s5 h d _) (by decide) dX1_plain_25 (pA g i) (rfl) (by omega) ?_
    refine xw_aload_n B dX1_plain_26 rfl ?_
    refine xb_getA C 1 (by decide) rfl q241 dX1_plain_27 ?_
    refine xw_iload_n B dX1_plain_30 rfl ?_
    refine xb_iald C 1 0 1 rfl rfl (by decide) dX1_plain_31 (i) (rfl) (by omega) (s1) ?_
    refine xw_iconst (v := nI 1) B dX1_plain_32 (by decide) ?_
    refine xw_icmp_ne (tgt := 58) B dX1_plain_33 (by decide) (fun _ => ?_) (fun q => absurd q (by rw [zeq (by omega) (by omega)]; omega))
    refine xw_aload_n B dX1_plain_58 rfl ?_
    refine xb_getA C 1 (by decide) rfl q241 dX1_plain_59 ?_
    refine xw_iload_n B dX1_plain_62 rfl ?_
    refine xb_iald C 1 0 1 rfl rfl (by decide) dX1_plain_63 (i) (rfl) (by omega) (s1) ?_
    refine xw_iconst (v := nI 2) B dX1_plain_64 (by decide) ?_
    refine xw_icmp_ne (tgt := 102) B dX1_plain_65 (by decide) (fun _ => ?_) (fun q => absurd q (by rw [zeq (by omega) (by omega)]; omega))
    refine xw_aload_n B dX1_plain_102 rfl ?_
    refine xb_getA C 1 (by decide) rfl q241 dX1_plain_103 ?_
    refine xw_iload_n B dX1_plain_106 rfl ?_
    refine xb_iald C 1 0 1 rfl rfl (by decide) dX1_plain_107 (i) (rfl) (by omega) (s1) ?_
    refine xw_iconst (v := nI 3) B dX1_plain_108 (by decide) ?_
    refine xw_icmp_ne (tgt := 146) B dX1_plain_109 (by decide) (fun _ => ?_) (fun q => absurd q (by rw [zeq (by omega) (by omega)]; omega))
    refine xw_aload_n B dX1_plain_146 rfl ?_
    refine xb_getA C 1 (by decide) rfl q241 dX1_plain_147 ?_
    refine xw_iload_n B dX1_plain_150 rfl ?_
    refine xb_iald C 1 0 1 rfl rfl (by decide) dX1_plain_151 (i) (rfl) (by omega) (s1) ?_
    refine xw_iconst (v := nI 4) B dX1_plain_152 (by decide) ?_
    refine xw_icmp_ne (tgt := 190) B dX1_plain_153 (by decide) (fun _ => ?_) (fun q => absurd q (by rw [zeq (by omega) (by omega)]; omega))
    refine xw_aload_n B dX1_plain_190 rfl ?_
    refine xb_getA C 1 (by decide) rfl q241 dX1_plain_191 ?_
    refine xw_iload_n B dX1_plain_194 rfl ?_
    refine xb_iald C 1 0 1 rfl rfl (by decide) dX1_plain_195 (i) (rfl) (by omega) (s1) ?_
    refine xw_iconst (v := nI 5) B dX1_plain_196 (by decide) ?_
    refine xw_icmp_ne (tgt := 234) B dX1_plain_197 (by decide) (fun _ => ?_) (fun q => absurd q (by rw [zeq (by omega) (by omega)]; omega))
    refine xw_aload_n B dX1_plain_234 rfl ?_
    refine xb_getA C 1 (by decide) rfl q241 dX1_plain_235 ?_
    refine xw_iload_n B dX1_plain_238 rfl ?_
    refine xb_iald C 1 0 1 rfl rfl (by decide) dX1_plain_239 (i) (rfl) (by omega) (s1) ?_
    refine xw_bipush (v := nI 6) B dX1_plain_240 (by decide) ?_
    refine xw_icmp_ne (tgt := 286) B dX1_plain_242 (by decide) (fun _ => ?_) (fun q => absurd q (by rw [zeq (by omega) (by omega)]; omega))
    refine xw_aload_n B dX1_plain_286 rfl ?_
    refine xb_getA C 1 (by decide) rfl q241 dX1_plain_287 ?_
    refine xw_iload_n B dX1_plain_290 rfl ?_
    refine xb_iald C 1 0 1 rfl rfl (by decide) dX1_plain_291 (i) (rfl) (by omega) (s1) ?_
    refine xw_bipush (v := nI 7) B dX1_plain_292 (by decide) ?_
    refine xw_icmp_ne (tgt := 336) B dX1_plain_294 (by decide) (fun _ => ?_) (fun q => absurd q (by rw [zeq (by omega) (by omega)]; omega))
    exact xb_vret C rfl dX1_plain_336 (⟨rfl, fun _ => by rw [show mpl g i (σ 5) = pI g i by simp [mpl, e0]], fun z => by omega⟩)
  by_cases e1 : pK g i = 1
  · have hB := k3 (by omega) (by omega)
    have sB := s4 (by omega) (by omega)
    refine xw_aload_n B dX1_plain_0 rfl ?_
    refine xb_getA C 1 (by decide) rfl q241 dX1_plain_1 ?_
    refine xw_iload_n B dX1_plain_4 rfl ?_
    refine xb_iald C 1 0 1 rfl rfl (by decide) dX1_plain_5 (i) (rfl) (by omega) (s1) ?_
    refine xw_if_ne (tgt := 26) B dX1_plain_6 (by decide) (fun _ => ?_) (fun q => absurd q (by rw [z0eq (by omega)]; omega))
    refine xw_aload_n B dX1_plain_26 rfl ?_
    refine xb_getA C 1 (by decide) rfl q241 dX1_plain_27 ?_
    refine xw_iload_n B dX1_plain_30 rfl ?_
    refine xb_iald C 1 0 1 rfl rfl (by decide) dX1_plain_31 (i) (rfl) (by omega) (s1) ?_
    refine xw_iconst (v := nI 1) B dX1_plain_32 (by decide) ?_
    refine xw_icmp_ne (tgt := 58) B dX1_plain_33 (by decide) (fun q => absurd (by rw [zeq (by omega) (by omega)]; exact e1) q) (fun _ => ?_)
    refine xw_aload_n B dX1_plain_36 rfl ?_
    refine xb_getA C 5 (by decide) rfl q245 dX1_plain_37 ?_
    refine xw_aload_n B dX1_plain_40 rfl ?_
    refine xb_getA C 2 (by decide) rfl q242 dX1_plain_41 ?_
    refine xw_iload_n B dX1_plain_44 rfl ?_
    refine xb_iald C 2 1 2 rfl rfl (by decide) dX1_plain_45 (i) (rfl) (by omega) (sA) ?_
    refine xw_aload_n B dX1_plain_46 rfl ?_
    refine xb_getA C 5 (by decide) rfl q245 dX1_plain_47 ?_
    refine xw_aload_n B dX1_plain_50 rfl ?_
    refine xb_getA C 3 (by decide) rfl q243 dX1_plain_51 ?_
    refine xw_iload_n B dX1_plain_54 rfl ?_
    refine xb_iald C 3 2 3 rfl rfl (by decide) dX1_plain_55 (i) (rfl) (by omega) (sB) ?_
    refine xb_iald C 5 4 5 rfl rfl (by decide) dX1_plain_56 (pB g i) (rfl) (by omega) (rfl) ?_
    refine xb_iast C 5 4 5 rfl rfl (xb_s5 h d _) (by decide) dX1_plain_57 (pA g i) (rfl) (by omega) ?_
    refine xw_aload_n B dX1_plain_58 rfl ?_
    refine xb_getA C 1 (by decide) rfl q241 dX1_plain_59 ?_
    refine xw_iload_n B dX1_plain_62 rfl ?_
    refine xb_iald C 1 0 1 rfl rfl (by decide) dX1_plain_63 (i) (rfl) (by omega) (s1) ?_
    refine xw_iconst (v := nI 2) B dX1_plain_64 (by decide) ?_
    refine xw_icmp_ne (tgt := 102) B dX1_plain_65 (by decide) (fun _ => ?_) (fun q => absurd q (by rw [zeq (by omega) (by omega)]; omega))
    refine xw_aload_n B dX1_plain_102 rfl ?_
    refine xb_getA C 1 (by decide) rfl q241 dX1_plain_103 ?_
    refine xw_iload_n B dX1_plain_106 rfl ?_
    refine xb_iald C 1 0 1 rfl rfl (by decide) dX1_plain_107 (i) (rfl) (by omega) (s1) ?_
    refine xw_iconst (v := nI 3) B dX1_plain_108 (by decide) ?_
    refine xw_icmp_ne (tgt := 146) B dX1_plain_109 (by decide) (fun _ => ?_) (fun q => absurd q (by rw [zeq (by omega) (by omega)]; omega))
    refine xw_aload_n B dX1_plain_146 rfl ?_
    refine xb_getA C 1 (by decide) rfl q241 dX1_plain_147 ?_
    refine xw_iload_n B dX1_plain_150 rfl ?_
    refine xb_iald C 1 0 1 rfl rfl (by decide) dX1_plain_151 (i) (rfl) (by omega) (s1) ?_
    refine xw_iconst (v := nI 4) B dX1_plain_152 (by decide) ?_
    refine xw_icmp_ne (tgt := 190) B dX1_plain_153 (by decide) (fun _ => ?_) (fun q => absurd q (by rw [zeq (by omega) (by omega)]; omega))
    refine xw_aload_n B dX1_plain_190 rfl ?_
    refine xb_getA C 1 (by decide) rfl q241 dX1_plain_191 ?_
    refine xw_iload_n B dX1_plain_194 rfl ?_
    refine xb_iald C 1 0 1 rfl rfl (by decide) dX1_plain_195 (i) (rfl) (by omega) (s1) ?_
    refine xw_iconst (v := nI 5) B dX1_plain_196 (by decide) ?_
    refine xw_icmp_ne (tgt := 234) B dX1_plain_197 (by decide) (fun _ => ?_) (fun q => absurd q (by rw [zeq (by omega) (by omega)]; omega))
    refine xw_aload_n B dX1_plain_234 rfl ?_
    refine xb_getA C 1 (by decide) rfl q241 dX1_plain_235 ?_
    refine xw_iload_n B dX1_plain_238 rfl ?_
    refine xb_iald C 1 0 1 rfl rfl (by decide) dX1_plain_239 (i) (rfl) (by omega) (s1) ?_
    refine xw_bipush (v := nI 6) B dX1_plain_240 (by decide) ?_
    refine xw_icmp_ne (tgt := 286) B dX1_plain_242 (by decide) (fun _ => ?_) (fun q => absurd q (by rw [zeq (by omega) (by omega)]; omega))
    refine xw_aload_n B dX1_plain_286 rfl ?_
    refine xb_getA C 1 (by decide) rfl q241 dX1_plain_287 ?_
    refine xw_iload_n B dX1_plain_290 rfl ?_
    refine xb_iald C 1 0 1 rfl rfl (by decide) dX1_plain_291 (i) (rfl) (by omega) (s1) ?_
    refine xw_bipush (v := nI 7) B dX1_plain_292 (by decide) ?_
    refine xw_icmp_ne (tgt := 336) B dX1_plain_294 (by decide) (fun _ => ?_) (fun q => absurd q (by rw [zeq (by omega) (by omega)]; omega))
    exact xb_vret C rfl dX1_plain_336 (⟨rfl, fun _ => by rw [show mpl g i (σ 5) = σ 5 (pB g i) by simp [mpl, e1]], fun z => by omega⟩)
  by_cases e2 : pK g i = 2
  · have hB := k3 (by omega) (by omega)
    have sB := s4 (by omega) (by omega)
    have hC := k4 (by omega) (by omega)
    have sC := s5 (by omega) (by omega)
    refine xw_aload_n B dX1_plain_0 rfl ?_
    refine xb_getA C 1 (by decide) rfl q241 dX1_plain_1 ?_
    refine xw_iload_n B dX1_plain_4 rfl ?_
    refine xb_iald C 1 0 1 rfl rfl (by decide) dX1_plain_5 (i) (rfl) (by omega) (s1) ?_
    refine xw_if_ne (tgt := 26) B dX1_plain_6 (by decide) (fun _ => ?_) (fun q => absurd q (by rw [z0eq (by omega)]; omega))
    refine xw_aload_n B dX1_plain_26 rfl ?_
    refine xb_getA C 1 (by decide) rfl q241 dX1_plain_27 ?_
    refine xw_iload_n B dX1_plain_30 rfl ?_
    refine xb_iald C 1 0 1 rfl rfl (by decide) dX1_plain_31 (i) (rfl) (by omega) (s1) ?_
    refine xw_iconst (v := nI 1) B dX1_plain_32 (by decide) ?_
    refine xw_icmp_ne (tgt := 58) B dX1_plain_33 (by decide) (fun _ => ?_) (fun q => absurd q (by rw [zeq (by omega) (by omega)]; omega))
    refine xw_aload_n B dX1_plain_58 rfl ?_
    refine xb_getA C 1 (by decide) rfl q241 dX1_plain_59 ?_
    refine xw_iload_n B dX1_plain_62 rfl ?_
    refine xb_iald C 1 0 1 rfl rfl (by decide) dX1_plain_63 (i) (rfl) (by omega) (s1) ?_
    refine xw_iconst (v := nI 2) B dX1_plain_64 (by decide) ?_
    refine xw_icmp_ne (tgt := 102) B dX1_plain_65 (by decide) (fun q => absurd (by rw [zeq (by omega) (by omega)]; exact e2) q) (fun _ => ?_)
    refine xw_aload_n B dX1_plain_68 rfl ?_
    refine xb_getA C 5 (by decide) rfl q245 dX1_plain_69 ?_
    refine xw_aload_n B dX1_plain_72 rfl ?_
    refine xb_getA C 2 (by decide) rfl q242 dX1_plain_73 ?_
    refine xw_iload_n B dX1_plain_76 rfl ?_
    refine xb_iald C 2 1 2 rfl rfl (by decide) dX1_plain_77 (i) (rfl) (by omega) (sA) ?_
    refine xw_aload_n B dX1_plain_78 rfl ?_
    refine xb_getA C 5 (by decide) rfl q245 dX1_plain_79 ?_
    refine xw_aload_n B dX1_plain_82 rfl ?_
    refine xb_getA C 3 (by decide) rfl q243 dX1_plain_83 ?_
    refine xw_iload_n B dX1_plain_86 rfl ?_
    refine xb_iald C 3 2 3 rfl rfl (by decide) dX1_plain_87 (i) (rfl) (by omega) (sB) ?_
    refine xb_iald C 5 4 5 rfl rfl (by decide) dX1_plain_88 (pB g i) (rfl) (by omega) (rfl) ?_
    refine xw_aload_n B dX1_plain_89 rfl ?_
    refine xb_getA C 5 (by decide) rfl q245 dX1_plain_90 ?_
    refine xw_aload_n B dX1_plain_93 rfl ?_
    refine xb_getA C 4 (by decide) rfl q244 dX1_plain_94 ?_
    refine xw_iload_n B dX1_plain_97 rfl ?_
    refine xb_iald C 4 3 4 rfl rfl (by decide) dX1_plain_98 (i) (rfl) (by omega) (sC) ?_
    refine xb_iald C 5 4 5 rfl rfl (by decide) dX1_plain_99 (pC g i) (rfl) (by omega) (rfl) ?_
    refine xw_iadd B dX1_plain_100 (rfl) ?_
    refine xb_iast C 5 4 5 rfl rfl (xb_s5 h d _) (by decide) dX1_plain_101 (pA g i) (rfl) (by omega) ?_
    refine xw_aload_n B dX1_plain_102 rfl ?_
    refine xb_getA C 1 (by decide) rfl q241 dX1_plain_103 ?_
    refine xw_iload_n B dX1_plain_106 rfl ?_
    refine xb_iald C 1 0 1 rfl rfl (by decide) dX1_plain_107 (i) (rfl) (by omega) (s1) ?_
    refine xw_iconst (v := nI 3) B dX1_plain_108 (by decide) ?_
    refine xw_icmp_ne (tgt := 146) B dX1_plain_109 (by decide) (fun _ => ?_) (fun q => absurd q (by rw [zeq (by omega) (by omega)]; omega))
    refine xw_aload_n B dX1_plain_146 rfl ?_
    refine xb_getA C 1 (by decide) rfl q241 dX1_plain_147 ?_
    refine xw_iload_n B dX1_plain_150 rfl ?_
    refine xb_iald C 1 0 1 rfl rfl (by decide) dX1_plain_151 (i) (rfl) (by omega) (s1) ?_
    refine xw_iconst (v := nI 4) B dX1_plain_152 (by decide) ?_
    refine xw_icmp_ne (tgt := 190) B dX1_plain_153 (by decide) (fun _ => ?_) (fun q => absurd q (by rw [zeq (by omega) (by omega)]; omega))
    refine xw_aload_n B dX1_plain_190 rfl ?_
    refine xb_getA C 1 (by decide) rfl q241 dX1_plain_191 ?_
    refine xw_iload_n B dX1_plain_194 rfl ?_
    refine xb_iald C 1 0 1 rfl rfl (by decide) dX1_plain_195 (i) (rfl) (by omega) (s1) ?_
    refine xw_iconst (v := nI 5) B dX1_plain_196 (by decide) ?_
    refine xw_icmp_ne (tgt := 234) B dX1_plain_197 (by decide) (fun _ => ?_) (fun q => absurd q (by rw [zeq (by omega) (by omega)]; omega))
    refine xw_aload_n B dX1_plain_234 rfl ?_
    refine xb_getA C 1 (by decide) rfl q241 dX1_plain_235 ?_
    refine xw_iload_n B dX1_plain_238 rfl ?_
    refine xb_iald C 1 0 1 rfl rfl (by decide) dX1_plain_239 (i) (rfl) (by omega) (s1) ?_
    refine xw_bipush (v := nI 6) B dX1_plain_240 (by decide) ?_
    refine xw_icmp_ne (tgt := 286) B dX1_plain_242 (by decide) (fun _ => ?_) (fun q => absurd q (by rw [zeq (by omega) (by omega)]; omega))
    refine xw_aload_n B dX1_plain_286 rfl ?_
    refine xb_getA C 1 (by decide) rfl q241 dX1_plain_287 ?_
    refine xw_iload_n B dX1_plain_290 rfl ?_
    refine xb_iald C 1 0 1 rfl rfl (by decide) dX1_plain_291 (i) (rfl) (by omega) (s1) ?_
    refine xw_bipush (v := nI 7) B dX1_plain_292 (by decide) ?_
    refine xw_icmp_ne (tgt := 336) B dX1_plain_294 (by decide) (fun _ => ?_) (fun q => absurd q (by rw [zeq (by omega) (by omega)]; omega))
    exact xb_vret C rfl dX1_plain_336 (⟨rfl, fun _ => by rw [show mpl g i (σ 5) = σ 5 (pB g i) + σ 5 (pC g i) by simp [mpl, cmp, e2]], fun z => by omega⟩)
  by_cases e3 : pK g i = 3
  · have hB := k3 (by omega) (by omega)
    have sB := s4 (by omega) (by omega)
    have hC := k4 (by omega) (by omega)
    have sC := s5 (by omega) (by omega)
    refine xw_aload_n B dX1_plain_0 rfl ?_
    refine xb_getA C 1 (by decide) rfl q241 dX1_plain_1 ?_
    refine xw_iload_n B dX1_plain_4 rfl ?_
    refine xb_iald C 1 0 1 rfl rfl (by decide) dX1_plain_5 (i) (rfl) (by omega) (s1) ?_
    refine xw_if_ne (tgt := 26) B dX1_plain_6 (by decide) (fun _ => ?_) (fun q => absurd q (by rw [z0eq (by omega)]; omega))
    refine xw_aload_n B dX1_plain_26 rfl ?_
    refine xb_getA C 1 (by decide) rfl q241 dX1_plain_27 ?_
    refine xw_iload_n B dX1_plain_30 rfl ?_
    refine xb_iald C 1 0 1 rfl rfl (by decide) dX1_plain_31 (i) (rfl) (by omega) (s1) ?_
    refine xw_iconst (v := nI 1) B dX1_plain_32 (by decide) ?_
    refine xw_icmp_ne (tgt := 58) B dX1_plain_33 (by decide) (fun _ => ?_) (fun q => absurd q (by rw [zeq (by omega) (by omega)]; omega))
    refine xw_aload_n B dX1_plain_58 rfl ?_
    refine xb_getA C 1 (by decide) rfl q241 dX1_plain_59 ?_
    refine xw_iload_n B dX1_plain_62 rfl ?_
    refine xb_iald C 1 0 1 rfl rfl (by decide) dX1_plain_63 (i) (rfl) (by omega) (s1) ?_
    refine xw_iconst (v := nI 2) B dX1_plain_64 (by decide) ?_
    refine xw_icmp_ne (tgt := 102) B dX1_plain_65 (by decide) (fun _ => ?_) (fun q => absurd q (by rw [zeq (by omega) (by omega)]; omega))
    refine xw_aload_n B dX1_plain_102 rfl ?_
    refine xb_getA C 1 (by decide) rfl q241 dX1_plain_103 ?_
    refine xw_iload_n B dX1_plain_106 rfl ?_
    refine xb_iald C 1 0 1 rfl rfl (by decide) dX1_plain_107 (i) (rfl) (by omega) (s1) ?_
    refine xw_iconst (v := nI 3) B dX1_plain_108 (by decide) ?_
    refine xw_icmp_ne (tgt := 146) B dX1_plain_109 (by decide) (fun q => absurd (by rw [zeq (by omega) (by omega)]; exact e3) q) (fun _ => ?_)
    refine xw_aload_n B dX1_plain_112 rfl ?_
    refine xb_getA C 5 (by decide) rfl q245 dX1_plain_113 ?_
    refine xw_aload_n B dX1_plain_116 rfl ?_
    refine xb_getA C 2 (by decide) rfl q242 dX1_plain_117 ?_
    refine xw_iload_n B dX1_plain_120 rfl ?_
    refine xb_iald C 2 1 2 rfl rfl (by decide) dX1_plain_121 (i) (rfl) (by omega) (sA) ?_
    refine xw_aload_n B dX1_plain_122 rfl ?_
    refine xb_getA C 5 (by decide) rfl q245 dX1_plain_123 ?_
    refine xw_aload_n B dX1_plain_126 rfl ?_
    refine xb_getA C 3 (by decide) rfl q243 dX1_plain_127 ?_
    refine xw_iload_n B dX1_plain_130 rfl ?_
    refine xb_iald C 3 2 3 rfl rfl (by decide) dX1_plain_131 (i) (rfl) (by omega) (sB) ?_
    refine xb_iald C 5 4 5 rfl rfl (by decide) dX1_plain_132 (pB g i) (rfl) (by omega) (rfl) ?_
    refine xw_aload_n B dX1_plain_133 rfl ?_
    refine xb_getA C 5 (by decide) rfl q245 dX1_plain_134 ?_
    refine xw_aload_n B dX1_plain_137 rfl ?_
    refine xb_getA C 4 (by decide) rfl q244 dX1_plain_138 ?_
    refine xw_iload_n B dX1_plain_141 rfl ?_
    refine xb_iald C 4 3 4 rfl rfl (by decide) dX1_plain_142 (i) (rfl) (by omega) (sC) ?_
    refine xb_iald C 5 4 5 rfl rfl (by decide) dX1_plain_143 (pC g i) (rfl) (by omega) (rfl) ?_
    refine xw_isub B dX1_plain_144 (rfl) ?_
    refine xb_iast C 5 4 5 rfl rfl (xb_s5 h d _) (by decide) dX1_plain_145 (pA g i) (rfl) (by omega) ?_
    refine xw_aload_n B dX1_plain_146 rfl ?_
    refine xb_getA C 1 (by decide) rfl q241 dX1_plain_147 ?_
    refine xw_iload_n B dX1_plain_150 rfl ?_
    refine xb_iald C 1 0 1 rfl rfl (by decide) dX1_plain_151 (i) (rfl) (by omega) (s1) ?_
    refine xw_iconst (v := nI 4) B dX1_plain_152 (by decide) ?_
    refine xw_icmp_ne (tgt := 190) B dX1_plain_153 (by decide) (fun _ => ?_) (fun q => absurd q (by rw [zeq (by omega) (by omega)]; omega))
    refine xw_aload_n B dX1_plain_190 rfl ?_
    refine xb_getA C 1 (by decide) rfl q241 dX1_plain_191 ?_
    refine xw_iload_n B dX1_plain_194 rfl ?_
    refine xb_iald C 1 0 1 rfl rfl (by decide) dX1_plain_195 (i) (rfl) (by omega) (s1) ?_
    refine xw_iconst (v := nI 5) B dX1_plain_196 (by decide) ?_
    refine xw_icmp_ne (tgt := 234) B dX1_plain_197 (by decide) (fun _ => ?_) (fun q => absurd q (by rw [zeq (by omega) (by omega)]; omega))
    refine xw_aload_n B dX1_plain_234 rfl ?_
    refine xb_getA C 1 (by decide) rfl q241 dX1_plain_235 ?_
    refine xw_iload_n B dX1_plain_238 rfl ?_
    refine xb_iald C 1 0 1 rfl rfl (by decide) dX1_plain_239 (i) (rfl) (by omega) (s1) ?_
    refine xw_bipush (v := nI 6) B dX1_plain_240 (by decide) ?_
    refine xw_icmp_ne (tgt := 286) B dX1_plain_242 (by decide) (fun _ => ?_) (fun q => absurd q (by rw [zeq (by omega) (by omega)]; omega))
    refine xw_aload_n B dX1_plain_286 rfl ?_
    refine xb_getA C 1 (by decide) rfl q241 dX1_plain_287 ?_
    refine xw_iload_n B dX1_plain_290 rfl ?_
    refine xb_iald C 1 0 1 rfl rfl (by decide) dX1_plain_291 (i) (rfl) (by omega) (s1) ?_
    refine xw_bipush (v := nI 7) B dX1_plain_292 (by decide) ?_
    refine xw_icmp_ne (tgt := 336) B dX1_plain_294 (by decide) (fun _ => ?_) (fun q => absurd q (by rw [zeq (by omega) (by omega)]; omega))
    exact xb_vret C rfl dX1_plain_336 (⟨rfl, fun _ => by rw [show mpl g i (σ 5) = σ 5 (pB g i) - σ 5 (pC g i) by simp [mpl, cmp, e3]], fun z => by omega⟩)
  by_cases e4 : pK g i = 4
  · have hB := k3 (by omega) (by omega)
    have sB := s4 (by omega) (by omega)
    have hC := k4 (by omega) (by omega)
    have sC := s5 (by omega) (by omega)
    refine xw_aload_n B dX1_plain_0 rfl ?_
    refine xb_getA C 1 (by decide) rfl q241 dX1_plain_1 ?_
    refine xw_iload_n B dX1_plain_4 rfl ?_
    refine xb_iald C 1 0 1 rfl rfl (by decide) dX1_plain_5 (i) (rfl) (by omega) (s1) ?_
    refine xw_if_ne (tgt := 26) B dX1_plain_6 (by decide) (fun _ => ?_) (fun q => absurd q (by rw [z0eq (by omega)]; omega))
    refine xw_aload_n B dX1_plain_26 rfl ?_
    refine xb_getA C 1 (by decide) rfl q241 dX1_plain_27 ?_
    refine xw_iload_n B dX1_plain_30 rfl ?_
    refine xb_iald C 1 0 1 rfl rfl (by decide) dX1_plain_31 (i) (rfl) (by omega) (s1) ?_
    refine xw_iconst (v := nI 1) B dX1_plain_32 (by decide) ?_
    refine xw_icmp_ne (tgt := 58) B dX1_plain_33 (by decide) (fun _ => ?_) (fun q => absurd q (by rw [zeq (by omega) (by omega)]; omega))
    refine xw_aload_n B dX1_plain_58 rfl ?_
    refine xb_getA C 1 (by decide) rfl q241 dX1_plain_59 ?_
    refine xw_iload_n B dX1_plain_62 rfl ?_
    refine xb_iald C 1 0 1 rfl rfl (by decide) dX1_plain_63 (i) (rfl) (by omega) (s1) ?_
    refine xw_iconst (v := nI 2) B dX1_plain_64 (by decide) ?_
    refine xw_icmp_ne (tgt := 102) B dX1_plain_65 (by decide) (fun _ => ?_) (fun q => absurd q (by rw [zeq (by omega) (by omega)]; omega))
    refine xw_aload_n B dX1_plain_102 rfl ?_
    refine xb_getA C 1 (by decide) rfl q241 dX1_plain_103 ?_
    refine xw_iload_n B dX1_plain_106 rfl ?_
    refine xb_iald C 1 0 1 rfl rfl (by decide) dX1_plain_107 (i) (rfl) (by omega) (s1) ?_
    refine xw_iconst (v := nI 3) B dX1_plain_108 (by decide) ?_
    refine xw_icmp_ne (tgt := 146) B dX1_plain_109 (by decide) (fun _ => ?_) (fun q => absurd q (by rw [zeq (by omega) (by omega)]; omega))
    refine xw_aload_n B dX1_plain_146 rfl ?_
    refine xb_getA C 1 (by decide) rfl q241 dX1_plain_147 ?_
    refine xw_iload_n B dX1_plain_150 rfl ?_
    refine xb_iald C 1 0 1 rfl rfl (by decide) dX1_plain_151 (i) (rfl) (by omega) (s1) ?_
    refine xw_iconst (v := nI 4) B dX1_plain_152 (by decide) ?_
    refine xw_icmp_ne (tgt := 190) B dX1_plain_153 (by decide) (fun q => absurd (by rw [zeq (by omega) (by omega)]; exact e4) q) (fun _ => ?_)
    refine xw_aload_n B dX1_plain_156 rfl ?_
    refine xb_getA C 5 (by decide) rfl q245 dX1_plain_157 ?_
    refine xw_aload_n B dX1_plain_160 rfl ?_
    refine xb_getA C 2 (by decide) rfl q242 dX1_plain_161 ?_
    refine xw_iload_n B dX1_plain_164 rfl ?_
    refine xb_iald C 2 1 2 rfl rfl (by decide) dX1_plain_165 (i) (rfl) (by omega) (sA) ?_
    refine xw_aload_n B dX1_plain_166 rfl ?_
    refine xb_getA C 5 (by decide) rfl q245 dX1_plain_167 ?_
    refine xw_aload_n B dX1_plain_170 rfl ?_
    refine xb_getA C 3 (by decide) rfl q243 dX1_plain_171 ?_
    refine xw_iload_n B dX1_plain_174 rfl ?_
    refine xb_iald C 3 2 3 rfl rfl (by decide) dX1_plain_175 (i) (rfl) (by omega) (sB) ?_
    refine xb_iald C 5 4 5 rfl rfl (by decide) dX1_plain_176 (pB g i) (rfl) (by omega) (rfl) ?_
    refine xw_aload_n B dX1_plain_177 rfl ?_
    refine xb_getA C 5 (by decide) rfl q245 dX1_plain_178 ?_
    refine xw_aload_n B dX1_plain_181 rfl ?_
    refine xb_getA C 4 (by decide) rfl q244 dX1_plain_182 ?_
    refine xw_iload_n B dX1_plain_185 rfl ?_
    refine xb_iald C 4 3 4 rfl rfl (by decide) dX1_plain_186 (i) (rfl) (by omega) (sC) ?_
    refine xb_iald C 5 4 5 rfl rfl (by decide) dX1_plain_187 (pC g i) (rfl) (by omega) (rfl) ?_
    refine xw_imul B dX1_plain_188 (rfl) ?_
    refine xb_iast C 5 4 5 rfl rfl (xb_s5 h d _) (by decide) dX1_plain_189 (pA g i) (rfl) (by omega) ?_
    refine xw_aload_n B dX1_plain_190 rfl ?_
    refine xb_getA C 1 (by decide) rfl q241 dX1_plain_191 ?_
    refine xw_iload_n B dX1_plain_194 rfl ?_
    refine xb_iald C 1 0 1 rfl rfl (by decide) dX1_plain_195 (i) (rfl) (by omega) (s1) ?_
    refine xw_iconst (v := nI 5) B dX1_plain_196 (by decide) ?_
    refine xw_icmp_ne (tgt := 234) B dX1_plain_197 (by decide) (fun _ => ?_) (fun q => absurd q (by rw [zeq (by omega) (by omega)]; omega))
    refine xw_aload_n B dX1_plain_234 rfl ?_
    refine xb_getA C 1 (by decide) rfl q241 dX1_plain_235 ?_
    refine xw_iload_n B dX1_plain_238 rfl ?_
    refine xb_iald C 1 0 1 rfl rfl (by decide) dX1_plain_239 (i) (rfl) (by omega) (s1) ?_
    refine xw_bipush (v := nI 6) B dX1_plain_240 (by decide) ?_
    refine xw_icmp_ne (tgt := 286) B dX1_plain_242 (by decide) (fun _ => ?_) (fun q => absurd q (by rw [zeq (by omega) (by omega)]; omega))
    refine xw_aload_n B dX1_plain_286 rfl ?_
    refine xb_getA C 1 (by decide) rfl q241 dX1_plain_287 ?_
    refine xw_iload_n B dX1_plain_290 rfl ?_
    refine xb_iald C 1 0 1 rfl rfl (by decide) dX1_plain_291 (i) (rfl) (by omega) (s1) ?_
    refine xw_bipush (v := nI 7) B dX1_plain_292 (by decide) ?_
    refine xw_icmp_ne (tgt := 336) B dX1_plain_294 (by decide) (fun _ => ?_) (fun q => absurd q (by rw [zeq (by omega) (by omega)]; omega))
    exact xb_vret C rfl dX1_plain_336 (⟨rfl, fun _ => by rw [show mpl g i (σ 5) = σ 5 (pB g i) * σ 5 (pC g i) by simp [mpl, cmp, e4]], fun z => by omega⟩)
  by_cases e5 : pK g i = 5
  · have hB := k3 (by omega) (by omega)
    have sB := s4 (by omega) (by omega)
    have hC := k4 (by omega) (by omega)
    have sC := s5 (by omega) (by omega)
    refine xw_aload_n B dX1_plain_0 rfl ?_
    refine xb_getA C 1 (by decide) rfl q241 dX1_plain_1 ?_
    refine xw_iload_n B dX1_plain_4 rfl ?_
    refine xb_iald C 1 0 1 rfl rfl (by decide) dX1_plain_5 (i) (rfl) (by omega) (s1) ?_
    refine xw_if_ne (tgt := 26) B dX1_plain_6 (by decide) (fun _ => ?_) (fun q => absurd q (by rw [z0eq (by omega)]; omega))
    refine xw_aload_n B dX1_plain_26 rfl ?_
    refine xb_getA C 1 (by decide) rfl q241 dX1_plain_27 ?_
    refine xw_iload_n B dX1_plain_30 rfl ?_
    refine xb_iald C 1 0 1 rfl rfl (by decide) dX1_plain_31 (i) (rfl) (by omega) (s1) ?_
    refine xw_iconst (v := nI 1) B dX1_plain_32 (by decide) ?_
    refine xw_icmp_ne (tgt := 58) B dX1_plain_33 (by decide) (fun _ => ?_) (fun q => absurd q (by rw [zeq (by omega) (by omega)]; omega))
    refine xw_aload_n B dX1_plain_58 rfl ?_
    refine xb_getA C 1 (by decide) rfl q241 dX1_plain_59 ?_
    refine xw_iload_n B dX1_plain_62 rfl ?_
    refine xb_iald C 1 0 1 rfl rfl (by decide) dX1_plain_63 (i) (rfl) (by omega) (s1) ?_
    refine xw_iconst (v := nI 2) B dX1_plain_64 (by decide) ?_
    refine xw_icmp_ne (tgt := 102) B dX1_plain_65 (by decide) (fun _ => ?_) (fun q => absurd q (by rw [zeq (by omega) (by omega)]; omega))
    refine xw_aload_n B dX1_plain_102 rfl ?_
    refine xb_getA C 1 (by decide) rfl q241 dX1_plain_103 ?_
    refine xw_iload_n B dX1_plain_106 rfl ?_
    refine xb_iald C 1 0 1 rfl rfl (by decide) dX1_plain_107 (i) (rfl) (by omega) (s1) ?_
    refine xw_iconst (v := nI 3) B dX1_plain_108 (by decide) ?_
    refine xw_icmp_ne (tgt := 146) B dX1_plain_109 (by decide) (fun _ => ?_) (fun q => absurd q (by rw [zeq (by omega) (by omega)]; omega))
    refine xw_aload_n B dX1_plain_146 rfl ?_
    refine xb_getA C 1 (by decide) rfl q241 dX1_plain_147 ?_
    refine xw_iload_n B dX1_plain_150 rfl ?_
    refine xb_iald C 1 0 1 rfl rfl (by decide) dX1_plain_151 (i) (rfl) (by omega) (s1) ?_
    refine xw_iconst (v := nI 4) B dX1_plain_152 (by decide) ?_
    refine xw_icmp_ne (tgt := 190) B dX1_plain_153 (by decide) (fun _ => ?_) (fun q => absurd q (by rw [zeq (by omega) (by omega)]; omega))
    refine xw_aload_n B dX1_plain_190 rfl ?_
    refine xb_getA C 1 (by decide) rfl q241 dX1_plain_191 ?_
    refine xw_iload_n B dX1_plain_194 rfl ?_
    refine xb_iald C 1 0 1 rfl rfl (by decide) dX1_plain_195 (i) (rfl) (by omega) (s1) ?_
    refine xw_iconst (v := nI 5) B dX1_plain_196 (by decide) ?_
    refine xw_icmp_ne (tgt := 234) B dX1_plain_197 (by decide) (fun q => absurd (by rw [zeq (by omega) (by omega)]; exact e5) q) (fun _ => ?_)
    refine xw_aload_n B dX1_plain_200 rfl ?_
    refine xb_getA C 5 (by decide) rfl q245 dX1_plain_201 ?_
    refine xw_aload_n B dX1_plain_204 rfl ?_
    refine xb_getA C 2 (by decide) rfl q242 dX1_plain_205 ?_
    refine xw_iload_n B dX1_plain_208 rfl ?_
    refine xb_iald C 2 1 2 rfl rfl (by decide) dX1_plain_209 (i) (rfl) (by omega) (sA) ?_
    refine xw_aload_n B dX1_plain_210 rfl ?_
    refine xb_getA C 5 (by decide) rfl q245 dX1_plain_211 ?_
    refine xw_aload_n B dX1_plain_214 rfl ?_
    refine xb_getA C 3 (by decide) rfl q243 dX1_plain_215 ?_
    refine xw_iload_n B dX1_plain_218 rfl ?_
    refine xb_iald C 3 2 3 rfl rfl (by decide) dX1_plain_219 (i) (rfl) (by omega) (sB) ?_
    refine xb_iald C 5 4 5 rfl rfl (by decide) dX1_plain_220 (pB g i) (rfl) (by omega) (rfl) ?_
    refine xw_aload_n B dX1_plain_221 rfl ?_
    refine xb_getA C 5 (by decide) rfl q245 dX1_plain_222 ?_
    refine xw_aload_n B dX1_plain_225 rfl ?_
    refine xb_getA C 4 (by decide) rfl q244 dX1_plain_226 ?_
    refine xw_iload_n B dX1_plain_229 rfl ?_
    refine xb_iald C 4 3 4 rfl rfl (by decide) dX1_plain_230 (i) (rfl) (by omega) (sC) ?_
    refine xb_iald C 5 4 5 rfl rfl (by decide) dX1_plain_231 (pC g i) (rfl) (by omega) (rfl) ?_
    refine xw_ixor B dX1_plain_232 (rfl) ?_
    refine xb_iast C 5 4 5 rfl rfl (xb_s5 h d _) (by decide) dX1_plain_233 (pA g i) (rfl) (by omega) ?_
    refine xw_aload_n B dX1_plain_234 rfl ?_
    refine xb_getA C 1 (by decide) rfl q241 dX1_plain_235 ?_
    refine xw_iload_n B dX1_plain_238 rfl ?_
    refine xb_iald C 1 0 1 rfl rfl (by decide) dX1_plain_239 (i) (rfl) (by omega) (s1) ?_
    refine xw_bipush (v := nI 6) B dX1_plain_240 (by decide) ?_
    refine xw_icmp_ne (tgt := 286) B dX1_plain_242 (by decide) (fun _ => ?_) (fun q => absurd q (by rw [zeq (by omega) (by omega)]; omega))
    refine xw_aload_n B dX1_plain_286 rfl ?_
    refine xb_getA C 1 (by decide) rfl q241 dX1_plain_287 ?_
    refine xw_iload_n B dX1_plain_290 rfl ?_
    refine xb_iald C 1 0 1 rfl rfl (by decide) dX1_plain_291 (i) (rfl) (by omega) (s1) ?_
    refine xw_bipush (v := nI 7) B dX1_plain_292 (by decide) ?_
    refine xw_icmp_ne (tgt := 336) B dX1_plain_294 (by decide) (fun _ => ?_) (fun q => absurd q (by rw [zeq (by omega) (by omega)]; omega))
    exact xb_vret C rfl dX1_plain_336 (⟨rfl, fun _ => by rw [show mpl g i (σ 5) = σ 5 (pB g i) ^^^ σ 5 (pC g i) by simp [mpl, cmp, e5]], fun z => by omega⟩)
  by_cases e6 : pK g i = 6
  · have hB := k3 (by omega) (by omega)
    have sB := s4 (by omega) (by omega)
    have hC := k4 (by omega) (by omega)
    have sC := s5 (by omega) (by omega)
    by_cases hc : σ 5 (pB g i) < σ 5 (pC g i)
    · refine xw_aload_n B dX1_plain_0 rfl ?_
      refine xb_getA C 1 (by decide) rfl q241 dX1_plain_1 ?_
      refine xw_iload_n B dX1_plain_4 rfl ?_
      refine xb_iald C 1 0 1 rfl rfl (by decide) dX1_plain_5 (i) (rfl) (by omega) (s1) ?_
      refine xw_if_ne (tgt := 26) B dX1_plain_6 (by decide) (fun _ => ?_) (fun q => absurd q (by rw [z0eq (by omega)]; omega))
      refine xw_aload_n B dX1_plain_26 rfl ?_
      refine xb_getA C 1 (by decide) rfl q241 dX1_plain_27 ?_
      refine xw_iload_n B dX1_plain_30 rfl ?_
      refine xb_iald C 1 0 1 rfl rfl (by decide) dX1_plain_31 (i) (rfl) (by omega) (s1) ?_
      refine xw_iconst (v := nI 1) B dX1_plain_32 (by decide) ?_
      refine xw_icmp_ne (tgt := 58) B dX1_plain_33 (by decide) (fun _ => ?_) (fun q => absurd q (by rw [zeq (by omega) (by omega)]; omega))
      refine xw_aload_n B dX1_plain_58 rfl ?_
      refine xb_getA C 1 (by decide) rfl q241 dX1_plain_59 ?_
      refine xw_iload_n B dX1_plain_62 rfl ?_
      refine xb_iald C 1 0 1 rfl rfl (by decide) dX1_plain_63 (i) (rfl) (by omega) (s1) ?_
      refine xw_iconst (v := nI 2) B dX1_plain_64 (by decide) ?_
      refine xw_icmp_ne (tgt := 102) B dX1_plain_65 (by decide) (fun _ => ?_) (fun q => absurd q (by rw [zeq (by omega) (by omega)]; omega))
      refine xw_aload_n B dX1_plain_102 rfl ?_
      refine xb_getA C 1 (by decide) rfl q241 dX1_plain_103 ?_
      refine xw_iload_n B dX1_plain_106 rfl ?_
      refine xb_iald C 1 0 1 rfl rfl (by decide) dX1_plain_107 (i) (rfl) (by omega) (s1) ?_
      refine xw_iconst (v := nI 3) B dX1_plain_108 (by decide) ?_
      refine xw_icmp_ne (tgt := 146) B dX1_plain_109 (by decide) (fun _ => ?_) (fun q => absurd q (by rw [zeq (by omega) (by omega)]; omega))
      refine xw_aload_n B dX1_plain_146 rfl ?_
      refine xb_getA C 1 (by decide) rfl q241 dX1_plain_147 ?_
      refine xw_iload_n B dX1_plain_150 rfl ?_
      refine xb_iald C 1 0 1 rfl rfl (by decide) dX1_plain_151 (i) (rfl) (by omega) (s1) ?_
      refine xw_iconst (v := nI 4) B dX1_plain_152 (by decide) ?_
      refine xw_icmp_ne (tgt := 190) B dX1_plain_153 (by decide) (fun _ => ?_) (fun q => absurd q (by rw [zeq (by omega) (by omega)]; omega))
      refine xw_aload_n B dX1_plain_190 rfl ?_
      refine xb_getA C 1 (by decide) rfl q241 dX1_plain_191 ?_
      refine xw_iload_n B dX1_plain_194 rfl ?_
      refine xb_iald C 1 0 1 rfl rfl (by decide) dX1_plain_195 (i) (rfl) (by omega) (s1) ?_
      refine xw_iconst (v := nI 5) B dX1_plain_196 (by decide) ?_
      refine xw_icmp_ne (tgt := 234) B dX1_plain_197 (by decide) (fun _ => ?_) (fun q => absurd q (by rw [zeq (by omega) (by omega)]; omega))
      refine xw_aload_n B dX1_plain_234 rfl ?_
      refine xb_getA C 1 (by decide) rfl q241 dX1_plain_235 ?_
      refine xw_iload_n B dX1_plain_238 rfl ?_
      refine xb_iald C 1 0 1 rfl rfl (by decide) dX1_plain_239 (i) (rfl) (by omega) (s1) ?_
      refine xw_bipush (v := nI 6) B dX1_plain_240 (by decide) ?_
      refine xw_icmp_ne (tgt := 286) B dX1_plain_242 (by decide) (fun q => absurd (by rw [zeq (by omega) (by omega)]; exact e6) q) (fun _ => ?_)
      refine xw_aload_n B dX1_plain_245 rfl ?_
      refine xb_getA C 5 (by decide) rfl q245 dX1_plain_246 ?_
      refine xw_aload_n B dX1_plain_249 rfl ?_
      refine xb_getA C 2 (by decide) rfl q242 dX1_plain_250 ?_
      refine xw_iload_n B dX1_plain_253 rfl ?_
      refine xb_iald C 2 1 2 rfl rfl (by decide) dX1_plain_254 (i) (rfl) (by omega) (sA) ?_
      refine xw_aload_n B dX1_plain_255 rfl ?_
      refine xb_getA C 5 (by decide) rfl q245 dX1_plain_256 ?_
      refine xw_aload_n B dX1_plain_259 rfl ?_
      refine xb_getA C 3 (by decide) rfl q243 dX1_plain_260 ?_
      refine xw_iload_n B dX1_plain_263 rfl ?_
      refine xb_iald C 3 2 3 rfl rfl (by decide) dX1_plain_264 (i) (rfl) (by omega) (sB) ?_
      refine xb_iald C 5 4 5 rfl rfl (by decide) dX1_plain_265 (pB g i) (rfl) (by omega) (rfl) ?_
      refine xw_aload_n B dX1_plain_266 rfl ?_
      refine xb_getA C 5 (by decide) rfl q245 dX1_plain_267 ?_
      refine xw_aload_n B dX1_plain_270 rfl ?_
      refine xb_getA C 4 (by decide) rfl q244 dX1_plain_271 ?_
      refine xw_iload_n B dX1_plain_274 rfl ?_
      refine xb_iald C 4 3 4 rfl rfl (by decide) dX1_plain_275 (i) (rfl) (by omega) (sC) ?_
      refine xb_iald C 5 4 5 rfl rfl (by decide) dX1_plain_276 (pC g i) (rfl) (by omega) (rfl) ?_
      refine xw_icmp_ge (tgt := 284) B dX1_plain_277 (by decide) (fun q => absurd q (Int32.not_le.mpr hc)) (fun _ => ?_)
      refine xw_iconst (v := nI 1) B dX1_plain_280 (by decide) ?_
      refine xw_goto (tgt := 285) B dX1_plain_281 (by decide) ?_
      refine xb_iast C 5 4 5 rfl rfl (xb_s5 h d _) (by decide) dX1_plain_285 (pA g i) (rfl) (by omega) ?_
      refine xw_aload_n B dX1_plain_286 rfl ?_
      refine xb_getA C 1 (by decide) rfl q241 dX1_plain_287 ?_
      refine xw_iload_n B dX1_plain_290 rfl ?_
      refine xb_iald C 1 0 1 rfl rfl (by decide) dX1_plain_291 (i) (rfl) (by omega) (s1) ?_
      refine xw_bipush (v := nI 7) B dX1_plain_292 (by decide) ?_
      refine xw_icmp_ne (tgt := 336) B dX1_plain_294 (by decide) (fun _ => ?_) (fun q => absurd q (by rw [zeq (by omega) (by omega)]; omega))
      exact xb_vret C rfl dX1_plain_336 (⟨rfl, fun _ => by rw [show mpl g i (σ 5) = nI 1 by simp [mpl, cmp, e6, hc]; rfl], fun z => by omega⟩)
    · refine xw_aload_n B dX1_plain_0 rfl ?_
      refine xb_getA C 1 (by decide) rfl q241 dX1_plain_1 ?_
      refine xw_iload_n B dX1_plain_4 rfl ?_
      refine xb_iald C 1 0 1 rfl rfl (by decide) dX1_plain_5 (i) (rfl) (by omega) (s1) ?_
      refine xw_if_ne (tgt := 26) B dX1_plain_6 (by decide) (fun _ => ?_) (fun q => absurd q (by rw [z0eq (by omega)]; omega))
      refine xw_aload_n B dX1_plain_26 rfl ?_
      refine xb_getA C 1 (by decide) rfl q241 dX1_plain_27 ?_
      refine xw_iload_n B dX1_plain_30 rfl ?_
      refine xb_iald C 1 0 1 rfl rfl (by decide) dX1_plain_31 (i) (rfl) (by omega) (s1) ?_
      refine xw_iconst (v := nI 1) B dX1_plain_32 (by decide) ?_
      refine xw_icmp_ne (tgt := 58) B dX1_plain_33 (by decide) (fun _ => ?_) (fun q => absurd q (by rw [zeq (by omega) (by omega)]; omega))
      refine xw_aload_n B dX1_plain_58 rfl ?_
      refine xb_getA C 1 (by decide) rfl q241 dX1_plain_59 ?_
      refine xw_iload_n B dX1_plain_62 rfl ?_
      refine xb_iald C 1 0 1 rfl rfl (by decide) dX1_plain_63 (i) (rfl) (by omega) (s1) ?_
      refine xw_iconst (v := nI 2) B dX1_plain_64 (by decide) ?_
      refine xw_icmp_ne (tgt := 102) B dX1_plain_65 (by decide) (fun _ => ?_) (fun q => absurd q (by rw [zeq (by omega) (by omega)]; omega))
      refine xw_aload_n B dX1_plain_102 rfl ?_
      refine xb_getA C 1 (by decide) rfl q241 dX1_plain_103 ?_
      refine xw_iload_n B dX1_plain_106 rfl ?_
      refine xb_iald C 1 0 1 rfl rfl (by decide) dX1_plain_107 (i) (rfl) (by omega) (s1) ?_
      refine xw_iconst (v := nI 3) B dX1_plain_108 (by decide) ?_
      refine xw_icmp_ne (tgt := 146) B dX1_plain_109 (by decide) (fun _ => ?_) (fun q => absurd q (by rw [zeq (by omega) (by omega)]; omega))
      refine xw_aload_n B dX1_plain_146 rfl ?_
      refine xb_getA C 1 (by decide) rfl q241 dX1_plain_147 ?_
      refine xw_iload_n B dX1_plain_150 rfl ?_
      refine xb_iald C 1 0 1 rfl rfl (by decide) dX1_plain_151 (i) (rfl) (by omega) (s1) ?_
      refine xw_iconst (v := nI 4) B dX1_plain_152 (by decide) ?_
      refine xw_icmp_ne (tgt := 190) B dX1_plain_153 (by decide) (fun _ => ?_) (fun q => absurd q (by rw [zeq (by omega) (by omega)]; omega))
      refine xw_aload_n B dX1_plain_190 rfl ?_
      refine xb_getA C 1 (by decide) rfl q241 dX1_plain_191 ?_
      refine xw_iload_n B dX1_plain_194 rfl ?_
      refine xb_iald C 1 0 1 rfl rfl (by decide) dX1_plain_195 (i) (rfl) (by omega) (s1) ?_
      refine xw_iconst (v := nI 5) B dX1_plain_196 (by decide) ?_
      refine xw_icmp_ne (tgt := 234) B dX1_plain_197 (by decide) (fun _ => ?_) (fun q => absurd q (by rw [zeq (by omega) (by omega)]; omega))
      refine xw_aload_n B dX1_plain_234 rfl ?_
      refine xb_getA C 1 (by decide) rfl q241 dX1_plain_235 ?_
      refine xw_iload_n B dX1_plain_238 rfl ?_
      refine xb_iald C 1 0 1 rfl rfl (by decide) dX1_plain_239 (i) (rfl) (by omega) (s1) ?_
      refine xw_bipush (v := nI 6) B dX1_plain_240 (by decide) ?_
      refine xw_icmp_ne (tgt := 286) B dX1_plain_242 (by decide) (fun q => absurd (by rw [zeq (by omega) (by omega)]; exact e6) q) (fun _ => ?_)
      refine xw_aload_n B dX1_plain_245 rfl ?_
      refine xb_getA C 5 (by decide) rfl q245 dX1_plain_246 ?_
      refine xw_aload_n B dX1_plain_249 rfl ?_
      refine xb_getA C 2 (by decide) rfl q242 dX1_plain_250 ?_
      refine xw_iload_n B dX1_plain_253 rfl ?_
      refine xb_iald C 2 1 2 rfl rfl (by decide) dX1_plain_254 (i) (rfl) (by omega) (sA) ?_
      refine xw_aload_n B dX1_plain_255 rfl ?_
      refine xb_getA C 5 (by decide) rfl q245 dX1_plain_256 ?_
      refine xw_aload_n B dX1_plain_259 rfl ?_
      refine xb_getA C 3 (by decide) rfl q243 dX1_plain_260 ?_
      refine xw_iload_n B dX1_plain_263 rfl ?_
      refine xb_iald C 3 2 3 rfl rfl (by decide) dX1_plain_264 (i) (rfl) (by omega) (sB) ?_
      refine xb_iald C 5 4 5 rfl rfl (by decide) dX1_plain_265 (pB g i) (rfl) (by omega) (rfl) ?_
      refine xw_aload_n B dX1_plain_266 rfl ?_
      refine xb_getA C 5 (by decide) rfl q245 dX1_plain_267 ?_
      refine xw_aload_n B dX1_plain_270 rfl ?_
      refine xb_getA C 4 (by decide) rfl q244 dX1_plain_271 ?_
      refine xw_iload_n B dX1_plain_274 rfl ?_
      refine xb_iald C 4 3 4 rfl rfl (by decide) dX1_plain_275 (i) (rfl) (by omega) (sC) ?_
      refine xb_iald C 5 4 5 rfl rfl (by decide) dX1_plain_276 (pC g i) (rfl) (by omega) (rfl) ?_
      refine xw_icmp_ge (tgt := 284) B dX1_plain_277 (by decide) (fun _ => ?_) (fun q => absurd (Int32.not_lt.mp hc) q)
      refine xw_iconst (v := nI 0) B dX1_plain_284 (by decide) ?_
      refine xb_iast C 5 4 5 rfl rfl (xb_s5 h d _) (by decide) dX1_plain_285 (pA g i) (rfl) (by omega) ?_
      refine xw_aload_n B dX1_plain_286 rfl ?_
      refine xb_getA C 1 (by decide) rfl q241 dX1_plain_287 ?_
      refine xw_iload_n B dX1_plain_290 rfl ?_
      refine xb_iald C 1 0 1 rfl rfl (by decide) dX1_plain_291 (i) (rfl) (by omega) (s1) ?_
      refine xw_bipush (v := nI 7) B dX1_plain_292 (by decide) ?_
      refine xw_icmp_ne (tgt := 336) B dX1_plain_294 (by decide) (fun _ => ?_) (fun q => absurd q (by rw [zeq (by omega) (by omega)]; omega))
      exact xb_vret C rfl dX1_plain_336 (⟨rfl, fun _ => by rw [show mpl g i (σ 5) = nI 0 by simp [mpl, cmp, e6, hc]; rfl], fun z => by omega⟩)
  by_cases e7 : pK g i = 7
  · by_cases hc : k < 64
    · refine xw_aload_n B dX1_plain_0 rfl ?_
      refine xb_getA C 1 (by decide) rfl q241 dX1_plain_1 ?_
      refine xw_iload_n B dX1_plain_4 rfl ?_
      refine xb_iald C 1 0 1 rfl rfl (by decide) dX1_plain_5 (i) (rfl) (by omega) (s1) ?_
      refine xw_if_ne (tgt := 26) B dX1_plain_6 (by decide) (fun _ => ?_) (fun q => absurd q (by rw [z0eq (by omega)]; omega))
      refine xw_aload_n B dX1_plain_26 rfl ?_
      refine xb_getA C 1 (by decide) rfl q241 dX1_plain_27 ?_
      refine xw_iload_n B dX1_plain_30 rfl ?_
      refine xb_iald C 1 0 1 rfl rfl (by decide) dX1_plain_31 (i) (rfl) (by omega) (s1) ?_
      refine xw_iconst (v := nI 1) B dX1_plain_32 (by decide) ?_
      refine xw_icmp_ne (tgt := 58) B dX1_plain_33 (by decide) (fun _ => ?_) (fun q => absurd q (by rw [zeq (by omega) (by omega)]; omega))
      refine xw_aload_n B dX1_plain_58 rfl ?_
      refine xb_getA C 1 (by decide) rfl q241 dX1_plain_59 ?_
      refine xw_iload_n B dX1_plain_62 rfl ?_
      refine xb_iald C 1 0 1 rfl rfl (by decide) dX1_plain_63 (i) (rfl) (by omega) (s1) ?_
      refine xw_iconst (v := nI 2) B dX1_plain_64 (by decide) ?_
      refine xw_icmp_ne (tgt := 102) B dX1_plain_65 (by decide) (fun _ => ?_) (fun q => absurd q (by rw [zeq (by omega) (by omega)]; omega))
      refine xw_aload_n B dX1_plain_102 rfl ?_
      refine xb_getA C 1 (by decide) rfl q241 dX1_plain_103 ?_
      refine xw_iload_n B dX1_plain_106 rfl ?_
      refine xb_iald C 1 0 1 rfl rfl (by decide) dX1_plain_107 (i) (rfl) (by omega) (s1) ?_
      refine xw_iconst (v := nI 3) B dX1_plain_108 (by decide) ?_
      refine xw_icmp_ne (tgt := 146) B dX1_plain_109 (by decide) (fun _ => ?_) (fun q => absurd q (by rw [zeq (by omega) (by omega)]; omega))
      refine xw_aload_n B dX1_plain_146 rfl ?_
      refine xb_getA C 1 (by decide) rfl q241 dX1_plain_147 ?_
      refine xw_iload_n B dX1_plain_150 rfl ?_
      refine xb_iald C 1 0 1 rfl rfl (by decide) dX1_plain_151 (i) (rfl) (by omega) (s1) ?_
      refine xw_iconst (v := nI 4) B dX1_plain_152 (by decide) ?_
      refine xw_icmp_ne (tgt := 190) B dX1_plain_153 (by decide) (fun _ => ?_) (fun q => absurd q (by rw [zeq (by omega) (by omega)]; omega))
      refine xw_aload_n B dX1_plain_190 rfl ?_
      refine xb_getA C 1 (by decide) rfl q241 dX1_plain_191 ?_
      refine xw_iload_n B dX1_plain_194 rfl ?_
      refine xb_iald C 1 0 1 rfl rfl (by decide) dX1_plain_195 (i) (rfl) (by omega) (s1) ?_
      refine xw_iconst (v := nI 5) B dX1_plain_196 (by decide) ?_
      refine xw_icmp_ne (tgt := 234) B dX1_plain_197 (by decide) (fun _ => ?_) (fun q => absurd q (by rw [zeq (by omega) (by omega)]; omega))
      refine xw_aload_n B dX1_plain_234 rfl ?_
      refine xb_getA C 1 (by decide) rfl q241 dX1_plain_235 ?_
      refine xw_iload_n B dX1_plain_238 rfl ?_
      refine xb_iald C 1 0 1 rfl rfl (by decide) dX1_plain_239 (i) (rfl) (by omega) (s1) ?_
      refine xw_bipush (v := nI 6) B dX1_plain_240 (by decide) ?_
      refine xw_icmp_ne (tgt := 286) B dX1_plain_242 (by decide) (fun _ => ?_) (fun q => absurd q (by rw [zeq (by omega) (by omega)]; omega))
      refine xw_aload_n B dX1_plain_286 rfl ?_
      refine xb_getA C 1 (by decide) rfl q241 dX1_plain_287 ?_
      refine xw_iload_n B dX1_plain_290 rfl ?_
      refine xb_iald C 1 0 1 rfl rfl (by decide) dX1_plain_291 (i) (rfl) (by omega) (s1) ?_
      refine xw_bipush (v := nI 7) B dX1_plain_292 (by decide) ?_
      refine xw_icmp_ne (tgt := 336) B dX1_plain_294 (by decide) (fun q => absurd (by rw [zeq (by omega) (by omega)]; exact e7) q) (fun _ => ?_)
      refine xw_aload_n B dX1_plain_297 rfl ?_
      refine xb_getS C 7 (by decide) rfl q247 dX1_plain_298 (h7) ?_
      refine xw_bipush (v := nI 64) B dX1_plain_301 (by decide) ?_
      refine xw_icmp_ge (tgt := 326) B dX1_plain_303 (by decide) (fun q => absurd q (by rw [zle (by omega) (by omega)]; omega)) (fun _ => ?_)
      refine xw_aload_n B dX1_plain_306 rfl ?_
      refine xb_getA C 6 (by decide) rfl q246 dX1_plain_307 ?_
      refine xw_aload_n B dX1_plain_310 rfl ?_
      refine xb_getS C 7 (by decide) rfl q247 dX1_plain_311 (h7) ?_
      refine xw_aload_n B dX1_plain_314 rfl ?_
      refine xb_getA C 5 (by decide) rfl q245 dX1_plain_315 ?_
      refine xw_aload_n B dX1_plain_318 rfl ?_
      refine xb_getA C 2 (by decide) rfl q242 dX1_plain_319 ?_
      refine xw_iload_n B dX1_plain_322 rfl ?_
      refine xb_iald C 2 1 2 rfl rfl (by decide) dX1_plain_323 (i) (rfl) (by omega) (sA) ?_
      refine xb_iald C 5 4 5 rfl rfl (by decide) dX1_plain_324 (pA g i) (rfl) (by omega) (rfl) ?_
      refine xb_iast C 6 5 6 rfl rfl (xb_s6 h d _) (by decide) dX1_plain_325 (k) (rfl) (by omega) ?_
      refine xw_aload_n B dX1_plain_326 rfl ?_
      refine xw_dup B dX1_plain_327 rfl ?_
      refine xb_getS C 7 (by decide) rfl q247 dX1_plain_328 (h7) ?_
      refine xw_iconst (v := nI 1) B dX1_plain_331 (by decide) ?_
      refine xw_iadd B dX1_plain_332 (nI_add k 1) ?_
      refine xb_put (ty := .int) C 7 (by decide) (xb_f7 h d _ _) q247 rfl (by decide +kernel) (rfl) (rfl) dX1_plain_333 ?_
      exact xb_vret C rfl dX1_plain_336 (⟨rfl, fun z => by omega, fun _ => by rw [if_pos hc]⟩)
    · refine xw_aload_n B dX1_plain_0 rfl ?_
      refine xb_getA C 1 (by decide) rfl q241 dX1_plain_1 ?_
      refine xw_iload_n B dX1_plain_4 rfl ?_
      refine xb_iald C 1 0 1 rfl rfl (by decide) dX1_plain_5 (i) (rfl) (by omega) (s1) ?_
      refine xw_if_ne (tgt := 26) B dX1_plain_6 (by decide) (fun _ => ?_) (fun q => absurd q (by rw [z0eq (by omega)]; omega))
      refine xw_aload_n B dX1_plain_26 rfl ?_
      refine xb_getA C 1 (by decide) rfl q241 dX1_plain_27 ?_
      refine xw_iload_n B dX1_plain_30 rfl ?_
      refine xb_iald C 1 0 1 rfl rfl (by decide) dX1_plain_31 (i) (rfl) (by omega) (s1) ?_
      refine xw_iconst (v := nI 1) B dX1_plain_32 (by decide) ?_
      refine xw_icmp_ne (tgt := 58) B dX1_plain_33 (by decide) (fun _ => ?_) (fun q => absurd q (by rw [zeq (by omega) (by omega)]; omega))
      refine xw_aload_n B dX1_plain_58 rfl ?_
      refine xb_getA C 1 (by decide) rfl q241 dX1_plain_59 ?_
      refine xw_iload_n B dX1_plain_62 rfl ?_
      refine xb_iald C 1 0 1 rfl rfl (by decide) dX1_plain_63 (i) (rfl) (by omega) (s1) ?_
      refine xw_iconst (v := nI 2) B dX1_plain_64 (by decide) ?_
      refine xw_icmp_ne (tgt := 102) B dX1_plain_65 (by decide) (fun _ => ?_) (fun q => absurd q (by rw [zeq (by omega) (by omega)]; omega))
      refine xw_aload_n B dX1_plain_102 rfl ?_
      refine xb_getA C 1 (by decide) rfl q241 dX1_plain_103 ?_
      refine xw_iload_n B dX1_plain_106 rfl ?_
      refine xb_iald C 1 0 1 rfl rfl (by decide) dX1_plain_107 (i) (rfl) (by omega) (s1) ?_
      refine xw_iconst (v := nI 3) B dX1_plain_108 (by decide) ?_
      refine xw_icmp_ne (tgt := 146) B dX1_plain_109 (by decide) (fun _ => ?_) (fun q => absurd q (by rw [zeq (by omega) (by omega)]; omega))
      refine xw_aload_n B dX1_plain_146 rfl ?_
      refine xb_getA C 1 (by decide) rfl q241 dX1_plain_147 ?_
      refine xw_iload_n B dX1_plain_150 rfl ?_
      refine xb_iald C 1 0 1 rfl rfl (by decide) dX1_plain_151 (i) (rfl) (by omega) (s1) ?_
      refine xw_iconst (v := nI 4) B dX1_plain_152 (by decide) ?_
      refine xw_icmp_ne (tgt := 190) B dX1_plain_153 (by decide) (fun _ => ?_) (fun q => absurd q (by rw [zeq (by omega) (by omega)]; omega))
      refine xw_aload_n B dX1_plain_190 rfl ?_
      refine xb_getA C 1 (by decide) rfl q241 dX1_plain_191 ?_
      refine xw_iload_n B dX1_plain_194 rfl ?_
      refine xb_iald C 1 0 1 rfl rfl (by decide) dX1_plain_195 (i) (rfl) (by omega) (s1) ?_
      refine xw_iconst (v := nI 5) B dX1_plain_196 (by decide) ?_
      refine xw_icmp_ne (tgt := 234) B dX1_plain_197 (by decide) (fun _ => ?_) (fun q => absurd q (by rw [zeq (by omega) (by omega)]; omega))
      refine xw_aload_n B dX1_plain_234 rfl ?_
      refine xb_getA C 1 (by decide) rfl q241 dX1_plain_235 ?_
      refine xw_iload_n B dX1_plain_238 rfl ?_
      refine xb_iald C 1 0 1 rfl rfl (by decide) dX1_plain_239 (i) (rfl) (by omega) (s1) ?_
      refine xw_bipush (v := nI 6) B dX1_plain_240 (by decide) ?_
      refine xw_icmp_ne (tgt := 286) B dX1_plain_242 (by decide) (fun _ => ?_) (fun q => absurd q (by rw [zeq (by omega) (by omega)]; omega))
      refine xw_aload_n B dX1_plain_286 rfl ?_
      refine xb_getA C 1 (by decide) rfl q241 dX1_plain_287 ?_
      refine xw_iload_n B dX1_plain_290 rfl ?_
      refine xb_iald C 1 0 1 rfl rfl (by decide) dX1_plain_291 (i) (rfl) (by omega) (s1) ?_
      refine xw_bipush (v := nI 7) B dX1_plain_292 (by decide) ?_
      refine xw_icmp_ne (tgt := 336) B dX1_plain_294 (by decide) (fun q => absurd (by rw [zeq (by omega) (by omega)]; exact e7) q) (fun _ => ?_)
      refine xw_aload_n B dX1_plain_297 rfl ?_
      refine xb_getS C 7 (by decide) rfl q247 dX1_plain_298 (h7) ?_
      refine xw_bipush (v := nI 64) B dX1_plain_301 (by decide) ?_
      refine xw_icmp_ge (tgt := 326) B dX1_plain_303 (by decide) (fun _ => ?_) (fun q => absurd (by rw [zle (by omega) (by omega)]; omega) q)
      refine xw_aload_n B dX1_plain_326 rfl ?_
      refine xw_dup B dX1_plain_327 rfl ?_
      refine xb_getS C 7 (by decide) rfl q247 dX1_plain_328 (h7) ?_
      refine xw_iconst (v := nI 1) B dX1_plain_331 (by decide) ?_
      refine xw_iadd B dX1_plain_332 (nI_add k 1) ?_
      refine xb_put (ty := .int) C 7 (by decide) (xb_f7 h d _ _) q247 rfl (by decide +kernel) (rfl) (rfl) dX1_plain_333 ?_
      exact xb_vret C rfl dX1_plain_336 (⟨rfl, fun z => by omega, fun _ => by rw [if_neg hc]⟩)
  omega
end
section
/-! a state of the model: (place, variables, left, printed, outputs) -/
abbrev Ms : Type := Nat × (Nat → Int32) × (Nat → Int32) × Nat × (Nat → Int32)
def Mm (σ : Sg) (x : Ms) : Prop := (∀ j, σ 5 j = x.2.1 j) ∧ (∀ j, σ 8 j = x.2.2.1 j) ∧ σ 0 7 = nI x.2.2.2.1 ∧ ∀ j, σ 6 j = x.2.2.2.2 j
def Fs (σ τ : Sg) : Prop := (∀ k j, 1 ≤ k → k ≤ 4 → τ k j = σ k j) ∧ τ 0 0 = σ 0 0
theorem Fs.rf (σ : Sg) : Fs σ σ := ⟨fun _ _ _ _ => rfl, rfl⟩
theorem Fs.tr {σ τ υ : Sg} (h : Fs σ τ) (k : Fs τ υ) : Fs σ υ := ⟨fun a j h1 h2 => (k.1 a j h1 h2).trans (h.1 a j h1 h2), k.2.trans h.2⟩
theorem Sm.fs {σ τ : Sg} {g : Pg} (h : Sm σ g) (f : Fs σ τ) : Sm τ g := h.of f.2 (fun j => f.1 1 j (by decide) (by decide)) (fun j => f.1 2 j (by decide) (by decide)) (fun j => f.1 3 j (by decide) (by decide)) (fun j => f.1 4 j (by decide) (by decide))
/-- e is the END of the block that i opens, p its ELSE (or i) -/
def Ed (g : Pg) (i e p : Nat) : Prop := e < pN g ∧ pK g e = 11 ∧ stk g e = (i, p) :: stk g i
/-- a pass of the model -/
def Pas (g : Pg) (x y : Ms) : Prop := x.1 < pN g ∧ (
  (pK g x.1 ≤ 6 ∧ y = (x.1 + 1, upd x.2.1 (pA g x.1) (mpl g x.1 x.2.1), x.2.2)) ∨
  (pK g x.1 = 7 ∧ y = (x.1 + 1, x.2.1, x.2.2.1, prn (x.2.1 (pA g x.1)) x.2.2.2)) ∨
  (pK g x.1 = 8 ∧ ∃ e p, Ed g x.1 e p ∧ ((¬ x.2.1 (pA g x.1) ≤ 0 ∧ y = (x.1 + 1, x.2)) ∨ (x.2.1 (pA g x.1) ≤ 0 ∧ y = ((if p = x.1 then e + 1 else p + 1), x.2)))) ∨
  (pK g x.1 = 10 ∧ ∃ e p, Ed g x.1 e p ∧ ((pA g x.1 = 0 ∧ y = (e + 1, x.2.1, upd x.2.2.1 x.1 (nI (pA g x.1)), x.2.2.2)) ∨ (pA g x.1 ≠ 0 ∧ y = (x.1 + 1, x.2.1, upd x.2.2.1 x.1 (nI (pA g x.1)), x.2.2.2)))) ∨
  (pK g x.1 = 9 ∧ ∃ o e p, stk g x.1 = (o, o) :: stk g o ∧ pK g o = 8 ∧ Ed g o e p ∧ y = (e + 1, x.2)) ∨
  (pK g x.1 = 11 ∧ ∃ o p, stk g x.1 = (o, p) :: stk g o ∧ ((pK g o = 8 ∧ y = (x.1 + 1, x.2)) ∨ (pK g o = 10 ∧ ((¬ x.2.2.1 o - nI 1 ≤ 0 ∧ y = (o + 1, x.2.1, upd x.2.2.1 o (x.2.2.1 o - nI 1), x.2.2.2)) ∨ (x.2.2.1 o - nI 1 ≤ 0 ∧ y = (x.1 + 1, x.2.1, upd x.2.2.1 o (x.2.2.1 o - nI 1), x.2.2.2)))))))
theorem su_row {σ : Sg} {r j : Nat} {v : Int32} {f : Nat → Int32} (h : ∀ j, σ r j = f j) : ∀ b, su σ r j v r b = upd f j v b := by
  intro b
  simp only [su, upd]
  rw [if_pos trivial, h]
theorem b_pass (σ : Sg) (g : Pg) (S : Sm σ g) (hok : okb g (pN g) = true) (x y : Ms) (P : Pas g x y) (M : Mm σ x) (hk : x.2.2.2.1 < 2 ^ 30) : XB 3 yX1_pass cX1_pass 4 (some .int) [.int (nI x.1)] σ (fun r τ => r = some (nI y.1) ∧ Mm τ y ∧ Fs σ τ) := by
  obtain ⟨i, v, lf, k, f⟩ := x
  obtain ⟨hi, P⟩ := P
  simp only at hi hk P
  obtain ⟨m1, m2, m3, m4⟩ := M
  simp only at m1 m2 m3 m4
  have hn : pN g ≤ 40 := S.1.1
  obtain ⟨k1, k2, k3, k4⟩ := S.1.2 i hi
  obtain ⟨s1, s2, s3, s4, s5⟩ := S.2.2 i hi
  refine xb_ofI [nI i] (by decide) rfl (Nat.le_of_ble_eq_true rfl) (fun X D h d C => ?_)
  have B := C.1
  show XW X _ 0 [(0, .ref (h 0)), (1, .int (nI i))] []
  refine xw_aload_n B dX1_pass_0 rfl ?_
  refine xw_iload_n B dX1_pass_1 rfl ?_
  refine xb_calli C (lw_V q288 q290 qs24 q33 q291) hdX1_opens (by decide) (by decide) rfl (Nat.le_of_ble_eq_true rfl) dX1_pass_2 (b_opens σ g S i hi) rfl (fun r τ hp => ?_)
  obtain ⟨e1, e2⟩ := hp
  cases e2
  rw [e1]
  clear e1
  rcases P with ⟨e, hy⟩ | ⟨e, hy⟩ | ⟨e, en, p, hE, hy⟩ | ⟨e, en, p, hE, hy⟩ | ⟨e, o, en, p, hs, ho8, hE, hy⟩ | ⟨e, o, p, hs, hy⟩
  · rw [if_neg (by omega)]
    refine xw_if_eq (tgt := 16) B dX1_pass_5 (by decide) (fun _ => ?_) (fun q => absurd (rfl) q)
    refine xw_iconst (v := nI 0) B dX1_pass_16 (by decide) ?_
    refine xw_istore_n (i := 2) B dX1_pass_17 rfl (by decide) ?_
    refine xw_aload_n B dX1_pass_18 rfl ?_
    refine xb_getA C 1 (by decide) rfl q241 dX1_pass_19 ?_
    refine xw_iload_n B dX1_pass_22 rfl ?_
    refine xb_iald C 1 0 1 rfl rfl (by decide) dX1_pass_23 (i) (rfl) (by omega) (s1) ?_
    refine xw_bipush (v := nI 8) B dX1_pass_24 (by decide) ?_
    refine xw_icmp_ne (tgt := 67) B dX1_pass_26 (by decide) (fun _ => ?_) (fun q => absurd q (by rw [zeq (by omega) (by omega)]; omega))
    refine xw_aload_n B dX1_pass_67 rfl ?_
    refine xb_getA C 1 (by decide) rfl q241 dX1_pass_68 ?_
    refine xw_iload_n B dX1_pass_71 rfl ?_
    refine xb_iald C 1 0 1 rfl rfl (by decide) dX1_pass_72 (i) (rfl) (by omega) (s1) ?_
    refine xw_bipush (v := nI 10) B dX1_pass_73 (by decide) ?_
    refine xw_icmp_ne (tgt := 109) B dX1_pass_75 (by decide) (fun _ => ?_) (fun q => absurd q (by rw [zeq (by omega) (by omega)]; omega))
    refine xw_aload_n B dX1_pass_109 rfl ?_
    refine xb_getA C 1 (by decide) rfl q241 dX1_pass_110 ?_
    refine xw_iload_n B dX1_pass_113 rfl ?_
    refine xb_iald C 1 0 1 rfl rfl (by decide) dX1_pass_114 (i) (rfl) (by omega) (s1) ?_
    refine xw_bipush (v := nI 9) B dX1_pass_115 (by decide) ?_
    refine xw_icmp_ne (tgt := 134) B dX1_pass_117 (by decide) (fun _ => ?_) (fun q => absurd q (by rw [zeq (by omega) (by omega)]; omega))
    refine xw_aload_n B dX1_pass_134 rfl ?_
    refine xb_getA C 1 (by decide) rfl q241 dX1_pass_135 ?_
    refine xw_iload_n B dX1_pass_138 rfl ?_
    refine xb_iald C 1 0 1 rfl rfl (by decide) dX1_pass_139 (i) (rfl) (by omega) (s1) ?_
    refine xw_bipush (v := nI 11) B dX1_pass_140 (by decide) ?_
    refine xw_icmp_ne (tgt := 195) B dX1_pass_142 (by decide) (fun _ => ?_) (fun q => absurd q (by rw [zeq (by omega) (by omega)]; omega))
    refine xw_aload_n B dX1_pass_195 rfl ?_
    refine xw_iload_n B dX1_pass_196 rfl ?_
    refine xb_callv C (lw_V q321 q323 qs30 q33 q324) hdX1_plain (by decide) (by decide) rfl (Nat.le_of_ble_eq_true rfl) dX1_pass_197 (b_plain σ g S i hi (by omega) k hk m3) rfl (fun τ u => ?_)
    have u := u.2.1 e
    subst u
    refine xw_iload_n B dX1_pass_200 rfl ?_
    refine xw_iconst (v := nI 1) B dX1_pass_201 (by decide) ?_
    refine xw_iadd B dX1_pass_202 (nI_add i 1) ?_
    have ev : mpl g i (σ 5) = mpl g i v := by simp only [mpl, m1]
    subst hy
    rw [ev]
    exact xb_iret C rfl (rfl) dX1_pass_203 (⟨rfl, ⟨su_row m1, m2, m3, m4⟩, fun a j h1 h2 => by simp only [su]; rw [if_neg (by omega)], rfl⟩)
  · rw [if_neg (by omega)]
    refine xw_if_eq (tgt := 16) B dX1_pass_5 (by decide) (fun _ => ?_) (fun q => absurd (rfl) q)
    refine xw_iconst (v := nI 0) B dX1_pass_16 (by decide) ?_
    refine xw_istore_n (i := 2) B dX1_pass_17 rfl (by decide) ?_
    refine xw_aload_n B dX1_pass_18 rfl ?_
    refine xb_getA C 1 (by decide) rfl q241 dX1_pass_19 ?_
    refine xw_iload_n B dX1_pass_22 rfl ?_
    refine xb_iald C 1 0 1 rfl rfl (by decide) dX1_pass_23 (i) (rfl) (by omega) (s1) ?_
    refine xw_bipush (v := nI 8) B dX1_pass_24 (by decide) ?_
    refine xw_icmp_ne (tgt := 67) B dX1_pass_26 (by decide) (fun _ => ?_) (fun q => absurd q (by rw [zeq (by omega) (by omega)]; omega))
    refine xw_aload_n B dX1_pass_67 rfl ?_
    refine xb_getA C 1 (by decide) rfl q241 dX1_pass_68 ?_
    refine xw_iload_n B dX1_pass_71 rfl ?_
    refine xb_iald C 1 0 1 rfl rfl (by decide) dX1_pass_72 (i) (rfl) (by omega) (s1) ?_
    refine xw_bipush (v := nI 10) B dX1_pass_73 (by decide) ?_
    refine xw_icmp_ne (tgt := 109) B dX1_pass_75 (by decide) (fun _ => ?_) (fun q => absurd q (by rw [zeq (by omega) (by omega)]; omega))
    refine xw_aload_n B dX1_pass_109 rfl ?_
    refine xb_getA C 1 (by decide) rfl q241 dX1_pass_110 ?_
    refine xw_iload_n B dX1_pass_113 rfl ?_
    refine xb_iald C 1 0 1 rfl rfl (by decide) dX1_pass_114 (i) (rfl) (by omega) (s1) ?_
    refine xw_bipush (v := nI 9) B dX1_pass_115 (by decide) ?_
    refine xw_icmp_ne (tgt := 134) B dX1_pass_117 (by decide) (fun _ => ?_) (fun q => absurd q (by rw [zeq (by omega) (by omega)]; omega))
    refine xw_aload_n B dX1_pass_134 rfl ?_
    refine xb_getA C 1 (by decide) rfl q241 dX1_pass_135 ?_
    refine xw_iload_n B dX1_pass_138 rfl ?_
    refine xb_iald C 1 0 1 rfl rfl (by decide) dX1_pass_139 (i) (rfl) (by omega) (s1) ?_
    refine xw_bipush (v := nI 11) B dX1_pass_140 (by decide) ?_
    refine xw_icmp_ne (tgt := 195) B dX1_pass_142 (by decide) (fun _ => ?_) (fun q => absurd q (by rw [zeq (by omega) (by omega)]; omega))
    refine xw_aload_n B dX1_pass_195 rfl ?_
    refine xw_iload_n B dX1_pass_196 rfl ?_
    refine xb_callv C (lw_V q321 q323 qs30 q33 q324) hdX1_plain (by decide) (by decide) rfl (Nat.le_of_ble_eq_true rfl) dX1_pass_197 (b_plain σ g S i hi (by omega) k hk m3) rfl (fun τ u => ?_)
    have u := u.2.2 e
    subst u
    refine xw_iload_n B dX1_pass_200 rfl ?_
    refine xw_iconst (v := nI 1) B dX1_pass_201 (by decide) ?_
    refine xw_iadd B dX1_pass_202 (nI_add i 1) ?_
    subst hy
    rw [m1]
    by_cases hc : k < 64
    · rw [if_pos hc]
      refine xb_iret C rfl rfl dX1_pass_203 ⟨rfl, ⟨m1, m2, rfl, ?_⟩, fun a j h1 h2 => ?_, rfl⟩
      · intro j
        simp only [prn]
        rw [if_pos hc]
        exact su_row m4 j
      · simp only [su]
        rw [if_neg (by omega), if_neg (by omega)]
    · rw [if_neg hc]
      refine xb_iret C rfl rfl dX1_pass_203 ⟨rfl, ⟨m1, m2, rfl, ?_⟩, fun a j h1 h2 => ?_, rfl⟩
      · intro j
        simp only [prn]
        rw [if_neg hc]
        exact m4 j
      · simp only [su]
        rw [if_neg (by omega)]
  · obtain ⟨hE1, hE2, hE3⟩ := hE
    have hA := k2 (by omega) (by omega)
    have sA := s2 (by omega) (by omega)
    have hlt := stk_lt (i, p) (by rw [hE3]; exact List.mem_cons_self)
    simp only at hlt
    rw [if_pos (Or.inl e)]
    refine xw_if_eq (tgt := 16) B dX1_pass_5 (by decide) (fun q => absurd q (by decide)) (fun _ => ?_)
    refine xw_aload_n B dX1_pass_8 rfl ?_
    refine xw_iload_n B dX1_pass_9 rfl ?_
    refine xb_calli C (lw_V q313 q315 qs28 q33 q316) hdX1_endOf (by decide) (by decide) rfl (Nat.le_of_ble_eq_true rfl) dX1_pass_10 (b_endOf σ g S hok i en p (Or.inl e) hE1 hE2 hE3) rfl (fun r τ hp => ?_)
    obtain ⟨e1, e2⟩ := hp
    cases e2
    rw [e1]
    clear e1
    refine xw_goto (tgt := 17) B dX1_pass_13 (by decide) ?_
    refine xw_istore_n (i := 2) B dX1_pass_17 rfl (by decide) ?_
    refine xw_aload_n B dX1_pass_18 rfl ?_
    refine xb_getA C 1 (by decide) rfl q241 dX1_pass_19 ?_
    refine xw_iload_n B dX1_pass_22 rfl ?_
    refine xb_iald C 1 0 1 rfl rfl (by decide) dX1_pass_23 (i) (rfl) (by omega) (s1) ?_
    refine xw_bipush (v := nI 8) B dX1_pass_24 (by decide) ?_
    refine xw_icmp_ne (tgt := 67) B dX1_pass_26 (by decide) (fun q => absurd (by rw [zeq (by omega) (by omega)]; exact e) q) (fun _ => ?_)
    refine xw_aload_n B dX1_pass_29 rfl ?_
    refine xw_iload_n B dX1_pass_30 rfl ?_
    refine xb_calli C (lw_V q317 q319 qs29 q33 q320) hdX1_elseOf (by decide) (by decide) rfl (Nat.le_of_ble_eq_true rfl) dX1_pass_31 (b_elseOf σ g S hok i en p (Or.inl e) hE1 hE2 hE3) rfl (fun r τ hp => ?_)
    obtain ⟨e1, e2⟩ := hp
    cases e2
    rw [e1]
    clear e1
    rcases hy with ⟨hc, hy⟩ | ⟨hc, hy⟩
    · subst hy
      refine xw_istore_n (i := 3) B dX1_pass_34 rfl (by decide) ?_
      refine xw_aload_n B dX1_pass_35 rfl ?_
      refine xb_getA C 5 (by decide) rfl q245 dX1_pass_36 ?_
      refine xw_aload_n B dX1_pass_39 rfl ?_
      refine xb_getA C 2 (by decide) rfl q242 dX1_pass_40 ?_
      refine xw_iload_n B dX1_pass_43 rfl ?_
      refine xb_iald C 2 1 2 rfl rfl (by decide) dX1_pass_44 (i) (rfl) (by omega) (sA) ?_
      refine xb_iald C 5 4 5 rfl rfl (by decide) dX1_pass_45 (pA g i) (rfl) (by omega) (m1 _) ?_
      refine xw_if_le (tgt := 53) B dX1_pass_46 (by decide) (fun q => absurd q (hc)) (fun _ => ?_)
      refine xw_iload_n B dX1_pass_49 rfl ?_
      refine xw_iconst (v := nI 1) B dX1_pass_50 (by decide) ?_
      refine xw_iadd B dX1_pass_51 (nI_add i 1) ?_
      exact xb_iret C rfl (rfl) dX1_pass_52 (⟨rfl, ⟨m1, m2, m3, m4⟩, Fs.rf σ⟩)
    · subst hy
      by_cases hp : p = i
      · rw [if_pos hp] at C ⊢
        refine xw_istore_n (i := 3) B dX1_pass_34 rfl (by decide) ?_
        refine xw_aload_n B dX1_pass_35 rfl ?_
        refine xb_getA C 5 (by decide) rfl q245 dX1_pass_36 ?_
        refine xw_aload_n B dX1_pass_39 rfl ?_
        refine xb_getA C 2 (by decide) rfl q242 dX1_pass_40 ?_
        refine xw_iload_n B dX1_pass_43 rfl ?_
        refine xb_iald C 2 1 2 rfl rfl (by decide) dX1_pass_44 (i) (rfl) (by omega) (sA) ?_
        refine xb_iald C 5 4 5 rfl rfl (by decide) dX1_pass_45 (pA g i) (rfl) (by omega) (m1 _) ?_
        refine xw_if_le (tgt := 53) B dX1_pass_46 (by decide) (fun _ => ?_) (fun q => absurd (hc) q)
        refine xw_iload_n B dX1_pass_53 rfl ?_
        refine xw_if_ge (tgt := 63) B dX1_pass_54 (by decide) (fun q => absurd q (by decide)) (fun _ => ?_)
        refine xw_iload_n B dX1_pass_57 rfl ?_
        refine xw_iconst (v := nI 1) B dX1_pass_58 (by decide) ?_
        refine xw_iadd B dX1_pass_59 (nI_add en 1) ?_
        refine xw_goto (tgt := 66) B dX1_pass_60 (by decide) ?_
        exact xb_iret C rfl (rfl) dX1_pass_66 (⟨rfl, ⟨m1, m2, m3, m4⟩, Fs.rf σ⟩)
      · rw [if_neg hp] at C ⊢
        refine xw_istore_n (i := 3) B dX1_pass_34 rfl (by decide) ?_
        refine xw_aload_n B dX1_pass_35 rfl ?_
        refine xb_getA C 5 (by decide) rfl q245 dX1_pass_36 ?_
        refine xw_aload_n B dX1_pass_39 rfl ?_
        refine xb_getA C 2 (by decide) rfl q242 dX1_pass_40 ?_
        refine xw_iload_n B dX1_pass_43 rfl ?_
        refine xb_iald C 2 1 2 rfl rfl (by decide) dX1_pass_44 (i) (rfl) (by omega) (sA) ?_
        refine xb_iald C 5 4 5 rfl rfl (by decide) dX1_pass_45 (pA g i) (rfl) (by omega) (m1 _) ?_
        refine xw_if_le (tgt := 53) B dX1_pass_46 (by decide) (fun _ => ?_) (fun q => absurd (hc) q)
        refine xw_iload_n B dX1_pass_53 rfl ?_
        refine xw_if_ge (tgt := 63) B dX1_pass_54 (by decide) (fun _ => ?_) (fun q => absurd (nI_pos' (by omega)) q)
        refine xw_iload_n B dX1_pass_63 rfl ?_
        refine xw_iconst (v := nI 1) B dX1_pass_64 (by decide) ?_
        refine xw_iadd B dX1_pass_65 (nI_add p 1) ?_
        exact xb_iret C rfl (rfl) dX1_pass_66 (⟨rfl, ⟨m1, m2, m3, m4⟩, Fs.rf σ⟩)
  · obtain ⟨hE1, hE2, hE3⟩ := hE
    have hA := k2 (by omega) (by omega)
    have sA := s2 (by omega) (by omega)
    have hlt := stk_lt (i, p) (by rw [hE3]; exact List.mem_cons_self)
    simp only at hlt
    rw [if_pos (Or.inr e)]
    refine xw_if_eq (tgt := 16) B dX1_pass_5 (by decide) (fun q => absurd q (by decide)) (fun _ => ?_)
    refine xw_aload_n B dX1_pass_8 rfl ?_
    refine xw_iload_n B dX1_pass_9 rfl ?_
    refine xb_calli C (lw_V q313 q315 qs28 q33 q316) hdX1_endOf (by decide) (by decide) rfl (Nat.le_of_ble_eq_true rfl) dX1_pass_10 (b_endOf σ g S hok i en p (Or.inr e) hE1 hE2 hE3) rfl (fun r τ hp => ?_)
    obtain ⟨e1, e2⟩ := hp
    cases e2
    rw [e1]
    clear e1
    have hF : Fs σ (su σ 8 i (nI (pA g i))) := ⟨fun a j h1 h2 => by simp only [su]; rw [if_neg (by omega)], rfl⟩
    rcases hy with ⟨hc, hy⟩ | ⟨hc, hy⟩
    · subst hy
      refine xw_goto (tgt := 17) B dX1_pass_13 (by decide) ?_
      refine xw_istore_n (i := 2) B dX1_pass_17 rfl (by decide) ?_
      refine xw_aload_n B dX1_pass_18 rfl ?_
      refine xb_getA C 1 (by decide) rfl q241 dX1_pass_19 ?_
      refine xw_iload_n B dX1_pass_22 rfl ?_
      refine xb_iald C 1 0 1 rfl rfl (by decide) dX1_pass_23 (i) (rfl) (by omega) (s1) ?_
      refine xw_bipush (v := nI 8) B dX1_pass_24 (by decide) ?_
      refine xw_icmp_ne (tgt := 67) B dX1_pass_26 (by decide) (fun _ => ?_) (fun q => absurd q (by rw [zeq (by omega) (by omega)]; omega))
      refine xw_aload_n B dX1_pass_67 rfl ?_
      refine xb_getA C 1 (by decide) rfl q241 dX1_pass_68 ?_
      refine xw_iload_n B dX1_pass_71 rfl ?_
      refine xb_iald C 1 0 1 rfl rfl (by decide) dX1_pass_72 (i) (rfl) (by omega) (s1) ?_
      refine xw_bipush (v := nI 10) B dX1_pass_73 (by decide) ?_
      refine xw_icmp_ne (tgt := 109) B dX1_pass_75 (by decide) (fun q => absurd (by rw [zeq (by omega) (by omega)]; exact e) q) (fun _ => ?_)
      refine xw_aload_n B dX1_pass_78 rfl ?_
      refine xb_getA C 8 (by decide) rfl q248 dX1_pass_79 ?_
      refine xw_iload_n B dX1_pass_82 rfl ?_
      refine xw_aload_n B dX1_pass_83 rfl ?_
      refine xb_getA C 2 (by decide) rfl q242 dX1_pass_84 ?_
      refine xw_iload_n B dX1_pass_87 rfl ?_
      refine xb_iald C 2 1 2 rfl rfl (by decide) dX1_pass_88 (i) (rfl) (by omega) (sA) ?_
      refine xb_iast C 7 6 8 rfl rfl (xb_s8 h d _) (by decide) dX1_pass_89 (i) (rfl) (by omega) ?_
      refine xw_aload_n B dX1_pass_90 rfl ?_
      refine xb_getA C 2 (by decide) rfl q242 dX1_pass_91 ?_
      refine xw_iload_n B dX1_pass_94 rfl ?_
      refine xb_iald C 2 1 2 rfl rfl (by decide) dX1_pass_95 (i) (rfl) (by omega) (sA) ?_
      refine xw_if_ne (tgt := 105) B dX1_pass_96 (by decide) (fun q => absurd (by rw [hc]; rfl) q) (fun _ => ?_)
      refine xw_iload_n B dX1_pass_99 rfl ?_
      refine xw_iconst (v := nI 1) B dX1_pass_100 (by decide) ?_
      refine xw_iadd B dX1_pass_101 (nI_add en 1) ?_
      refine xw_goto (tgt := 108) B dX1_pass_102 (by decide) ?_
      exact xb_iret C rfl (rfl) dX1_pass_108 (⟨rfl, ⟨m1, su_row m2, m3, m4⟩, hF⟩)
    · subst hy
      refine xw_goto (tgt := 17) B dX1_pass_13 (by decide) ?_
      refine xw_istore_n (i := 2) B dX1_pass_17 rfl (by decide) ?_
      refine xw_aload_n B dX1_pass_18 rfl ?_
      refine xb_getA C 1 (by decide) rfl q241 dX1_pass_19 ?_
      refine xw_iload_n B dX1_pass_22 rfl ?_
      refine xb_iald C 1 0 1 rfl rfl (by decide) dX1_pass_23 (i) (rfl) (by omega) (s1) ?_
      refine xw_bipush (v := nI 8) B dX1_pass_24 (by decide) ?_
      refine xw_icmp_ne (tgt := 67) B dX1_pass_26 (by decide) (fun _ => ?_) (fun q => absurd q (by rw [zeq (by omega) (by omega)]; omega))
      refine xw_aload_n B dX1_pass_67 rfl ?_
      refine xb_getA C 1 (by decide) rfl q241 dX1_pass_68 ?_
      refine xw_iload_n B dX1_pass_71 rfl ?_
      refine xb_iald C 1 0 1 rfl rfl (by decide) dX1_pass_72 (i) (rfl) (by omega) (s1) ?_
      refine xw_bipush (v := nI 10) B dX1_pass_73 (by decide) ?_
      refine xw_icmp_ne (tgt := 109) B dX1_pass_75 (by decide) (fun q => absurd (by rw [zeq (by omega) (by omega)]; exact e) q) (fun _ => ?_)
      refine xw_aload_n B dX1_pass_78 rfl ?_
      refine xb_getA C 8 (by decide) rfl q248 dX1_pass_79 ?_
      refine xw_iload_n B dX1_pass_82 rfl ?_
      refine xw_aload_n B dX1_pass_83 rfl ?_
      refine xb_getA C 2 (by decide) rfl q242 dX1_pass_84 ?_
      refine xw_iload_n B dX1_pass_87 rfl ?_
      refine xb_iald C 2 1 2 rfl rfl (by decide) dX1_pass_88 (i) (rfl) (by omega) (sA) ?_
      refine xb_iast C 7 6 8 rfl rfl (xb_s8 h d _) (by decide) dX1_pass_89 (i) (rfl) (by omega) ?_
      refine xw_aload_n B dX1_pass_90 rfl ?_
      refine xb_getA C 2 (by decide) rfl q242 dX1_pass_91 ?_
      refine xw_iload_n B dX1_pass_94 rfl ?_
      refine xb_iald C 2 1 2 rfl rfl (by decide) dX1_pass_95 (i) (rfl) (by omega) (sA) ?_
      refine xw_if_ne (tgt := 105) B dX1_pass_96 (by decide) (fun _ => ?_) (fun q => absurd q (by rw [z0eq (by omega)]; exact hc))
      refine xw_iload_n B dX1_pass_105 rfl ?_
      refine xw_iconst (v := nI 1) B dX1_pass_106 (by decide) ?_
      refine xw_iadd B dX1_pass_107 (nI_add i 1) ?_
      exact xb_iret C rfl (rfl) dX1_pass_108 (⟨rfl, ⟨m1, su_row m2, m3, m4⟩, hF⟩)
  · obtain ⟨hE1, hE2, hE3⟩ := hE
    subst hy
    rw [if_neg (by omega)]
    refine xw_if_eq (tgt := 16) B dX1_pass_5 (by decide) (fun _ => ?_) (fun q => absurd (rfl) q)
    refine xw_iconst (v := nI 0) B dX1_pass_16 (by decide) ?_
    refine xw_istore_n (i := 2) B dX1_pass_17 rfl (by decide) ?_
    refine xw_aload_n B dX1_pass_18 rfl ?_
    refine xb_getA C 1 (by decide) rfl q241 dX1_pass_19 ?_
    refine xw_iload_n B dX1_pass_22 rfl ?_
    refine xb_iald C 1 0 1 rfl rfl (by decide) dX1_pass_23 (i) (rfl) (by omega) (s1) ?_
    refine xw_bipush (v := nI 8) B dX1_pass_24 (by decide) ?_
    refine xw_icmp_ne (tgt := 67) B dX1_pass_26 (by decide) (fun _ => ?_) (fun q => absurd q (by rw [zeq (by omega) (by omega)]; omega))
    refine xw_aload_n B dX1_pass_67 rfl ?_
    refine xb_getA C 1 (by decide) rfl q241 dX1_pass_68 ?_
    refine xw_iload_n B dX1_pass_71 rfl ?_
    refine xb_iald C 1 0 1 rfl rfl (by decide) dX1_pass_72 (i) (rfl) (by omega) (s1) ?_
    refine xw_bipush (v := nI 10) B dX1_pass_73 (by decide) ?_
    refine xw_icmp_ne (tgt := 109) B dX1_pass_75 (by decide) (fun _ => ?_) (fun q => absurd q (by rw [zeq (by omega) (by omega)]; omega))
    refine xw_aload_n B dX1_pass_109 rfl ?_
    refine xb_getA C 1 (by decide) rfl q241 dX1_pass_110 ?_
    refine xw_iload_n B dX1_pass_113 rfl ?_
    refine xb_iald C 1 0 1 rfl rfl (by decide) dX1_pass_114 (i) (rfl) (by omega) (s1) ?_
    refine xw_bipush (v := nI 9) B dX1_pass_115 (by decide) ?_
    refine xw_icmp_ne (tgt := 134) B dX1_pass_117 (by decide) (fun q => absurd (by rw [zeq (by omega) (by omega)]; exact e) q) (fun _ => ?_)
    refine xw_aload_n B dX1_pass_120 rfl ?_
    refine xw_iload_n B dX1_pass_121 rfl ?_
    refine xb_calli C (lw_V q296 q298 qs26 q33 q299) hdX1_openerOf (by decide) (by decide) rfl (Nat.le_of_ble_eq_true rfl) dX1_pass_122 (b_openerOf σ g S i (by omega) (okb_le (by omega) hok)) rfl (fun r τ hp => ?_)
    obtain ⟨e1, e2⟩ := hp
    cases e2
    rw [e1]
    clear e1
    have ho : ov g i = nI o := ov_1 hs
    rw [ho]
    refine xw_istore_n (i := 3) B dX1_pass_125 rfl (by decide) ?_
    refine xw_aload_n B dX1_pass_126 rfl ?_
    refine xw_iload_n B dX1_pass_127 rfl ?_
    refine xb_calli C (lw_V q313 q315 qs28 q33 q316) hdX1_endOf (by decide) (by decide) rfl (Nat.le_of_ble_eq_true rfl) dX1_pass_128 (b_endOf σ g S hok o en p (Or.inl ho8) hE1 hE2 hE3) rfl (fun r τ hp => ?_)
    obtain ⟨e1, e2⟩ := hp
    cases e2
    rw [e1]
    clear e1
    refine xw_iconst (v := nI 1) B dX1_pass_131 (by decide) ?_
    refine xw_iadd B dX1_pass_132 (nI_add en 1) ?_
    exact xb_iret C rfl (rfl) dX1_pass_133 (⟨rfl, ⟨m1, m2, m3, m4⟩, Fs.rf σ⟩)
  · have hlt := stk_lt (o, p) (by rw [hs]; exact List.mem_cons_self)
    simp only at hlt
    have so := (S.2.2 o (by omega)).1
    have ko := (S.1.2 o (by omega)).1
    rw [if_neg (by omega)]
    refine xw_if_eq (tgt := 16) B dX1_pass_5 (by decide) (fun _ => ?_) (fun q => absurd (rfl) q)
    refine xw_iconst (v := nI 0) B dX1_pass_16 (by decide) ?_
    refine xw_istore_n (i := 2) B dX1_pass_17 rfl (by decide) ?_
    refine xw_aload_n B dX1_pass_18 rfl ?_
    refine xb_getA C 1 (by decide) rfl q241 dX1_pass_19 ?_
    refine xw_iload_n B dX1_pass_22 rfl ?_
    refine xb_iald C 1 0 1 rfl rfl (by decide) dX1_pass_23 (i) (rfl) (by omega) (s1) ?_
    refine xw_bipush (v := nI 8) B dX1_pass_24 (by decide) ?_
    refine xw_icmp_ne (tgt := 67) B dX1_pass_26 (by decide) (fun _ => ?_) (fun q => absurd q (by rw [zeq (by omega) (by omega)]; omega))
    refine xw_aload_n B dX1_pass_67 rfl ?_
    refine xb_getA C 1 (by decide) rfl q241 dX1_pass_68 ?_
    refine xw_iload_n B dX1_pass_71 rfl ?_
    refine xb_iald C 1 0 1 rfl rfl (by decide) dX1_pass_72 (i) (rfl) (by omega) (s1) ?_
    refine xw_bipush (v := nI 10) B dX1_pass_73 (by decide) ?_
    refine xw_icmp_ne (tgt := 109) B dX1_pass_75 (by decide) (fun _ => ?_) (fun q => absurd q (by rw [zeq (by omega) (by omega)]; omega))
    refine xw_aload_n B dX1_pass_109 rfl ?_
    refine xb_getA C 1 (by decide) rfl q241 dX1_pass_110 ?_
    refine xw_iload_n B dX1_pass_113 rfl ?_
    refine xb_iald C 1 0 1 rfl rfl (by decide) dX1_pass_114 (i) (rfl) (by omega) (s1) ?_
    refine xw_bipush (v := nI 9) B dX1_pass_115 (by decide) ?_
    refine xw_icmp_ne (tgt := 134) B dX1_pass_117 (by decide) (fun _ => ?_) (fun q => absurd q (by rw [zeq (by omega) (by omega)]; omega))
    refine xw_aload_n B dX1_pass_134 rfl ?_
    refine xb_getA C 1 (by decide) rfl q241 dX1_pass_135 ?_
    refine xw_iload_n B dX1_pass_138 rfl ?_
    refine xb_iald C 1 0 1 rfl rfl (by decide) dX1_pass_139 (i) (rfl) (by omega) (s1) ?_
    refine xw_bipush (v := nI 11) B dX1_pass_140 (by decide) ?_
    refine xw_icmp_ne (tgt := 195) B dX1_pass_142 (by decide) (fun q => absurd (by rw [zeq (by omega) (by omega)]; exact e) q) (fun _ => ?_)
    refine xw_aload_n B dX1_pass_145 rfl ?_
    refine xw_iload_n B dX1_pass_146 rfl ?_
    refine xb_calli C (lw_V q296 q298 qs26 q33 q299) hdX1_openerOf (by decide) (by decide) rfl (Nat.le_of_ble_eq_true rfl) dX1_pass_147 (b_openerOf σ g S i (by omega) (okb_le (by omega) hok)) rfl (fun r τ hp => ?_)
    obtain ⟨e1, e2⟩ := hp
    cases e2
    rw [e1]
    clear e1
    have ho : ov g i = nI o := ov_1 hs
    rw [ho]
    rcases hy with ⟨ho8, hy⟩ | ⟨ho10, hy⟩
    · subst hy
      refine xw_istore_n (i := 3) B dX1_pass_150 rfl (by decide) ?_
      refine xw_aload_n B dX1_pass_151 rfl ?_
      refine xb_getA C 1 (by decide) rfl q241 dX1_pass_152 ?_
      refine xw_iload_n B dX1_pass_155 rfl ?_
      refine xb_iald C 1 0 1 rfl rfl (by decide) dX1_pass_156 (o) (rfl) (by omega) (so) ?_
      refine xw_bipush (v := nI 8) B dX1_pass_157 (by decide) ?_
      refine xw_icmp_ne (tgt := 166) B dX1_pass_159 (by decide) (fun q => absurd (by rw [zeq (by omega) (by omega)]; exact ho8) q) (fun _ => ?_)
      refine xw_iload_n B dX1_pass_162 rfl ?_
      refine xw_iconst (v := nI 1) B dX1_pass_163 (by decide) ?_
      refine xw_iadd B dX1_pass_164 (nI_add i 1) ?_
      exact xb_iret C rfl (rfl) dX1_pass_165 (⟨rfl, ⟨m1, m2, m3, m4⟩, Fs.rf σ⟩)
    · have hF : Fs σ (su σ 8 o (lf o - nI 1)) := ⟨fun a j h1 h2 => by simp only [su]; rw [if_neg (by omega)], rfl⟩
      rcases hy with ⟨hc, hy⟩ | ⟨hc, hy⟩
      · subst hy
        refine xw_istore_n (i := 3) B dX1_pass_150 rfl (by decide) ?_
        refine xw_aload_n B dX1_pass_151 rfl ?_
        refine xb_getA C 1 (by decide) rfl q241 dX1_pass_152 ?_
        refine xw_iload_n B dX1_pass_155 rfl ?_
        refine xb_iald C 1 0 1 rfl rfl (by decide) dX1_pass_156 (o) (rfl) (by omega) (so) ?_
        refine xw_bipush (v := nI 8) B dX1_pass_157 (by decide) ?_
        refine xw_icmp_ne (tgt := 166) B dX1_pass_159 (by decide) (fun _ => ?_) (fun q => absurd q (by rw [zeq (by omega) (by omega)]; omega))
        refine xw_aload_n B dX1_pass_166 rfl ?_
        refine xb_getA C 8 (by decide) rfl q248 dX1_pass_167 ?_
        refine xw_iload_n B dX1_pass_170 rfl ?_
        refine xw_dup2 B dX1_pass_171 rfl rfl ?_
        refine xb_iald C 7 6 8 rfl rfl (by decide) dX1_pass_172 (o) (rfl) (by omega) (m2 _) ?_
        refine xw_iconst (v := nI 1) B dX1_pass_173 (by decide) ?_
        refine xw_isub B dX1_pass_174 (rfl) ?_
        refine xb_iast C 7 6 8 rfl rfl (xb_s8 h d _) (by decide) dX1_pass_175 (o) (rfl) (by omega) ?_
        refine xw_aload_n B dX1_pass_176 rfl ?_
        refine xb_getA C 8 (by decide) rfl q248 dX1_pass_177 ?_
        refine xw_iload_n B dX1_pass_180 rfl ?_
        refine xb_iald C 7 6 8 rfl rfl (by decide) dX1_pass_181 (o) (rfl) (by omega) (zs_eq) ?_
        refine xw_if_le (tgt := 191) B dX1_pass_182 (by decide) (fun q => absurd q (hc)) (fun _ => ?_)
        refine xw_iload_n B dX1_pass_185 rfl ?_
        refine xw_iconst (v := nI 1) B dX1_pass_186 (by decide) ?_
        refine xw_iadd B dX1_pass_187 (nI_add o 1) ?_
        refine xw_goto (tgt := 194) B dX1_pass_188 (by decide) ?_
        exact xb_iret C rfl (rfl) dX1_pass_194 (⟨rfl, ⟨m1, su_row m2, m3, m4⟩, hF⟩)
      · subst hy
        refine xw_istore_n (i := 3) B dX1_pass_150 rfl (by decide) ?_
        refine xw_aload_n B dX1_pass_151 rfl ?_
        refine xb_getA C 1 (by decide) rfl q241 dX1_pass_152 ?_
        refine xw_iload_n B dX1_pass_155 rfl ?_
        refine xb_iald C 1 0 1 rfl rfl (by decide) dX1_pass_156 (o) (rfl) (by omega) (so) ?_
        refine xw_bipush (v := nI 8) B dX1_pass_157 (by decide) ?_
        refine xw_icmp_ne (tgt := 166) B dX1_pass_159 (by decide) (fun _ => ?_) (fun q => absurd q (by rw [zeq (by omega) (by omega)]; omega))
        refine xw_aload_n B dX1_pass_166 rfl ?_
        refine xb_getA C 8 (by decide) rfl q248 dX1_pass_167 ?_
        refine xw_iload_n B dX1_pass_170 rfl ?_
        refine xw_dup2 B dX1_pass_171 rfl rfl ?_
        refine xb_iald C 7 6 8 rfl rfl (by decide) dX1_pass_172 (o) (rfl) (by omega) (m2 _) ?_
        refine xw_iconst (v := nI 1) B dX1_pass_173 (by decide) ?_
        refine xw_isub B dX1_pass_174 (rfl) ?_
        refine xb_iast C 7 6 8 rfl rfl (xb_s8 h d _) (by decide) dX1_pass_175 (o) (rfl) (by omega) ?_
        refine xw_aload_n B dX1_pass_176 rfl ?_
        refine xb_getA C 8 (by decide) rfl q248 dX1_pass_177 ?_
        refine xw_iload_n B dX1_pass_180 rfl ?_
        refine xb_iald C 7 6 8 rfl rfl (by decide) dX1_pass_181 (o) (rfl) (by omega) (zs_eq) ?_
        refine xw_if_le (tgt := 191) B dX1_pass_182 (by decide) (fun _ => ?_) (fun q => absurd (hc) q)
        refine xw_iload_n B dX1_pass_191 rfl ?_
        refine xw_iconst (v := nI 1) B dX1_pass_192 (by decide) ?_
        refine xw_iadd B dX1_pass_193 (nI_add i 1) ?_
        exact xb_iret C rfl (rfl) dX1_pass_194 (⟨rfl, ⟨m1, su_row m2, m3, m4⟩, hF⟩)
/-- passes one after the other -/
def Mn (g : Pg) : Nat → Ms → Ms → Prop
  | 0, x, z => x = z
  | t + 1, x, z => ∃ y, Pas g x y ∧ Mn g t y z
theorem Pas.k {g : Pg} {x y : Ms} (h : Pas g x y) : y.2.2.2.1 ≤ x.2.2.2.1 + 1 := by
  obtain ⟨-, P⟩ := h
  rcases P with ⟨e, hy⟩ | ⟨e, hy⟩ | ⟨e, en, p, hE, hy | hy⟩ | ⟨e, en, p, hE, hy | hy⟩ | ⟨e, o, en, p, hs, ho8, hE, hy⟩ | ⟨e, o, p, hs, hy | ⟨ho, hy | hy⟩⟩
  · rw [hy]; exact Nat.le_succ _
  · rw [hy]; exact Nat.le_refl _
  · rw [hy.2]; exact Nat.le_succ _
  · rw [hy.2]; exact Nat.le_succ _
  · rw [hy.2]; exact Nat.le_succ _
  · rw [hy.2]; exact Nat.le_succ _
  · rw [hy]; exact Nat.le_succ _
  · rw [hy.2]; exact Nat.le_succ _
  · rw [hy.2]; exact Nat.le_succ _
  · rw [hy.2]; exact Nat.le_succ _
theorem b_run_loop (σ0 : Sg) (g : Pg) (hok : okb g (pN g) = true) (z : Ms) (hz : z.1 = pN g) {X : CX} {D : va_G} {h : Nat → Nat} {d : Nat → ClassId}
    (C : CB X cX1_run 3 (some .int) 4 D h d (fun r τ => r = some (nI z.2.2.2.1) ∧ Mm τ z ∧ Fs σ0 τ)) :
    ∀ (t s : Nat) (x : Ms) (σ : Sg), Mn g t x z → s + t ≤ 5000 → x.2.2.2.1 ≤ s → Sm σ g → Mm σ x → Fs σ0 σ → XW X (PB D h d σ) 19 [(2, .int (nI s)), (1, .int (nI x.1)), (0, .ref (h 0))] [] := by
  have B := C.1
  intro t
  induction t with
  | zero =>
    intro s x σ R hs hk S M F
    have hn : pN g ≤ 40 := S.1.1
    simp only [Mn] at R
    subst R
    have J46 : XW X (PB D h d σ) 46 [(0, .ref (h 0))] [] := by
      refine xw_aload_n B dX1_run_46 rfl ?_
      refine xb_getS C 7 (by decide) rfl q247 dX1_run_47 (M.2.2.1) ?_
      exact xb_iret C rfl (rfl) dX1_run_50 (⟨rfl, M, F⟩)
    by_cases hst : s < 5000
    · refine xw_iload_n B dX1_run_19 rfl ?_
      refine xw_sipush (v := nI 5000) B dX1_run_20 (by decide) ?_
      refine xw_icmp_ge (tgt := 46) B dX1_run_23 (by decide) (fun q => absurd q ((show ¬ nI 5000 ≤ nI s by rw [zle (by omega) (by omega)]; omega))) (fun _ => ?_)
      refine xw_iload_n B dX1_run_26 rfl ?_
      refine xw_aload_n B dX1_run_27 rfl ?_
      refine xb_getS C 0 (by decide) rfl q240 dX1_run_28 (S.2.1) ?_
      refine xw_icmp_ge (tgt := 46) B dX1_run_31 (by decide) (fun _ => ?_) (fun q => absurd ((show nI (pN g) ≤ nI x.1 by rw [zle (by omega) (by omega)]; omega)) q)
      exact xw_loc [(0, .ref (h 0))] ⟨rfl, trivial⟩ J46
    · refine xw_iload_n B dX1_run_19 rfl ?_
      refine xw_sipush (v := nI 5000) B dX1_run_20 (by decide) ?_
      refine xw_icmp_ge (tgt := 46) B dX1_run_23 (by decide) (fun _ => ?_) (fun q => absurd ((show nI 5000 ≤ nI s by rw [zle (by omega) (by omega)]; omega)) q)
      exact xw_loc [(0, .ref (h 0))] ⟨rfl, trivial⟩ J46
  | succ t ih =>
    intro s x σ R hs hk S M F
    have hn : pN g ≤ 40 := S.1.1
    obtain ⟨y, P, R⟩ := R
    have hx := P.1
    refine xw_iload_n B dX1_run_19 rfl ?_
    refine xw_sipush (v := nI 5000) B dX1_run_20 (by decide) ?_
    refine xw_icmp_ge (tgt := 46) B dX1_run_23 (by decide) (fun q => absurd q ((show ¬ nI 5000 ≤ nI s by rw [zle (by omega) (by omega)]; omega))) (fun _ => ?_)
    refine xw_iload_n B dX1_run_26 rfl ?_
    refine xw_aload_n B dX1_run_27 rfl ?_
    refine xb_getS C 0 (by decide) rfl q240 dX1_run_28 (S.2.1) ?_
    refine xw_icmp_ge (tgt := 46) B dX1_run_31 (by decide) (fun q => absurd q ((show ¬ nI (pN g) ≤ nI x.1 by rw [zle (by omega) (by omega)]; omega))) (fun _ => ?_)
    refine xw_aload_n B dX1_run_34 rfl ?_
    refine xw_iload_n B dX1_run_35 rfl ?_
    refine xb_calli C (lw_V q309 q311 qs27 q33 q312) hdX1_pass (by decide) (by decide) rfl (Nat.le_of_ble_eq_true rfl) dX1_run_36 (b_pass σ g S hok x y P M (by omega)) rfl (fun r τ u => ?_)
    obtain ⟨u1, u2, u3⟩ := u
    cases u1
    refine xw_istore_n (i := 1) B dX1_run_39 rfl (by decide) ?_
    refine xw_iinc B dX1_run_40 rfl (zinc s) (by decide) ?_
    refine xw_goto (tgt := 19) B dX1_run_43 (by decide) ?_
    refine xw_loc [(2, .int (nI (s + 1))), (1, .int (nI y.1)), (0, .ref (h 0))] ⟨rfl, rfl, rfl, trivial⟩ ?_
    exact ih (s + 1) y τ R (by omega) (by have := P.k; omega) (S.fs u3) u2 (F.tr u3)
/-- run of a sound program -/
theorem b_run (σ : Sg) (g : Pg) (S : Sm σ g) (hs : snd g = true) (t : Nat) (ht : t ≤ 5000) (z : Ms) (hz : z.1 = pN g) (R : Mn g t (0, σ 5, σ 8, 0, σ 6) z) : XB 4 yX1_run cX1_run 3 (some .int) [] σ (fun r τ => r = some (nI z.2.2.2.1) ∧ Mm τ z ∧ Fs σ τ) := by
  have hok : okb g (pN g) = true := by
    simp only [snd, Bool.and_eq_true] at hs
    exact hs.1
  refine xb_ofI [] (by decide) rfl (Nat.le_of_ble_eq_true rfl) (fun X D h d C => ?_)
  have B := C.1
  show XW X _ 0 [(0, .ref (h 0))] []
  refine xw_aload_n B dX1_run_0 rfl ?_
  refine xb_calli C (lw_V q308 q285 q286 q33 q287) hdX1_sound (by decide) (by decide) rfl (Nat.le_of_ble_eq_true rfl) dX1_run_1 (b_sound σ g S) rfl (fun r τ hp => ?_)
  obtain ⟨e1, e2⟩ := hp
  cases e2
  rw [e1]
  clear e1
  rw [hs]
  refine xw_if_ne (tgt := 10) B dX1_run_4 (by decide) (fun _ => ?_) (fun q => absurd q (by decide))
  refine xw_aload_n B dX1_run_10 rfl ?_
  refine xw_iconst (v := nI 0) B dX1_run_11 (by decide) ?_
  refine xb_put (ty := .int) C 7 (by decide) (xb_f7 h d _ _) q247 rfl (by decide +kernel) (rfl) (rfl) dX1_run_12 ?_
  refine xw_iconst (v := nI 0) B dX1_run_15 (by decide) ?_
  refine xw_istore_n (i := 1) B dX1_run_16 rfl (by decide) ?_
  refine xw_iconst (v := nI 0) B dX1_run_17 (by decide) ?_
  refine xw_istore_n (i := 2) B dX1_run_18 rfl (by decide) ?_
  refine xw_loc [(2, .int (nI 0)), (1, .int (nI 0)), (0, .ref (h 0))] ⟨rfl, rfl, rfl, trivial⟩ ?_
  have F1 : Fs σ (su σ 0 7 (nI 0)) := ⟨fun a j h1 h2 => by simp only [su]; rw [if_neg (by omega)], rfl⟩
  exact b_run_loop σ g hok z hz C t 0 _ _ R (by omega) (Nat.le_refl _) (S.fs F1) ⟨fun _ => rfl, fun _ => rfl, rfl, fun _ => rfl⟩ F1
/-- run of an unsound one -/
theorem b_run_no (σ : Sg) (g : Pg) (S : Sm σ g) (hs : snd g = false) : XB 4 yX1_run cX1_run 3 (some .int) [] σ (fun r τ => r = some (-3) ∧ τ = σ) := by
  refine xb_ofI [] (by decide) rfl (Nat.le_of_ble_eq_true rfl) (fun X D h d C => ?_)
  have B := C.1
  show XW X _ 0 [(0, .ref (h 0))] []
  refine xw_aload_n B dX1_run_0 rfl ?_
  refine xb_calli C (lw_V q308 q285 q286 q33 q287) hdX1_sound (by decide) (by decide) rfl (Nat.le_of_ble_eq_true rfl) dX1_run_1 (b_sound σ g S) rfl (fun r τ hp => ?_)
  obtain ⟨e1, e2⟩ := hp
  cases e2
  rw [e1]
  clear e1
  rw [hs]
  refine xw_if_ne (tgt := 10) B dX1_run_4 (by decide) (fun q => absurd (rfl) q) (fun _ => ?_)
  refine xw_bipush (v := (-3)) B dX1_run_7 (by decide) ?_
  exact xb_iret C rfl (rfl) dX1_run_9 (⟨rfl, rfl⟩)
end
section
/-! straight execution of the machine -/
abbrev Sk : Type := List Int32 × Nat × (Nat → Int32)
def Go : List (Nat × Int32) → Sk → Sk → Prop
  | [], s, t => s = t
  | q :: l, s, t => ∃ u : Sk, (∀ a : Nat, Exm q.1 q.2 (a, s) (a + 1, u)) ∧ Go l u t
theorem Go.nil (s : Sk) : Go [] s s := rfl
theorem Go.cons {q : Nat × Int32} {l : List (Nat × Int32)} {s u t : Sk} (h : ∀ a : Nat, Exm q.1 q.2 (a, s) (a + 1, u)) (k : Go l u t) : Go (q :: l) s t := ⟨u, h, k⟩
theorem Go.app {l l' : List (Nat × Int32)} {s t u : Sk} (h : Go l s t) (k : Go l' t u) : Go (l ++ l') s u := by
  induction l generalizing s with
  | nil =>
    have e : s = t := h
    subst e
    exact k
  | cons q l ih =>
    obtain ⟨w, h1, h2⟩ := h
    exact ⟨w, h1, ih h2⟩
def Cd (c : List (Nat × Int32)) (a : Nat) (l : List (Nat × Int32)) : Prop := ∀ (j : Nat) (q : Nat × Int32), l[j]? = some q → c[a + j]? = some q
theorem Cd.app {c : List (Nat × Int32)} {a : Nat} {l l' : List (Nat × Int32)} (h : Cd c a (l ++ l')) : Cd c a l ∧ Cd c (a + l.length) l' := by
  refine ⟨fun j q hj => h j q ?_, fun j q hj => ?_⟩
  · rw [List.getElem?_append_left (lt_of_q hj)]
    exact hj
  · have := h (l.length + j) q (by rw [List.getElem?_append_right (by omega), Nat.add_sub_cancel_left]; exact hj)
    rw [← Nat.add_assoc] at this
    exact this
theorem Cd.tail {c : List (Nat × Int32)} {a : Nat} {q : Nat × Int32} {l : List (Nat × Int32)} (h : Cd c a (q :: l)) : c[a]? = some q ∧ Cd c (a + 1) l := by
  refine ⟨h 0 q rfl, fun j r hj => ?_⟩
  have := h (j + 1) r (by simpa using hj)
  rwa [show a + (j + 1) = a + 1 + j by omega] at this
theorem Rn.tr {c : List (Nat × Int32)} : ∀ {k k' : Nat} {x y z : Mx}, Rn c k x y → Rn c k' y z → Rn c (k + k') x z
  | 0, k', x, y, z, h, h' => by
    have e : x = y := h
    subst e
    rw [Nat.zero_add]
    exact h'
  | k + 1, k', x, y, z, h, h' => by
    obtain ⟨w, o, m, h1, h2, h3⟩ := h
    rw [show k + 1 + k' = (k + k') + 1 by omega]
    exact ⟨w, o, m, h1, h2, Rn.tr h3 h'⟩
theorem Rn.one {c : List (Nat × Int32)} {x y : Mx} {o : Nat} {m : Int32} (h : c[x.1]? = some (o, m)) (E : Exm o m x y) : Rn c 1 x y := ⟨y, o, m, h, E, rfl⟩
theorem Go.rn {c : List (Nat × Int32)} : ∀ {l : List (Nat × Int32)} {a : Nat} {s t : Sk}, Cd c a l → Go l s t → Rn c l.length (a, s) (a + l.length, t)
  | [], a, s, t, _, h => by
    have e : s = t := h
    subst e
    exact (rfl : ((a, s) : Mx) = (a, s))
  | q :: l, a, s, t, hc, h => by
    obtain ⟨u, h1, h2⟩ := h
    have h3 := Go.rn hc.tail.2 h2
    rw [show a + 1 + l.length = a + (q :: l).length by rw [List.length_cons]; omega] at h3
    exact ⟨(a + 1, u), q.1, q.2, hc.tail.1, h1 a, h3⟩
section EX
variable {a d o : Nat} {n v p q : Int32} {s t : List Int32} {m : Nat × (Nat → Int32)}
theorem ex_ar (h1 : 2 ≤ o) (h2 : o ≤ 6) : Exm o n (a, q :: p :: t, m) (a + 1, cmp o p q :: t, m) := Or.inl ⟨h1, h2, p, q, t, rfl, rfl⟩
theorem ex_push (h : s.length < 16) : Exm 0 n (a, s, m) (a + 1, n :: s, m) := Or.inr (Or.inl ⟨rfl, h, rfl⟩)
theorem ex_dup (h : s.length < 16) (hd : s[d]? = some v) : Exm 1 (nI d) (a, s, m) (a + 1, v :: s, m) := Or.inr (Or.inr (Or.inl ⟨rfl, h, d, v, rfl, hd, rfl⟩))
theorem ex_pull (hd : s[d]? = some v) : Exm 7 (nI d) (a, s, m) (a + 1, v :: s.eraseIdx d, m) := Or.inr (Or.inr (Or.inr (Or.inl ⟨rfl, d, v, rfl, hd, rfl⟩)))
theorem ex_jump : Exm 11 (nI d) (a, s, m) (d, s, m) := Or.inr (Or.inr (Or.inr (Or.inr (Or.inl ⟨rfl, d, rfl, rfl⟩))))
theorem ex_drop : Exm 8 n (a, v :: t, m) (a + 1, t, m) := Or.inr (Or.inr (Or.inr (Or.inr (Or.inr (Or.inl ⟨rfl, v, t, rfl, rfl⟩)))))
theorem ex_out : Exm 9 n (a, v :: t, m) (a + 1, t, prn v m) := Or.inr (Or.inr (Or.inr (Or.inr (Or.inr (Or.inr (Or.inl ⟨rfl, v, t, rfl, rfl⟩))))))
theorem ex_jup (h : v ≤ 0) : Exm 10 (nI d) (a, v :: t, m) (d, t, m) := Or.inr (Or.inr (Or.inr (Or.inr (Or.inr (Or.inr (Or.inr ⟨rfl, v, t, rfl, Or.inl ⟨h, d, rfl, rfl⟩⟩))))))
theorem ex_jun (h : ¬ v ≤ 0) : Exm 10 n (a, v :: t, m) (a + 1, t, m) := Or.inr (Or.inr (Or.inr (Or.inr (Or.inr (Or.inr (Or.inr ⟨rfl, v, t, rfl, Or.inr ⟨h, rfl⟩⟩))))))
end EX
theorem mp_er (V : Nat → Int32) : ∀ (y : List Nat) (d : Nat), (y.map V).eraseIdx d = (y.eraseIdx d).map V
  | [], d => by simp
  | a :: t, 0 => rfl
  | a :: t, d + 1 => by
    show V a :: (t.map V).eraseIdx d = V a :: (t.eraseIdx d).map V
    rw [mp_er V t d]
theorem mp_at {y : List Nat} {w : Nat} (hw : w ∈ y) (V : Nat → Int32) : (y.map V)[dx y w]? = some (V w) := by
  rw [List.getElem?_map, dx_in hw]
  rfl
theorem go_pull {y : List Nat} {w : Nat} (hw : w ∈ y) (V : Nat → Int32) (m : Nat × (Nat → Int32)) : Go (plC (dx y w)) (y.map V, m) ((w :: y.eraseIdx (dx y w)).map V, m) := by
  have h1 := dx_in hw
  by_cases e : dx y w = 0
  · rw [e] at h1 ⊢
    cases y with
    | nil => cases hw
    | cons a t =>
      have h2 : a = w := by simpa using h1
      rw [show plC 0 = [] from rfl, ← h2]
      exact Go.nil _
  · rw [plC, if_neg e]
    refine Go.cons (fun a => ex_pull (mp_at hw V)) ?_
    rw [mp_er]
    exact Go.nil _
theorem go_ft0 {g : Pg} {i v : Nat} {ag : Bool} {y : List Nat} (c : List (Nat × Int32)) (hn : y.Nodup) (hv : v ≤ 5) (hy : v ∈ y) (hl : y.length < 16) : ∃ y2, (ft g i v ag (y, c)).1 = 9 :: y2 ∧ Sb g i y y2 ∧ (ag = true → y2 = y) ∧ ∃ em, (ft g i v ag (y, c)).2 = c ++ em ∧ ∀ (V : Nat → Int32) (m : Nat × (Nat → Int32)), Go em (y.map V, m) (V v :: y2.map V, m) := by
  by_cases hc : ((wrt g i v || !wan g (i + 1) v) && !ag) = true
  · have e : ft g i v ag (y, c) = (9 :: y.eraseIdx (dx y v), c ++ plC (dx y v)) := by unfold ft; rw [if_pos hc]
    rw [e]
    simp at hc
    refine ⟨y.eraseIdx (dx y v), rfl, ?_, fun z => ?_, plC (dx y v), rfl, fun V m => go_pull hy V m⟩
    · rw [er_eq]
      refine ⟨hn.erase v, fun w hw => List.mem_of_mem_erase hw, fun w hw => ?_⟩
      by_cases e : w = v
      · subst e
        exact Or.inr ⟨hv, hc.1⟩
      · exact Or.inl ((List.mem_erase_of_ne e).mpr hw)
    · rw [hc.2] at z
      cases z
  · have e : ft g i v ag (y, c) = (9 :: y, c ++ [(1, nI (dx y v))]) := by unfold ft; rw [if_neg hc]
    rw [e]
    exact ⟨y, rfl, Sb.rf hn, fun _ => rfl, [(1, nI (dx y v))], rfl, fun V m => Go.cons (fun a => ex_dup (by simpa using hl) (mp_at hy V)) (Go.nil _)⟩
theorem dx_9 {y : List Nat} {v : Nat} (hv : v ≤ 5) : dx (9 :: y) v = dx y v + 1 := by rw [dx, if_neg (by omega)]
theorem go_ft1 {g : Pg} {i v : Nat} {ag : Bool} {y : List Nat} (c : List (Nat × Int32)) (hn : y.Nodup) (hv : v ≤ 5) (hy : v ∈ y) (hl : y.length < 15) : ∃ y2, (ft g i v ag (9 :: y, c)).1 = 9 :: 9 :: y2 ∧ Sb g i y y2 ∧ ∃ em, (ft g i v ag (9 :: y, c)).2 = c ++ em ∧ ∀ (V : Nat → Int32) (r : Int32) (m : Nat × (Nat → Int32)), Go em (r :: y.map V, m) (V v :: r :: y2.map V, m) := by
  by_cases hc : ((wrt g i v || !wan g (i + 1) v) && !ag) = true
  · have e : ft g i v ag (9 :: y, c) = (9 :: 9 :: y.eraseIdx (dx y v), c ++ [(7, nI (dx y v + 1))]) := by
      unfold ft
      rw [if_pos hc]
      simp only
      rw [dx_9 hv, plC, if_neg (by omega), List.eraseIdx_cons_succ]
    rw [e]
    simp at hc
    refine ⟨y.eraseIdx (dx y v), rfl, ?_, [(7, nI (dx y v + 1))], rfl, fun V r m => ?_⟩
    · rw [er_eq]
      refine ⟨hn.erase v, fun w hw => List.mem_of_mem_erase hw, fun w hw => ?_⟩
      by_cases e : w = v
      · subst e
        exact Or.inr ⟨hv, hc.1⟩
      · exact Or.inl ((List.mem_erase_of_ne e).mpr hw)
    · refine Go.cons (u := (V v :: r :: (y.map V).eraseIdx (dx y v), m)) (fun a => ex_pull (s := r :: y.map V) (d := dx y v + 1) (by rw [List.getElem?_cons_succ]; exact mp_at hy V)) ?_
      rw [mp_er]
      exact Go.nil _
  · have e : ft g i v ag (9 :: y, c) = (9 :: 9 :: y, c ++ [(1, nI (dx y v + 1))]) := by
      unfold ft
      rw [if_neg hc]
      simp only
      rw [dx_9 hv]
    rw [e]
    exact ⟨y, rfl, Sb.rf hn, [(1, nI (dx y v + 1))], rfl, fun V r m => Go.cons (fun a => ex_dup (s := r :: y.map V) (d := dx y v + 1) (by simp; omega) (by rw [List.getElem?_cons_succ]; exact mp_at hy V)) (Go.nil _)⟩
theorem go_stl {v : Nat} {y : List Nat} (c : List (Nat × Int32)) : (stl v (9 :: y, c)).1 = v :: y.erase v ∧ ∃ em, (stl v (9 :: y, c)).2 = c ++ em ∧ ∀ (V : Nat → Int32) (r : Int32) (m : Nat × (Nat → Int32)), Go em (r :: y.map V, m) (r :: (y.erase v).map V, m) := by
  refine ⟨?_, stC y v, rfl, fun V r m => ?_⟩
  · show v :: y.eraseIdx (dx y v) = _
    rw [er_eq]
  · by_cases hv : v ∈ y
    · rw [stC, if_pos hv]
      refine Go.cons (u := (V v :: r :: (y.map V).eraseIdx (dx y v), m)) (fun a => ex_pull (s := r :: y.map V) (d := dx y v + 1) (by rw [List.getElem?_cons_succ]; exact mp_at hv V)) ?_
      refine Go.cons (fun a => ex_drop) ?_
      rw [mp_er, er_eq]
      exact Go.nil _
    · rw [stC, if_neg hv, List.erase_of_not_mem hv]
      exact Go.nil _
theorem go_ar {g : Pg} {i : Nat} {y : List Nat} (c : List (Nat × Int32)) (hn : y.Nodup) (hk1 : 2 ≤ pK g i) (hk2 : pK g i ≤ 6) (hB : pB g i ≤ 5) (hC : pC g i ≤ 5) (hyB : pB g i ∈ y) (hyC : pC g i ∈ y) (hl : y.length < 14) : ∃ y2, (ar g i (y, c)).1 = 9 :: y2 ∧ Sb g i y y2 ∧ ∃ em, (ar g i (y, c)).2 = c ++ em ∧ ∀ (V : Nat → Int32) (m : Nat × (Nat → Int32)), Go em (y.map V, m) (cmp (pK g i) (V (pB g i)) (V (pC g i)) :: y2.map V, m) := by
  by_cases hbc : pB g i = pC g i
  · obtain ⟨y2, e1, h1, h0, em, e2, h2⟩ := go_ft0 (g := g) (i := i) (ag := true) c hn hB hyB (by omega)
    have h0 := h0 rfl
    have ea : arP g i (y, c) = (9 :: 9 :: y2, c ++ em ++ [(1, nI (dx (9 :: y2) (pB g i)))]) := by
      rw [arP, if_pos hbc, e1, e2]
    refine ⟨y2, ?_, h1, em ++ [(1, nI (dx (9 :: y2) (pB g i)))] ++ [(pK g i, 0)], ?_, fun V m => ?_⟩
    · show (arP g i (y, c)).1.tail = _
      rw [ea]
      rfl
    · show (arP g i (y, c)).2 ++ [(pK g i, 0)] = _
      rw [ea]
      simp
    · have hyB2 : pB g i ∈ y2 := by rw [h0]; exact hyB
      have hl2 : y2.length < 14 := by rw [h0]; exact hl
      have d1 : Go [(1, nI (dx (9 :: y2) (pB g i)))] (V (pB g i) :: y2.map V, m) (V (pB g i) :: V (pB g i) :: y2.map V, m) := by
        rw [dx_9 hB]
        exact Go.cons (fun a => ex_dup (s := V (pB g i) :: y2.map V) (d := dx y2 (pB g i) + 1) (by simp; omega) (by rw [List.getElem?_cons_succ]; exact mp_at hyB2 V)) (Go.nil _)
      have d2 : Go [(pK g i, 0)] (V (pB g i) :: V (pB g i) :: y2.map V, m) (cmp (pK g i) (V (pB g i)) (V (pB g i)) :: y2.map V, m) := Go.cons (fun a => ex_ar hk1 hk2) (Go.nil _)
      rw [← hbc]
      exact ((h2 V m).app d1).app d2
  · obtain ⟨y1, e1, h1, -, em1, e2, h2⟩ := go_ft0 (g := g) (i := i) (ag := false) c hn hB hyB (by omega)
    have ef : ft g i (pB g i) false (y, c) = (9 :: y1, c ++ em1) := Prod.ext e1 e2
    have hm : pC g i ∈ y1 := by
      have := ft_mem (g := g) (i := i) (v := pB g i) (ag := false) (s := (y, c)) hyC (Or.inl (fun z => hbc z.symm))
      rw [e1] at this
      rcases List.mem_cons.mp this with z | z
      · omega
      · exact z
    have hl1 := (ft_len g i (pB g i) false (y, c)).1
    rw [e1] at hl1
    simp at hl1
    obtain ⟨y2, e3, h3, em2, e4, h4⟩ := go_ft1 (g := g) (i := i) (ag := false) (c ++ em1) h1.1 hC hm (by omega)
    have ea : arP g i (y, c) = (9 :: 9 :: y2, c ++ em1 ++ em2) := by
      rw [arP, if_neg hbc, ef]
      exact Prod.ext e3 e4
    refine ⟨y2, ?_, h1.tr h3, em1 ++ em2 ++ [(pK g i, 0)], ?_, fun V m => ?_⟩
    · show (arP g i (y, c)).1.tail = _
      rw [ea]
      rfl
    · show (arP g i (y, c)).2 ++ [(pK g i, 0)] = _
      rw [ea]
      simp
    · exact ((h2 V m).app (h4 V _ m)).app (Go.cons (fun a => ex_ar hk1 hk2) (Go.nil _))
/-- a straight statement on the machine -/
theorem go_cst {g : Pg} (H : Pok g) {i : Nat} (hi : i < pN g) (hk : pK g i ≤ 7) {y : List Nat} (c : List (Nat × Int32)) (hn : y.Nodup) (hW : wnt g i y) (hl : y.length < 14) : ∃ y2 em, Sb g i y y2 ∧ (cst g i (y, c)).2 = c ++ em ∧ ((pK g i = 7 ∧ (cst g i (y, c)).1 = y2 ∧ ∀ (V : Nat → Int32) (m : Nat × (Nat → Int32)), Go em (y.map V, m) (y2.map V, prn (V (pA g i)) m)) ∨ (pK g i ≤ 6 ∧ (cst g i (y, c)).1 = pA g i :: y2.erase (pA g i) ∧ ∀ (V : Nat → Int32) (m : Nat × (Nat → Int32)), Go em (y.map V, m) (mpl g i V :: (y2.erase (pA g i)).map V, m))) := by
  obtain ⟨k1, k2, k3, k4⟩ := H.2 i hi
  have hA := k2 (by omega) (by omega)
  by_cases h7 : pK g i = 7
  · obtain ⟨y2, e1, h1, -, em, e2, h2⟩ := go_ft0 (g := g) (i := i) (ag := false) c hn hA (hW.1 h7) (by omega)
    have e : cst g i (y, c) = (y2, c ++ em ++ [(9, 0)]) := by
      rw [cst, if_pos h7, e1, e2]
      rfl
    rw [e]
    refine ⟨y2, em ++ [(9, 0)], h1, by simp, Or.inl ⟨h7, rfl, fun V m => (h2 V m).app (Go.cons (fun a => ex_out) (Go.nil _))⟩⟩
  · by_cases h0 : pK g i = 0
    · obtain ⟨e1, em, e2, h2⟩ := go_stl (v := pA g i) (y := y) (c ++ [(0, pI g i)])
      have e : cst g i (y, c) = stl (pA g i) (9 :: y, c ++ [(0, pI g i)]) := by rw [cst, if_neg h7, if_pos h0]
      rw [e]
      refine ⟨y, [(0, pI g i)] ++ em, Sb.rf hn, by rw [e2]; simp, Or.inr ⟨by omega, e1, fun V m => ?_⟩⟩
      rw [show mpl g i V = pI g i by rw [mpl, if_pos h0]]
      exact Go.app (Go.cons (fun a => ex_push (by simp; omega)) (Go.nil _)) (h2 V _ m)
    · by_cases h1 : pK g i = 1
      · obtain ⟨y2, a1, a2, -, em1, a3, a4⟩ := go_ft0 (g := g) (i := i) (ag := false) c hn (k3 (by omega) (by omega)) (hW.2.1 (by omega) (by omega)) (by omega)
        obtain ⟨e1, em, e2, h2⟩ := go_stl (v := pA g i) (y := y2) (c ++ em1)
        have e : cst g i (y, c) = stl (pA g i) (9 :: y2, c ++ em1) := by
          rw [cst, if_neg h7, if_neg h0, if_pos h1]
          rw [show ft g i (pB g i) false (y, c) = (9 :: y2, c ++ em1) from Prod.ext a1 a3]
        rw [e]
        refine ⟨y2, em1 ++ em, a2, by rw [e2]; simp, Or.inr ⟨by omega, e1, fun V m => ?_⟩⟩
        rw [show mpl g i V = V (pB g i) by rw [mpl, if_neg h0, if_pos h1]]
        exact (a4 V m).app (h2 V _ m)
      · obtain ⟨y2, a1, a2, em1, a3, a4⟩ := go_ar (g := g) (i := i) c hn (by omega) (by omega) (k3 (by omega) (by omega)) (k4 (by omega) (by omega)) (hW.2.1 (by omega) (by omega)) (hW.2.2 (by omega) (by omega)) hl
        obtain ⟨e1, em, e2, h2⟩ := go_stl (v := pA g i) (y := y2) (c ++ em1)
        have e : cst g i (y, c) = stl (pA g i) (9 :: y2, c ++ em1) := by
          rw [cst, if_neg h7, if_neg h0, if_neg h1]
          rw [show ar g i (y, c) = (9 :: y2, c ++ em1) from Prod.ext a1 a3]
        rw [e]
        refine ⟨y2, em1 ++ em, a2, by rw [e2]; simp, Or.inr ⟨by omega, e1, fun V m => ?_⟩⟩
        rw [show mpl g i V = cmp (pK g i) (V (pB g i)) (V (pC g i)) by rw [mpl, if_neg h0, if_neg h1]]
        exact (a4 V m).app (h2 V _ m)
theorem go_arL : ∀ (f w : Nat) (s : Ly), (∀ v, w ≤ v → v < w + f → v ∈ s.1) → ∃ em, (arL f w s).2 = s.2 ++ em ∧ ∀ (V : Nat → Int32) (m : Nat × (Nat → Int32)), Go em (s.1.map V, m) ((arL f w s).1.map V, m)
  | 0, w, s, _ => ⟨[], by simp [arL], fun V m => Go.nil _⟩
  | f + 1, w, s, h => by
    obtain ⟨em, e1, h1⟩ := go_arL f (w + 1) (puF w s) (fun v h1 h2 => puF_mem (h v (by omega) (by omega)))
    refine ⟨plC (dx s.1 w) ++ em, ?_, fun V m => (go_pull (h w (by omega) (by omega)) V m).app (h1 V m)⟩
    rw [arL, e1]
    simp [puF]
theorem go_arr {tot : Nat} {y : List Nat} (hm : ∀ v, v < tot → v ∈ y) : ∀ (V : Nat → Int32) (m : Nat × (Nat → Int32)), Go (arr tot (y, [])).2 (y.map V, m) ((arr tot (y, [])).1.map V, m) := by
  have hfx : fx tot y ≤ tot := by
    have := (fxF_le y tot 0).2
    unfold fx
    omega
  obtain ⟨em, e1, h1⟩ := go_arL (tot - fx tot y) (fx tot y) (y, []) (fun v h1 h2 => hm v (by omega))
  have e2 : (arr tot (y, [])).2 = em := by
    show (arL (tot - fx tot y) (fx tot y) (y, [])).2 = em
    rw [e1]
    rfl
  rw [e2]
  exact h1
end
section
/-! the final code -/
def cod (g : Pg) (i : Nat) : List (Nat × Int32) := (cm g i).2.1
def ad (g : Pg) (i : Nat) : Nat := (cod g i).length
def aE (g : Pg) (i : Nat) : List (Nat × Int32) := (arr (6 + lo g i) ((cm g i).1, [])).2
def sE (g : Pg) (i : Nat) : List (Nat × Int32) := (cst g i ((cm g i).1, [])).2
def pt (g : Pg) (q : Nat × Nat) : Nat := ad g (q.2 + 1) - 1
theorem cin_arr {g : Pg} {i : Nat} (I : Cin g i) (hb : ∀ v, v ≤ 5 → wan g i v = true) : arr (6 + (cm g i).2.2.2) ((cm g i).1, (cm g i).2.1) = (dsc 0 (6 + lo g i), cod g i ++ aE g i) := by
  rw [I.2.1]
  have h1 := arr_cn (tot := 6 + lo g i) (s := ((cm g i).1, (cm g i).2.1)) I.2.2.1.1 I.2.2.1.2.1 (I.all hb)
  have h2 := arr_app (6 + lo g i) (cm g i).1 (cm g i).2.1
  exact Prod.ext h1 (by rw [h2]; rfl)
theorem cd_8 {g : Pg} {i : Nat} (I : Cin g i) (h : pK g i = 8) : cod g (i + 1) = cod g i ++ aE g i ++ [(1, nI (dx (dsc 0 (6 + lo g i)) (pA g i))), (10, 0)] := by
  show (cm g (i + 1)).2.1 = _
  rw [cm, if_pos (by omega), cbd, if_pos h, cin_arr I (fun v _ => wan_bd (by omega))]
theorem cd_10 {g : Pg} {i : Nat} (I : Cin g i) (h : pK g i = 10) : cod g (i + 1) = cod g i ++ aE g i ++ [(0, nI (pA g i)), (1, 0), (10, 0)] := by
  show (cm g (i + 1)).2.1 = _
  rw [cm, if_pos (by omega), cbd, if_neg (by omega), if_pos h, cin_arr I (fun v _ => wan_bd (by omega))]
theorem cd_9 {g : Pg} {i : Nat} (I : Cin g i) (h : pK g i = 9) {q : Nat × Nat} {t : List (Nat × Nat)} (hs : stk g i = q :: t) : cod g (i + 1) = pat (cod g i ++ aE g i ++ [(11, 0)]) (pt g q) (nI ((cod g i ++ aE g i).length + 1)) := by
  have h1 := I.1
  rw [hs, List.map_cons] at h1
  show (cm g (i + 1)).2.1 = _
  rw [cm, if_pos (by omega), cbd, if_neg (by omega), if_neg (by omega), h1]
  simp only
  rw [if_pos h, cin_arr I (fun v _ => wan_bd (by omega))]
  rfl
theorem cd_11a {g : Pg} {i : Nat} (I : Cin g i) (h : pK g i = 11) {q : Nat × Nat} {t : List (Nat × Nat)} (hs : stk g i = q :: t) (hq : pK g q.1 ≠ 10) : cod g (i + 1) = pat (cod g i ++ aE g i) (pt g q) (nI (cod g i ++ aE g i).length) := by
  have h1 := I.1
  rw [hs, List.map_cons] at h1
  show (cm g (i + 1)).2.1 = _
  rw [cm, if_pos (by omega), cbd, if_neg (by omega), if_neg (by omega), h1]
  simp only
  rw [if_neg (by omega), if_neg hq, cin_arr I (fun v _ => wan_bd (by omega))]
  rfl
theorem cd_11b {g : Pg} {i : Nat} (I : Cin g i) (h : pK g i = 11) {q : Nat × Nat} {t : List (Nat × Nat)} (hs : stk g i = q :: t) (hq : pK g q.1 = 10) : cod g (i + 1) = pat (cod g i ++ aE g i ++ [(0, -1), (2, 0), (11, nI (pt g q - 1))]) (pt g q) (nI ((cod g i ++ aE g i).length + 3)) ++ [(8, 0)] := by
  have h1 := I.1
  rw [hs, List.map_cons] at h1
  show (cm g (i + 1)).2.1 = _
  rw [cm, if_pos (by omega), cbd, if_neg (by omega), if_neg (by omega), h1]
  simp only
  rw [if_neg (by omega), if_pos hq, cin_arr I (fun v _ => wan_bd (by omega))]
  rfl
theorem cd_st {g : Pg} {i : Nat} (h : pK g i ≤ 7) : cod g (i + 1) = cod g i ++ sE g i := by
  show (cm g (i + 1)).2.1 = _
  rw [cm, if_neg (by omega), cst_app]
  rfl
theorem pat_ne {c : List (Nat × Int32)} {p j : Nat} {n : Int32} (h : j ≠ p) : (pat c p n)[j]? = c[j]? := by
  have h2 : ¬ p = j := fun e => h e.symm
  rw [pat, List.getElem?_modify]
  cases c[j]? with
  | none => rfl
  | some a => simp [h2]
theorem pat_eq {c : List (Nat × Int32)} {p o : Nat} {x n : Int32} (h : c[p]? = some (o, x)) : (pat c p n)[p]? = some (o, n) := by
  rw [pat, List.getElem?_modify, h]
  simp
theorem app_q {α : Type} {l l' : List α} {j : Nat} {q : α} (h : l[j]? = some q) : (l ++ l')[j]? = some q := by
  rw [List.getElem?_append_left (lt_of_q h)]
  exact h
/-- one statement on: what stands in the code stays, but for the patch of the block on top; the opcodes stay -/
theorem cd_step {g : Pg} (H : Pok g) {i : Nat} (hi : i < pN g) (hq : okq g i = true) (I : Cin g i) : (∀ (j : Nat) (q : Nat × Int32), (cod g i)[j]? = some q → (∀ b ∈ stk g i, j ≠ pt g b) → (cod g (i + 1))[j]? = some q) ∧ (∀ (j o : Nat) (x : Int32), (cod g i)[j]? = some (o, x) → ∃ x', (cod g (i + 1))[j]? = some (o, x')) ∧ ad g i ≤ ad g (i + 1) ∧ (8 ≤ pK g i → pK g i ≤ 10 → ad g i + 1 ≤ ad g (i + 1)) := by
  have k1 := (H.2 i hi).1
  by_cases h7 : pK g i ≤ 7
  · have e := cd_st h7
    refine ⟨fun j q h _ => by rw [e]; exact app_q h, fun j o x h => ⟨x, by rw [e]; exact app_q h⟩, ?_, fun z => by omega⟩
    simp only [ad]
    rw [e]
    simp
  · by_cases h8 : pK g i = 8
    · have e := cd_8 I h8
      refine ⟨fun j q h _ => by rw [e]; exact app_q (app_q h), fun j o x h => ⟨x, by rw [e]; exact app_q (app_q h)⟩, ?_, fun _ _ => ?_⟩
      · simp only [ad]
        rw [e]
        simp only [List.length_append]
        omega
      · simp only [ad]
        rw [e]
        simp only [List.length_append, List.length_cons, List.length_nil]
        omega
    · by_cases h10 : pK g i = 10
      · have e := cd_10 I h10
        refine ⟨fun j q h _ => by rw [e]; exact app_q (app_q h), fun j o x h => ⟨x, by rw [e]; exact app_q (app_q h)⟩, ?_, fun _ _ => ?_⟩
        · simp only [ad]
          rw [e]
          simp only [List.length_append]
          omega
        · simp only [ad]
          rw [e]
          simp only [List.length_append, List.length_cons, List.length_nil]
          omega
      · have pk : ∀ (c : List (Nat × Int32)) (p : Nat) (n : Int32) (j o : Nat) (x : Int32), c[j]? = some (o, x) → ∃ x', (pat c p n)[j]? = some (o, x') := by
          intro c p n j o x h
          by_cases z : j = p
          · subst z
            exact ⟨n, pat_eq h⟩
          · exact ⟨x, by rw [pat_ne z]; exact h⟩
        by_cases h9 : pK g i = 9
        · obtain ⟨o, hs, ho⟩ := okq_9 hq h9
          have e := cd_9 I h9 hs
          have hb : (o, o) ∈ stk g i := by rw [hs]; exact List.mem_cons_self
          refine ⟨fun j q h hn => by rw [e, pat_ne (hn _ hb)]; exact app_q (app_q h), fun j o x h => by rw [e]; exact pk _ _ _ _ _ _ (app_q (app_q h)), ?_, fun _ _ => ?_⟩
          · simp only [ad]
            rw [e, pat_len]
            simp only [List.length_append]
            omega
          · simp only [ad]
            rw [e, pat_len]
            simp only [List.length_append, List.length_cons, List.length_nil]
            omega
        · have h11 : pK g i = 11 := by omega
          obtain ⟨o, p, hs⟩ := okq_11 hq h11
          have hb : (o, p) ∈ stk g i := by rw [hs]; exact List.mem_cons_self
          by_cases ho : pK g o = 10
          · have e := cd_11b I h11 hs ho
            refine ⟨fun j q h hn => ?_, fun j o x h => ?_, ?_, fun _ _ => by omega⟩
            · rw [e]
              exact app_q (by rw [pat_ne (hn _ hb)]; exact app_q (app_q h))
            · rw [e]
              obtain ⟨x', hx⟩ := pk (cod g i ++ aE g i ++ [(0, -1), (2, 0), (11, nI (pt g (o, p) - 1))]) (pt g (o, p)) (nI ((cod g i ++ aE g i).length + 3)) _ _ _ (app_q (app_q h))
              exact ⟨x', app_q hx⟩
            · simp only [ad]
              rw [e, List.length_append, pat_len]
              simp only [List.length_append]
              omega
          · have e := cd_11a I h11 hs ho
            refine ⟨fun j q h hn => by rw [e, pat_ne (hn _ hb)]; exact app_q h, fun j o x h => by rw [e]; exact pk _ _ _ _ _ _ (app_q h), ?_, fun _ _ => by omega⟩
            simp only [ad]
            rw [e, pat_len]
            simp only [List.length_append]
            omega
section FC
variable {g : Pg}
theorem snd_ok (hs : snd g = true) : okb g (pN g) = true := by
  simp only [snd, Bool.and_eq_true] at hs
  exact hs.1
theorem snd_st (hs : snd g = true) : stk g (pN g) = [] := by
  simp only [snd, Bool.and_eq_true] at hs
  simpa using hs.2
theorem cI (H : Pok g) (hs : snd g = true) {i : Nat} (hi : i ≤ pN g) : Cin g i := cin_all H i hi (okb_le hi (snd_ok hs))
theorem cQ (hs : snd g = true) {i : Nat} (hi : i < pN g) : okq g i = true := okb_q hi (snd_ok hs)
/-- patches of open blocks lie ahead -/
theorem pt_lt (H : Pok g) (hs : snd g = true) {i : Nat} (hi : i ≤ pN g) {b : Nat × Nat} (hb : b ∈ stk g i) : pt g b + 1 ≤ ad g i ∧ 1 ≤ ad g (b.2 + 1) := by
  have := (cI H hs hi).2.2.2.2.2.2 b hb
  obtain ⟨a1, a2, a3, a4, a5⟩ := this
  have h1 : pt g b = (cm g (b.2 + 1)).2.1.length - 1 := rfl
  have h2 : ad g i = (cm g i).2.1.length := rfl
  have h3 : ad g (b.2 + 1) = (cm g (b.2 + 1)).2.1.length := rfl
  omega
/-- a block that is open behind statement i was open ahead of it, or its second number is i -/
theorem stk_new {g : Pg} {i : Nat} {b : Nat × Nat} (hb : b ∈ stk g (i + 1)) : b ∈ stk g i ∨ (b.2 = i ∧ 8 ≤ pK g i ∧ pK g i ≤ 10) := by
  by_cases h8 : pK g i = 8 ∨ pK g i = 10
  · rw [stk_op h8] at hb
    rcases List.mem_cons.mp hb with e | e
    · rw [e]
      exact Or.inr ⟨rfl, by omega, by omega⟩
    · exact Or.inl e
  · by_cases h9 : pK g i = 9
    · cases e : stk g i with
      | nil => rw [stk_el0 h9 e] at hb; cases hb
      | cons q t =>
        rw [stk_el h9 e] at hb
        rcases List.mem_cons.mp hb with z | z
        · rw [z]
          exact Or.inr ⟨rfl, by omega, by omega⟩
        · exact Or.inl (List.mem_cons_of_mem _ z)
    · by_cases h11 : pK g i = 11
      · rw [stk_en h11] at hb
        exact Or.inl (List.mem_of_mem_tail hb)
      · rw [stk_st (by omega) h9 (by omega) h11] at hb
        exact Or.inl hb
theorem cF_eq (H : Pok g) (hs : snd g = true) : cmF g = cod g (pN g) ++ aE g (pN g) := by
  have hlo : lo g (pN g) = 0 := by rw [lo, snd_st hs]; rfl
  show (arr 6 ((cm g (pN g)).1, (cm g (pN g)).2.1)).2 = _
  rw [arr_app]
  simp only [aE, hlo]
  rfl
/-- what stays to the end -/
theorem cd_keep (H : Pok g) (hs : snd g = true) : ∀ (d i : Nat), i + d = pN g → ∀ (j : Nat) (q : Nat × Int32), (cod g i)[j]? = some q → (∀ b ∈ stk g i, j ≠ pt g b) → (cmF g)[j]? = some q
  | 0, i, hi, j, q, h, _ => by
    rw [cF_eq H hs, show pN g = i by omega]
    exact app_q h
  | d + 1, i, hi, j, q, h, hn => by
    have st := cd_step H (show i < pN g by omega) (cQ hs (by omega)) (cI H hs (by omega))
    refine cd_keep H hs d (i + 1) (by omega) j q (st.1 j q h hn) (fun b hb => ?_)
    rcases stk_new hb with z | ⟨z, z1, z2⟩
    · exact hn b z
    · have h1 := st.2.2.2 z1 z2
      have h2 : j < ad g i := lt_of_q h
      have h3 : pt g b = ad g (i + 1) - 1 := by rw [pt, z]
      omega
theorem cd_keep' (H : Pok g) (hs : snd g = true) {i : Nat} (hi : i ≤ pN g) {j : Nat} {q : Nat × Int32} (h : (cod g i)[j]? = some q) (hn : ∀ b ∈ stk g i, j ≠ pt g b) : (cmF g)[j]? = some q := cd_keep H hs (pN g - i) i (by omega) j q h hn
theorem cd_op (H : Pok g) (hs : snd g = true) : ∀ (d i : Nat), i + d ≤ pN g → ∀ (j o : Nat) (x : Int32), (cod g i)[j]? = some (o, x) → ∃ x', (cod g (i + d))[j]? = some (o, x')
  | 0, i, _, j, o, x, h => ⟨x, h⟩
  | d + 1, i, hi, j, o, x, h => by
    have st := cd_step H (show i < pN g by omega) (cQ hs (by omega)) (cI H hs (by omega))
    obtain ⟨x', h'⟩ := st.2.1 j o x h
    rw [show i + (d + 1) = i + 1 + d by omega]
    exact cd_op H hs d (i + 1) (by omega) j o x' h'
theorem ad_le (H : Pok g) (hs : snd g = true) : ∀ (d i : Nat), i + d ≤ pN g → ad g i ≤ ad g (i + d)
  | 0, i, _ => Nat.le_refl _
  | d + 1, i, hi => by
    have st := cd_step H (show i < pN g by omega) (cQ hs (by omega)) (cI H hs (by omega))
    rw [show i + (d + 1) = i + 1 + d by omega]
    exact Nat.le_trans st.2.2.1 (ad_le H hs d (i + 1) (by omega))
/-- what statement i has written stands in the final code, but for its own patch -/
theorem cd_here (H : Pok g) (hs : snd g = true) {i : Nat} (hi : i < pN g) {l : List (Nat × Int32)} (h : ∀ (j : Nat) (q : Nat × Int32), l[j]? = some q → (cod g (i + 1))[ad g i + j]? = some q) (hl : 8 ≤ pK g i → pK g i ≤ 10 → ad g i + l.length < ad g (i + 1)) : Cd (cmF g) (ad g i) l := by
  intro j q hj
  refine cd_keep' H hs (show i + 1 ≤ pN g from hi) (h j q hj) (fun b hb => ?_)
  rcases stk_new hb with z | ⟨z, z1, z2⟩
  · have := (pt_lt H hs (Nat.le_of_lt hi) z).1
    omega
  · have h1 := hl z1 z2
    have h2 := lt_of_q hj
    have h3 : pt g b = ad g (i + 1) - 1 := by rw [pt, z]
    omega
/-- a patch that is made at statement e for good -/
theorem cd_fix (H : Pok g) (hs : snd g = true) {i e : Nat} (hi : i < e) (he : e < pN g) {o : Nat} {x n : Int32} (h : (cod g (i + 1))[ad g (i + 1) - 1]? = some (o, x)) (hp : ∀ x', (cod g e)[ad g (i + 1) - 1]? = some (o, x') → (cod g (e + 1))[ad g (i + 1) - 1]? = some (o, n)) (hn : ∀ b ∈ stk g (e + 1), ad g (i + 1) - 1 ≠ pt g b) : (cmF g)[ad g (i + 1) - 1]? = some (o, n) := by
  obtain ⟨x', h'⟩ := cd_op H hs (e - (i + 1)) (i + 1) (by omega) _ _ _ h
  rw [show i + 1 + (e - (i + 1)) = e by omega] at h'
  exact cd_keep' H hs (show e + 1 ≤ pN g from he) (hp x' h') hn
end FC
end
section
/-! how many passes are left -/
def lps (g : Pg) (i : Nat) : List Nat := ((stk g i).filter (fun q => pK g q.1 == 10)).map Prod.fst
theorem lps_len (g : Pg) (i : Nat) : (lps g i).length = lo g i := by simp [lps, lo]
theorem lps_10 {g : Pg} {i : Nat} (h : pK g i = 10) : lps g (i + 1) = i :: lps g i := by
  rw [lps, stk_op (Or.inr h), List.filter_cons, if_pos (by simp [h])]
  rfl
theorem lps_8 {g : Pg} {i : Nat} (h : pK g i = 8) : lps g (i + 1) = lps g i := by
  rw [lps, stk_op (Or.inl h), List.filter_cons, if_neg (by simp [h])]
  rfl
theorem lps_c10 {g : Pg} {i o p : Nat} (hs : stk g i = (o, p) :: stk g o) (h : pK g o = 10) : lps g i = o :: lps g o := by
  rw [lps, hs, List.filter_cons, if_pos (by simp [h])]
  rfl
theorem lps_c8 {g : Pg} {i o p : Nat} (hs : stk g i = (o, p) :: stk g o) (h : pK g o ≠ 10) : lps g i = lps g o := by
  rw [lps, hs, List.filter_cons, if_neg (by simp [h])]
  rfl
theorem lps_of {g : Pg} {i j : Nat} (h : stk g i = stk g j) : lps g i = lps g j := by rw [lps, h]; rfl
theorem lps_st {g : Pg} {i : Nat} (h : pK g i ≤ 7) : lps g (i + 1) = lps g i := lps_of (stk_st (by omega) (by omega) (by omega) (by omega))
theorem lps_lt {g : Pg} {i : Nat} : ∀ o ∈ lps g i, o < i := by
  intro o ho
  obtain ⟨q, hq, e⟩ := List.mem_map.mp ho
  have := (stk_lt q (List.mem_filter.mp hq).1).1
  omega
theorem lo_of {g : Pg} {i j : Nat} (h : lps g i = lps g j) : lo g i = lo g j := by rw [← lps_len, ← lps_len, h]
theorem lo_step {g : Pg} {i : Nat} (hk : pK g i ≤ 11) (hq : okq g i = true) : (pK g i = 10 ∧ lo g (i + 1) = lo g i + 1) ∨ (pK g i = 11 ∧ lo g i = lo g (i + 1) + 1) ∨ (pK g i ≠ 10 ∧ lo g (i + 1) = lo g i) := by
  by_cases h7 : pK g i ≤ 7
  · exact Or.inr (Or.inr ⟨by omega, lo_of (lps_st h7)⟩)
  · by_cases h8 : pK g i = 8
    · exact Or.inr (Or.inr ⟨by omega, lo_of (lps_8 h8)⟩)
    · by_cases h10 : pK g i = 10
      · refine Or.inl ⟨h10, ?_⟩
        rw [← lps_len, ← lps_len, lps_10 h10]
        rfl
      · by_cases h9 : pK g i = 9
        · obtain ⟨o, hs, ho⟩ := okq_9 hq h9
          refine Or.inr (Or.inr ⟨h10, lo_of ?_⟩)
          rw [lps_c8 hs (by omega), lps_c8 (o := o) (p := i) (stk_el h9 hs) (by omega)]
        · have h11 : pK g i = 11 := by omega
          obtain ⟨o, p, hs⟩ := okq_11 hq h11
          have e : lps g (i + 1) = lps g o := lps_of (by rw [stk_en h11, hs]; rfl)
          by_cases ho : pK g o = 10
          · refine Or.inr (Or.inl ⟨h11, ?_⟩)
            rw [← lps_len, ← lps_len, e, lps_c10 hs ho]
            rfl
          · refine Or.inr (Or.inr ⟨h10, lo_of ?_⟩)
            rw [e, lps_c8 hs ho]
/-- what is left to pass, from the innermost loop's body outwards: ahead of statement i out of what is left behind it -/
def rs (g : Pg) (i : Nat) (l : List Nat) : List Nat := if pK g i = 10 then (match l with | b :: c :: t => (c + 5 * b + 1) :: t | _ => []) else if lo g i = lo g (i + 1) + 1 then 1 :: l else (match l with | [] => [] | h :: t => (h + 1) :: t)
def rbk (g : Pg) : Nat → List Nat
  | 0 => [0]
  | m + 1 => rs g (pN g - (m + 1)) (rbk g m)
def rb (g : Pg) (i : Nat) : List Nat := rbk g (pN g - i)
theorem rb_s {g : Pg} {i : Nat} (hi : i < pN g) : rb g i = rs g i (rb g (i + 1)) := by
  unfold rb
  rw [show pN g - i = (pN g - (i + 1)) + 1 by omega, rbk, show pN g - (pN g - (i + 1) + 1) = i by omega]
theorem rb_n (g : Pg) : rb g (pN g) = [0] := by
  unfold rb
  rw [Nat.sub_self]
  rfl
theorem rb_10 {g : Pg} {i : Nat} (hi : i < pN g) (h : pK g i = 10) {b c : Nat} {t : List Nat} (e : rb g (i + 1) = b :: c :: t) : rb g i = (c + 5 * b + 1) :: t := by
  rw [rb_s hi, e, rs, if_pos h]
theorem rb_11 {g : Pg} {i : Nat} (hi : i < pN g) (h : pK g i = 11) (h2 : lo g i = lo g (i + 1) + 1) : rb g i = 1 :: rb g (i + 1) := by
  rw [rb_s hi]
  unfold rs
  rw [if_neg (by omega), if_pos h2]
theorem rb_st {g : Pg} {i : Nat} (hi : i < pN g) (h : pK g i ≠ 10) (h2 : lo g (i + 1) = lo g i) {a : Nat} {t : List Nat} (e : rb g (i + 1) = a :: t) : rb g i = (a + 1) :: t := by
  rw [rb_s hi, e]
  unfold rs
  rw [if_neg h, if_neg (by omega)]
theorem c2 {l : List Nat} {k : Nat} (h : l.length = k + 2) : ∃ b c t, l = b :: c :: t := by
  match l, h with
  | b :: c :: t, _ => exact ⟨b, c, t, rfl⟩
theorem c1 {l : List Nat} {k : Nat} (h : l.length = k + 1) : ∃ a t, l = a :: t := by
  match l, h with
  | a :: t, _ => exact ⟨a, t, rfl⟩
section RB
variable {g : Pg}
theorem rb_len (H : Pok g) (hs : snd g = true) : ∀ (d i : Nat), i + d = pN g → (rb g i).length = lo g i + 1
  | 0, i, hi => by
    have e : i = pN g := by omega
    rw [e, rb_n, lo, snd_st hs]
    rfl
  | d + 1, i, hi => by
    have ih := rb_len H hs d (i + 1) (by omega)
    have hin : i < pN g := by omega
    rcases lo_step (H.2 i hin).1 (cQ hs hin) with ⟨z, e⟩ | ⟨z, e⟩ | ⟨z, e⟩
    · obtain ⟨b, c, t, h⟩ := c2 (k := lo g i) (l := rb g (i + 1)) (by omega)
      rw [rb_10 hin z h]
      rw [h] at ih
      simp only [List.length_cons] at ih ⊢
      omega
    · rw [rb_11 hin z e, List.length_cons]
      omega
    · obtain ⟨a, t, h⟩ := c1 (k := lo g i) (l := rb g (i + 1)) (by omega)
      rw [rb_st hin z e h]
      rw [h] at ih
      simp only [List.length_cons] at ih ⊢
      omega
theorem rb_len' (H : Pok g) (hs : snd g = true) {i : Nat} (hi : i ≤ pN g) : (rb g i).length = lo g i + 1 := rb_len H hs (pN g - i) i (by omega)
/-- at the level of statement j nothing is left ahead of it that is less than what is left at j -/
theorem rb_lv (H : Pok g) (hs : snd g = true) : ∀ (d i j : Nat), i + d = j → j ≤ pN g → (∀ t, i ≤ t → t ≤ j → lo g j ≤ lo g t) → ∃ a a' tl, rb g j = a :: tl ∧ (rb g i).drop (lo g i - lo g j) = a' :: tl ∧ a ≤ a'
  | 0, i, j, hij, hj, _ => by
    have e : i = j := by omega
    subst e
    obtain ⟨a, t, h⟩ := c1 (rb_len' H hs hj)
    exact ⟨a, a, t, h, by rw [Nat.sub_self, h]; rfl, Nat.le_refl _⟩
  | d + 1, i, j, hij, hj, hlo => by
    obtain ⟨a, a', tl, e1, e2, hle⟩ := rb_lv H hs d (i + 1) j (by omega) hj (fun t h1 h2 => hlo t (by omega) h2)
    have hin : i < pN g := by omega
    have l1 := hlo i (Nat.le_refl _) (by omega)
    have l2 := hlo (i + 1) (by omega) (by omega)
    have ih := rb_len' H hs (show i + 1 ≤ pN g from hin)
    rcases lo_step (H.2 i hin).1 (cQ hs hin) with ⟨z, e⟩ | ⟨z, e⟩ | ⟨z, e⟩
    · obtain ⟨b, c, t, h⟩ := c2 (k := lo g i) (l := rb g (i + 1)) (by omega)
      rw [h, e] at e2
      rw [rb_10 hin z h]
      cases hk : lo g i - lo g j with
      | zero =>
        rw [show lo g i + 1 - lo g j = 1 by omega] at e2
        have e3 : c :: t = a' :: tl := e2
        have e4 := List.cons.inj e3
        refine ⟨a, c + 5 * b + 1, tl, e1, ?_, by have := e4.1; omega⟩
        rw [e4.2]
        rfl
      | succ k =>
        rw [show lo g i + 1 - lo g j = k + 2 by omega] at e2
        exact ⟨a, a', tl, e1, e2, hle⟩
    · rw [rb_11 hin z e, show lo g i - lo g j = (lo g (i + 1) - lo g j) + 1 by omega]
      exact ⟨a, a', tl, e1, e2, hle⟩
    · obtain ⟨b, t, h⟩ := c1 (k := lo g i) (l := rb g (i + 1)) (by omega)
      rw [h, e] at e2
      rw [rb_st hin z e h]
      cases hk : lo g i - lo g j with
      | zero =>
        rw [hk] at e2
        have e3 : b :: t = a' :: tl := e2
        have e4 := List.cons.inj e3
        refine ⟨a, b + 1, tl, e1, ?_, by have := e4.1; omega⟩
        rw [e4.2]
        rfl
      | succ k =>
        rw [hk] at e2
        exact ⟨a, a', tl, e1, e2, hle⟩
theorem dr_sum : ∀ (k : Nat) (l : List Nat), (l.drop k).sum ≤ l.sum
  | 0, l => Nat.le_refl _
  | k + 1, [] => Nat.le_refl _
  | k + 1, a :: t => by
    rw [List.drop_succ_cons, List.sum_cons]
    have := dr_sum k t
    omega
theorem rb_sum (H : Pok g) (hs : snd g = true) {i j : Nat} (hij : i ≤ j) (hj : j ≤ pN g) (hlo : ∀ t, i ≤ t → t ≤ j → lo g j ≤ lo g t) : (rb g j).sum ≤ (rb g i).sum := by
  obtain ⟨a, a', tl, e1, e2, hle⟩ := rb_lv H hs (j - i) i j (by omega) hj hlo
  have h1 := dr_sum (lo g i - lo g j) (rb g i)
  rw [e2, List.sum_cons] at h1
  rw [e1, List.sum_cons]
  omega
theorem lo_in {t o p : Nat} (h : (o, p) ∈ stk g t) : lo g o ≤ lo g t ∧ (pK g o = 10 → lo g o + 1 ≤ lo g t) := by
  obtain ⟨pre, hp⟩ := chk_mem (stk_ch g t) h
  simp only at hp
  have e : lo g t = (pre.filter (fun q => pK g q.1 == 10)).length + (((o, p) :: stk g o).filter (fun q => pK g q.1 == 10)).length := by
    rw [lo, hp, List.filter_append, List.length_append]
  have e2 : lo g o = ((stk g o).filter (fun q => pK g q.1 == 10)).length := rfl
  refine ⟨?_, fun h10 => ?_⟩
  · rw [List.filter_cons] at e
    split at e
    · rw [List.length_cons] at e
      omega
    · omega
  · rw [List.filter_cons, if_pos (by simp [h10]), List.length_cons] at e
    omega
/-- a loop's body -/
theorem rb_loop (H : Pok g) (hs : snd g = true) {o e p : Nat} (hE : Ed g o e p) (h10 : pK g o = 10) : ∃ b, rb g (o + 1) = b :: rb g (e + 1) := by
  obtain ⟨h1, h2, h3⟩ := hE
  have hm : (o, p) ∈ stk g e := by rw [h3]; exact List.mem_cons_self
  have hoe : o < e := (stk_lt _ hm).1
  have l1 : lo g e = lo g o + 1 := by rw [← lps_len, ← lps_len, lps_c10 h3 h10]; rfl
  have l2 : lo g (o + 1) = lo g o + 1 := by rw [← lps_len, ← lps_len, lps_10 h10]; rfl
  have l3 : lo g (e + 1) = lo g o := lo_of (lps_of (by rw [stk_en h2, h3]; rfl))
  obtain ⟨a, a', tl, e1, e2, hle⟩ := rb_lv H hs (e - (o + 1)) (o + 1) e (by omega) (by omega) (fun t h4 h5 => by
    obtain ⟨p', hp'⟩ := stk_all hm t (by omega) h5
    have := (lo_in hp').2 h10
    omega)
  rw [rb_11 h1 h2 (by omega)] at e1
  rw [l1, l2, Nat.sub_self] at e2
  have e3 : rb g (o + 1) = a' :: tl := e2
  exact ⟨a', by rw [e3, (List.cons.inj e1).2]⟩
def q5 : List Nat → Nat
  | [] => 0
  | a :: t => a * 5 ^ t.length + q5 t
theorem rb_q5 (H : Pok g) (hs : snd g = true) : ∀ (d i : Nat), i + d = pN g → q5 (rb g i) ≤ 125 * d
  | 0, i, hi => by
    have e : i = pN g := by omega
    rw [e, rb_n]
    decide
  | d + 1, i, hi => by
    have ih := rb_q5 H hs d (i + 1) (by omega)
    have hin : i < pN g := by omega
    have hl := rb_len' H hs (show i + 1 ≤ pN g from hin)
    have l3 : lo g i ≤ 3 := Nat.le_trans (lo_le g i) (cI H hs (Nat.le_of_lt hin)).2.2.2.2.2.1
    have p5 : 5 ^ lo g i ≤ 125 := Nat.le_trans (Nat.pow_le_pow_right (by decide) l3) (by decide)
    rcases lo_step (H.2 i hin).1 (cQ hs hin) with ⟨z, e⟩ | ⟨z, e⟩ | ⟨z, e⟩
    · obtain ⟨b, c, t, h⟩ := c2 (k := lo g i) (l := rb g (i + 1)) (by omega)
      rw [rb_10 hin z h]
      rw [h] at ih hl
      simp only [List.length_cons] at hl
      have ht : t.length = lo g i := by omega
      simp only [q5, List.length_cons, ht, Nat.pow_succ] at ih ⊢
      generalize 5 ^ lo g i = P at ih p5 ⊢
      have m1 : b * (P * 5) = 5 * b * P := by rw [Nat.mul_comm P 5, ← Nat.mul_assoc, Nat.mul_comm b 5]
      rw [Nat.add_mul, Nat.add_mul, Nat.one_mul]
      omega
    · rw [rb_11 hin z e]
      simp only [q5]
      rw [hl, ← e, Nat.one_mul]
      omega
    · obtain ⟨b, t, h⟩ := c1 (k := lo g i) (l := rb g (i + 1)) (by omega)
      rw [rb_st hin z e h]
      rw [h] at ih hl
      simp only [List.length_cons] at hl
      have ht : t.length = lo g i := by omega
      simp only [q5, ht] at ih ⊢
      rw [Nat.add_mul, Nat.one_mul]
      omega
theorem rb_0 (H : Pok g) (hs : snd g = true) : (rb g 0).sum ≤ 5000 := by
  have h1 := rb_q5 H hs (pN g) 0 (by omega)
  have h2 := rb_len' H hs (Nat.zero_le (pN g))
  have h3 : lo g 0 = 0 := rfl
  rw [h3] at h2
  obtain ⟨a, t, h⟩ := c1 h2
  rw [h] at h1 h2
  have ht : t = [] := by
    cases t with
    | nil => rfl
    | cons x y => simp at h2
  subst ht
  rw [h]
  have hn := H.1
  simp [q5] at h1
  simp
  omega
/-- the passes that may be left -/
def wt (g : Pg) (lf : Nat → Int32) (o : Nat) : Nat := ((lf o).toNatClampNeg - 1) * (rb g (o + 1)).headD 0
def phi (g : Pg) (i : Nat) (lf : Nat → Int32) : Nat := (rb g i).sum + ((lps g i).map (wt g lf)).sum
def Lv (g : Pg) (i : Nat) (lf : Nat → Int32) : Prop := ∀ o ∈ lps g i, ∃ L, 1 ≤ L ∧ L ≤ 5 ∧ lf o = nI L
theorem wt_upd {lf : Nat → Int32} {o : Nat} {v : Int32} {l : List Nat} (h : ∀ q ∈ l, q ≠ o) : l.map (wt g (upd lf o v)) = l.map (wt g lf) := List.map_congr_left (fun q hq => by simp only [wt, upd]; rw [if_neg (h q hq)])
theorem lv5_upd {o : Nat} {lf : Nat → Int32} {v : Int32} {l : List Nat} (h : ∀ q ∈ l, ∃ L, 1 ≤ L ∧ L ≤ 5 ∧ lf q = nI L) (hne : ∀ q ∈ l, q ≠ o) : ∀ q ∈ l, ∃ L, 1 ≤ L ∧ L ≤ 5 ∧ upd lf o v q = nI L := fun q hq => by
  obtain ⟨L, h1, h2, h3⟩ := h q hq
  exact ⟨L, h1, h2, by simp only [upd]; rw [if_neg (hne q hq)]; exact h3⟩
end RB
end
section
/-! a pass of the model on the machine -/
theorem U_ex (v : Nat → Int32) : ∀ (l : List Int32), ∃ U : Nat → Int32, (∀ w, w ≤ 5 → U w = v w) ∧ (dsc 6 l.length).map U = l
  | [] => ⟨v, fun _ _ => rfl, rfl⟩
  | a :: t => by
    obtain ⟨U, h1, h2⟩ := U_ex v t
    refine ⟨upd U (6 + t.length) a, fun w hw => ?_, ?_⟩
    · simp only [upd]
      rw [if_neg (by omega)]
      exact h1 w hw
    · have e : (dsc 6 t.length).map (upd U (6 + t.length) a) = t := by
        refine (List.map_congr_left (fun q hq => ?_)).trans h2
        simp only [upd]
        rw [if_neg (by have := (dsc_mem.mp hq).2; omega)]
      rw [List.length_cons, dsc, List.map_cons, e]
      simp [upd]
/-- the machine's stack against a state of the model -/
def Rl (g : Pg) (x : Ms) (s : List Int32) : Prop := ∃ U : Nat → Int32, (∀ w, w ≤ 5 → U w = x.2.1 w) ∧ (dsc 6 (lo g x.1)).map U = (lps g x.1).map x.2.2.1 ∧ s = (cm g x.1).1.map U
/-- the arranged stack -/
def can (g : Pg) (i : Nat) (v lf : Nat → Int32) : List Int32 := (lps g i).map lf ++ (dsc 0 6).map v
theorem can_len (g : Pg) (i : Nat) (v lf : Nat → Int32) : (can g i v lf).length = lo g i + 6 := by
  simp [can, lps_len, dsc_len]
theorem can_U {g : Pg} {i : Nat} {v lf U : Nat → Int32} (h1 : ∀ w, w ≤ 5 → U w = v w) (h2 : (dsc 6 (lo g i)).map U = (lps g i).map lf) : (dsc 0 (6 + lo g i)).map U = can g i v lf := by
  rw [← dsc_app 6 (lo g i), List.map_append, h2, can]
  congr 1
  exact List.map_congr_left (fun q hq => h1 q (by have := (dsc_mem.mp hq).2; omega))
theorem rl_can {g : Pg} {i : Nat} {v lf : Nat → Int32} {pr : Nat × (Nat → Int32)} (hc : (cm g i).1 = dsc 0 (6 + lo g i)) : Rl g (i, v, lf, pr) (can g i v lf) := by
  obtain ⟨U, h1, h2⟩ := U_ex v ((lps g i).map lf)
  rw [List.length_map, lps_len] at h2
  refine ⟨U, h1, h2, ?_⟩
  show can g i v lf = (cm g i).1.map U
  rw [hc, can_U h1 h2]
theorem can_at {g : Pg} {i a : Nat} {v lf : Nat → Int32} (ha : a ≤ 5) : (can g i v lf)[dx (dsc 0 (6 + lo g i)) a]? = some (v a) := by
  obtain ⟨U, h1, h2⟩ := U_ex v ((lps g i).map lf)
  rw [List.length_map, lps_len] at h2
  rw [← can_U h1 h2, mp_at (dsc_mem.mpr ⟨Nat.zero_le _, by omega⟩), h1 a ha]
theorem can_of {g : Pg} {i j : Nat} {v lf : Nat → Int32} (h : lps g i = lps g j) : can g i v lf = can g j v lf := by rw [can, h]; rfl
theorem can_up {g : Pg} {i o : Nat} {v lf : Nat → Int32} {z : Int32} (h : ∀ q ∈ lps g i, q ≠ o) : can g i v (upd lf o z) = can g i v lf := by
  rw [can, can]
  congr 1
  exact List.map_congr_left (fun q hq => by simp only [upd]; rw [if_neg (h q hq)])
theorem app_at {α : Type} {c l r : List α} {j : Nat} {q : α} (h : l[j]? = some q) : (c ++ (l ++ r))[c.length + j]? = some q := by
  rw [List.getElem?_append_right (Nat.le_add_right _ _), Nat.add_sub_cancel_left]
  exact app_q h
theorem last_q {α : Type} {l c : List α} {q : α} (h : l = c ++ [q]) : l[l.length - 1]? = some q := by
  rw [h, List.length_append, List.length_singleton, Nat.add_sub_cancel, List.getElem?_append_right (Nat.le_refl _), Nat.sub_self]
  rfl
section SM
variable {g : Pg}
theorem rl_arr (H : Pok g) (hs : snd g = true) {x : Ms} {s : List Int32} (R : Rl g x s) (hi : x.1 ≤ pN g) (hb : ∀ v, v ≤ 5 → wan g x.1 v = true) (m : Nat × (Nat → Int32)) : Go (aE g x.1) (s, m) (can g x.1 x.2.1 x.2.2.1, m) := by
  obtain ⟨U, h1, h2, h3⟩ := R
  have I := cI H hs hi
  have h4 := go_arr (tot := 6 + lo g x.1) (y := (cm g x.1).1) (I.all hb) U m
  have h5 := arr_cn (tot := 6 + lo g x.1) (s := ((cm g x.1).1, [])) I.2.2.1.1 I.2.2.1.2.1 (I.all hb)
  rw [h5, can_U h1 h2] at h4
  rw [h3]
  exact h4
theorem aE_len (H : Pok g) (hs : snd g = true) {i : Nat} (hi : i ≤ pN g) (hb : ∀ v, v ≤ 5 → wan g i v = true) : (aE g i).length ≤ 6 + lo g i := by
  have h1 := (arr_len (tot := 6 + lo g i) (s := ((cm g i).1, [])) ((cI H hs hi).all hb)).2.2
  simp only [List.length_nil] at h1
  unfold aE
  omega
theorem lo3 (H : Pok g) (hs : snd g = true) {i : Nat} (hi : i ≤ pN g) : lo g i ≤ 3 := Nat.le_trans (lo_le g i) (cI H hs hi).2.2.2.2.2.1
theorem cm_can (H : Pok g) (hs : snd g = true) {i : Nat} (hi : i < pN g) (hb : 8 ≤ pK g i) : (cm g (i + 1)).1 = dsc 0 (6 + lo g (i + 1)) := (cin_step H hi (cQ hs hi) (cI H hs (Nat.le_of_lt hi))).2 hb
theorem em_8 (H : Pok g) (hs : snd g = true) {i : Nat} (hi : i < pN g) (h : pK g i = 8) : Cd (cmF g) (ad g i) (aE g i ++ [(1, nI (dx (dsc 0 (6 + lo g i)) (pA g i)))]) ∧ ad g (i + 1) = ad g i + (aE g i).length + 2 ∧ (cod g (i + 1))[ad g (i + 1) - 1]? = some (10, 0) := by
  have e := cd_8 (cI H hs (Nat.le_of_lt hi)) h
  have ha : ad g (i + 1) = ad g i + (aE g i).length + 2 := by
    simp only [ad]
    rw [e]
    simp only [List.length_append, List.length_cons, List.length_nil]
  have e' : cod g (i + 1) = cod g i ++ ((aE g i ++ [(1, nI (dx (dsc 0 (6 + lo g i)) (pA g i)))]) ++ [(10, 0)]) := by
    rw [e]
    simp
  refine ⟨cd_here H hs hi (fun j q hj => by rw [e']; exact app_at hj) (fun _ _ => ?_), ha, ?_⟩
  · simp only [List.length_append, List.length_cons, List.length_nil]
    omega
  · exact last_q (c := cod g i ++ (aE g i ++ [(1, nI (dx (dsc 0 (6 + lo g i)) (pA g i)))])) (by rw [e']; simp)
theorem em_10 (H : Pok g) (hs : snd g = true) {i : Nat} (hi : i < pN g) (h : pK g i = 10) : Cd (cmF g) (ad g i) (aE g i ++ [(0, nI (pA g i)), (1, 0)]) ∧ ad g (i + 1) = ad g i + (aE g i).length + 3 ∧ (cod g (i + 1))[ad g (i + 1) - 1]? = some (10, 0) := by
  have e := cd_10 (cI H hs (Nat.le_of_lt hi)) h
  have ha : ad g (i + 1) = ad g i + (aE g i).length + 3 := by
    simp only [ad]
    rw [e]
    simp only [List.length_append, List.length_cons, List.length_nil]
  have e' : cod g (i + 1) = cod g i ++ ((aE g i ++ [(0, nI (pA g i)), (1, 0)]) ++ [(10, 0)]) := by
    rw [e]
    simp
  refine ⟨cd_here H hs hi (fun j q hj => by rw [e']; exact app_at hj) (fun _ _ => ?_), ha, ?_⟩
  · simp only [List.length_append, List.length_cons, List.length_nil]
    omega
  · exact last_q (c := cod g i ++ (aE g i ++ [(0, nI (pA g i)), (1, 0)])) (by rw [e']; simp)
theorem em_9 (H : Pok g) (hs : snd g = true) {i o : Nat} (hi : i < pN g) (h : pK g i = 9) (hst : stk g i = (o, o) :: stk g o) : Cd (cmF g) (ad g i) (aE g i) ∧ ad g (i + 1) = ad g i + (aE g i).length + 1 ∧ (cod g (i + 1))[ad g (i + 1) - 1]? = some (11, 0) := by
  have e := cd_9 (cI H hs (Nat.le_of_lt hi)) h hst
  have hp := (pt_lt H hs (Nat.le_of_lt hi) (b := (o, o)) (by rw [hst]; exact List.mem_cons_self)).1
  have ha : ad g (i + 1) = ad g i + (aE g i).length + 1 := by
    simp only [ad]
    rw [e, pat_len]
    simp only [List.length_append, List.length_cons, List.length_nil]
  have e' : cod g i ++ aE g i ++ [(11, 0)] = cod g i ++ (aE g i ++ [(11, 0)]) := by simp
  refine ⟨cd_here H hs hi (fun j q hj => ?_) (fun _ _ => by omega), ha, ?_⟩
  · rw [e, pat_ne (by omega), e']
    exact app_at hj
  · have hl := last_q (l := cod g i ++ aE g i ++ [(11, 0)]) (c := cod g i ++ aE g i) (q := (11, 0)) rfl
    have hn : (cod g i ++ aE g i ++ [(11, (0 : Int32))]).length - 1 = ad g (i + 1) - 1 := by
      rw [ha]
      simp only [List.length_append, List.length_cons, List.length_nil]
      rfl
    rw [hn] at hl
    rw [e, pat_ne (by omega)]
    exact hl
theorem em_11 (H : Pok g) (hs : snd g = true) {i o p : Nat} (hi : i < pN g) (h : pK g i = 11) (hst : stk g i = (o, p) :: stk g o) : (pK g o ≠ 10 → Cd (cmF g) (ad g i) (aE g i) ∧ ad g (i + 1) = ad g i + (aE g i).length) ∧ (pK g o = 10 → Cd (cmF g) (ad g i) (aE g i ++ [(0, -1), (2, 0), (11, nI (pt g (o, p) - 1)), (8, 0)]) ∧ ad g (i + 1) = ad g i + (aE g i).length + 4) := by
  have I := cI H hs (Nat.le_of_lt hi)
  have hp := (pt_lt H hs (Nat.le_of_lt hi) (b := (o, p)) (by rw [hst]; exact List.mem_cons_self)).1
  refine ⟨fun ho => ?_, fun ho => ?_⟩
  · have e := cd_11a I h hst ho
    refine ⟨cd_here H hs hi (fun j q hj => ?_) (fun _ _ => by omega), ?_⟩
    · rw [e, pat_ne (by omega), ← List.append_nil (aE g i)]
      exact app_at hj
    · simp only [ad]
      rw [e, pat_len]
      simp only [List.length_append]
  · have e := cd_11b I h hst ho
    refine ⟨cd_here H hs hi (fun j q hj => ?_) (fun _ _ => by omega), ?_⟩
    · have e2 : (cod g i ++ ((aE g i ++ [(0, -1), (2, 0), (11, nI (pt g (o, p) - 1)), (8, 0)]) ++ []))[(cod g i).length + j]? = some q := app_at hj
      rw [List.append_nil] at e2
      rw [e]
      have e3 : cod g i ++ (aE g i ++ [(0, -1), (2, 0), (11, nI (pt g (o, p) - 1)), (8, 0)]) = (cod g i ++ aE g i ++ [(0, -1), (2, 0), (11, nI (pt g (o, p) - 1))]) ++ [(8, 0)] := by simp
      rw [e3] at e2
      have e4 : (cod g i).length = ad g i := rfl
      rw [e4] at e2
      by_cases hlt : ad g i + j < (cod g i ++ aE g i ++ [(0, -1), (2, 0), (11, nI (pt g (o, p) - 1))]).length
      · rw [List.getElem?_append_left hlt] at e2
        rw [List.getElem?_append_left (by rw [pat_len]; exact hlt), pat_ne (by omega)]
        exact e2
      · rw [List.getElem?_append_right (by omega)] at e2
        rw [List.getElem?_append_right (by rw [pat_len]; omega), pat_len]
        exact e2
    · simp only [ad]
      rw [e, List.length_append, pat_len]
      simp only [List.length_append, List.length_cons, List.length_nil]
theorem em_st (H : Pok g) (hs : snd g = true) {i : Nat} (hi : i < pN g) (h : pK g i ≤ 7) : Cd (cmF g) (ad g i) (sE g i) ∧ ad g (i + 1) = ad g i + (sE g i).length := by
  have e := cd_st h
  refine ⟨cd_here H hs hi (fun j q hj => ?_) (fun _ _ => by omega), ?_⟩
  · rw [e, ← List.append_nil (sE g i)]
    exact app_at hj
  · simp only [ad]
    rw [e, List.length_append]
/-- the code of a statement ends behind its beginning -/
theorem ad_s (H : Pok g) (hs : snd g = true) {i : Nat} (hi : i < pN g) (h : 8 ≤ pK g i) (h2 : pK g i ≤ 10) : ad g i + 1 ≤ ad g (i + 1) := (cd_step H hi (cQ hs hi) (cI H hs (Nat.le_of_lt hi))).2.2.2 h h2
theorem ad_m (H : Pok g) (hs : snd g = true) {i j : Nat} (hij : i ≤ j) (hj : j ≤ pN g) : ad g i ≤ ad g j := by
  have := ad_le H hs (j - i) i (by omega)
  rwa [show i + (j - i) = j by omega] at this
/-- the jump over a THEN, to behind its ELSE -/
theorem fx_else (H : Pok g) (hs : snd g = true) {p o : Nat} (hp : p < pN g) (h9 : pK g p = 9) (hst : stk g p = (o, o) :: stk g o) (ho : pK g o = 8) : (cmF g)[ad g (o + 1) - 1]? = some (10, nI (ad g (p + 1))) := by
  have hop : o < p := (stk_lt (o, o) (by rw [hst]; exact List.mem_cons_self)).1
  have ha := (em_9 H hs hp h9 hst).2.1
  have m1 := ad_m H hs (show o + 1 ≤ p from hop) (Nat.le_of_lt hp)
  have m2 := ad_s H hs (show o < pN g by omega) (by omega) (by omega)
  refine cd_fix H hs hop hp (em_8 H hs (by omega) ho).2.2 (fun x' hx => ?_) (fun b hb => ?_)
  · rw [cd_9 (cI H hs (Nat.le_of_lt hp)) h9 hst]
    have e : (cod g p ++ aE g p).length + 1 = ad g (p + 1) := by
      rw [ha, List.length_append]
      rfl
    rw [e]
    exact pat_eq (p := pt g (o, o)) (app_q (app_q hx))
  · rw [stk_el h9 hst] at hb
    rcases List.mem_cons.mp hb with z | z
    · have : pt g b = ad g (p + 1) - 1 := by rw [z]; rfl
      omega
    · have := (pt_lt H hs (show o ≤ pN g by omega) z).1
      omega
/-- the jump to a block's end -/
theorem fx_end (H : Pok g) (hs : snd g = true) {o e p : Nat} (hE : Ed g o e p) : (cmF g)[ad g (p + 1) - 1]? = some (if p = o then 10 else 11, nI (if pK g o = 10 then ad g (e + 1) - 1 else ad g (e + 1))) := by
  obtain ⟨he, h11, hst⟩ := hE
  have hm : (o, p) ∈ stk g e := by rw [hst]; exact List.mem_cons_self
  have hlt := stk_lt _ hm
  simp only at hlt
  have hk := stk_k _ hm
  simp only at hk
  have hop : o ≤ p := by
    by_cases z : p = o
    · omega
    · exact Nat.le_of_lt (stk_p (okb_le (Nat.le_of_lt he) (snd_ok hs)) o p hm z).1
  have hpk : 8 ≤ pK g p ∧ pK g p ≤ 10 := by
    by_cases z : p = o
    · rw [z]; omega
    · have := (stk_p (okb_le (Nat.le_of_lt he) (snd_ok hs)) o p hm z).2.2.1
      omega
  have m1 := ad_m H hs hop (show p ≤ pN g by omega)
  have m2 := ad_s H hs (show p < pN g by omega) hpk.1 hpk.2
  have hl : (cod g (p + 1))[ad g (p + 1) - 1]? = some (if p = o then 10 else 11, 0) := by
    by_cases z : p = o
    · rw [if_pos z, z]
      rcases hk with k8 | k10
      · exact (em_8 H hs (by omega) k8).2.2
      · exact (em_10 H hs (by omega) k10).2.2
    · rw [if_neg z]
      obtain ⟨z1, z2, z3, z4, z5⟩ := stk_p (okb_le (Nat.le_of_lt he) (snd_ok hs)) o p hm z
      exact (em_9 H hs (by omega) z3 z5).2.2
  refine cd_fix H hs hlt.2 he hl (fun x' hx => ?_) (fun b hb => ?_)
  · by_cases k10 : pK g o = 10
    · rw [if_pos k10]
      have ha := ((em_11 H hs he h11 hst).2 k10).2
      rw [cd_11b (cI H hs (Nat.le_of_lt he)) h11 hst k10]
      have e2 : (cod g e ++ aE g e).length + 3 = ad g (e + 1) - 1 := by
        rw [ha, List.length_append]
        rfl
      rw [e2]
      exact app_q (pat_eq (p := pt g (o, p)) (app_q (app_q hx)))
    · rw [if_neg k10]
      have ha := ((em_11 H hs he h11 hst).1 k10).2
      rw [cd_11a (cI H hs (Nat.le_of_lt he)) h11 hst k10]
      have e2 : (cod g e ++ aE g e).length = ad g (e + 1) := by
        rw [ha, List.length_append]
        rfl
      rw [e2]
      exact pat_eq (p := pt g (o, p)) (app_q hx)
  · rw [stk_en h11, hst] at hb
    have := (pt_lt H hs (show o ≤ pN g by omega) (b := b) hb).1
    omega
end SM
end
section
/-! each kind of pass on the machine -/
section S2
variable {g : Pg}
/-- a pass is followed by the machine -/
def Fol (g : Pg) (x y : Ms) (s : List Int32) : Prop := ∃ k s', k ≤ 15 ∧ Rl g y s' ∧ Rn (cmF g) k (ad g x.1, s, x.2.2.2) (ad g y.1, s', y.2.2.2)
theorem sim_st (H : Pok g) (hs : snd g = true) {i : Nat} {v lf : Nat → Int32} {pr : Nat × (Nat → Int32)} {s : List Int32} (hi : i < pN g) (hk : pK g i ≤ 7) (R : Rl g (i, v, lf, pr) s) : (pK g i ≤ 6 → Fol g (i, v, lf, pr) (i + 1, upd v (pA g i) (mpl g i v), lf, pr) s) ∧ (pK g i = 7 → Fol g (i, v, lf, pr) (i + 1, v, lf, prn (v (pA g i)) pr) s) := by
  obtain ⟨U, h1, h2, h3⟩ := R
  simp only at h1 h2 h3
  have I := cI H hs (Nat.le_of_lt hi)
  obtain ⟨k1, k2, k3, k4⟩ := H.2 i hi
  have hA := k2 (by omega) (by omega)
  have hl9 : (cm g i).1.length ≤ 6 + lo g i := nd_le _ _ I.2.2.1.1 I.2.2.1.2.1
  have hlo := lo3 H hs (Nat.le_of_lt hi)
  obtain ⟨y2, em, b, e1, e2⟩ := go_cst H hi hk (y := (cm g i).1) [] I.2.2.1.1 (cst_wnt H hi hk I.2.2.2.1) (by omega)
  have hem : sE g i = em := by
    show (cst g i ((cm g i).1, [])).2 = em
    rw [e1]
    rfl
  obtain ⟨hc, ha⟩ := em_st H hs hi hk
  have hcm : (cm g (i + 1)).1 = (cst g i ((cm g i).1, [])).1 := by
    rw [cm, if_neg (by omega), cst_app]
  have hlen : em.length ≤ 5 := by
    have st2 : ∀ (v : Nat) (s : Ly), (stl v s).2.length ≤ s.2.length + 2 := by
      intro v s
      simp only [stl, stC, List.length_append]
      split <;> simp
    rw [← hem]
    show (cst g i ((cm g i).1, [])).2.length ≤ 5
    by_cases q : 2 ≤ pK g i ∧ pK g i ≤ 6
    · have := cst_len (g := g) (i := i) (s := ((cm g i).1, [])) (by have := k4 q.1 q.2; omega)
      simpa using this
    · have f1 := ft_len g i (pA g i) false ((cm g i).1, [])
      have f2 := ft_len g i (pB g i) false ((cm g i).1, [])
      have f3 := st2 (pA g i) (ft g i (pB g i) false ((cm g i).1, []))
      have f4 := st2 (pA g i) (9 :: (cm g i).1, [(0, pI g i)])
      simp only [List.length_nil, List.length_singleton] at f1 f2 f3 f4
      unfold cst
      split
      · simp; omega
      · split
        · simp only [List.nil_append]; omega
        · split
          · omega
          · omega
  have hlp := lps_st hk
  have hlo1 := lo_of hlp
  rw [hem] at hc ha
  rcases e2 with ⟨k7, y2e, G⟩ | ⟨k6, y2e, G⟩
  · refine ⟨fun z => by omega, fun _ => ?_⟩
    have N := Go.rn hc (G U pr)
    rw [h1 _ hA, ← h3, ← ha] at N
    refine ⟨em.length, y2.map U, by omega, ⟨U, h1, ?_, ?_⟩, N⟩
    · simp only
      rw [hlo1, hlp]
      exact h2
    · simp only
      rw [hcm, y2e]
  · refine ⟨fun _ => ?_, fun z => by omega⟩
    have N := Go.rn hc (G U pr)
    rw [← h3, ← ha] at N
    have em1 : mpl g i U = mpl g i v := by
      simp only [mpl]
      by_cases z0 : pK g i = 0
      · rw [if_pos z0, if_pos z0]
      · by_cases z1 : pK g i = 1
        · rw [if_neg z0, if_neg z0, if_pos z1, if_pos z1, h1 _ (k3 (by omega) (by omega))]
        · rw [if_neg z0, if_neg z0, if_neg z1, if_neg z1, h1 _ (k3 (by omega) (by omega)), h1 _ (k4 (by omega) (by omega))]
    rw [em1] at N
    refine ⟨em.length, _, by omega, ⟨upd U (pA g i) (mpl g i v), fun w hw => ?_, ?_, ?_⟩, N⟩
    · simp only [upd]
      by_cases z : w = pA g i
      · rw [if_pos z, if_pos z]
      · rw [if_neg z, if_neg z, h1 w hw]
    · simp only
      rw [hlo1, hlp, ← h2]
      exact List.map_congr_left (fun q hq => by
        simp only [upd]
        rw [if_neg (by have := (dsc_mem.mp hq).1; omega)])
    · simp only
      rw [hcm, y2e, List.map_cons]
      congr 1
      · simp [upd]
      · refine List.map_congr_left (fun q hq => ?_)
        simp only [upd]
        rw [if_neg (b.1.mem_erase_iff.mp hq).1]
theorem sim_8 (H : Pok g) (hs : snd g = true) {i e p : Nat} {v lf : Nat → Int32} {pr : Nat × (Nat → Int32)} {s : List Int32} (hi : i < pN g) (h8 : pK g i = 8) (hE : Ed g i e p) (R : Rl g (i, v, lf, pr) s) : (¬ v (pA g i) ≤ 0 → Fol g (i, v, lf, pr) (i + 1, v, lf, pr) s) ∧ (v (pA g i) ≤ 0 → Fol g (i, v, lf, pr) ((if p = i then e + 1 else p + 1), v, lf, pr) s) := by
  have hA := (H.2 i hi).2.1 (by omega) (by omega)
  have hlo := lo3 H hs (Nat.le_of_lt hi)
  have hal := aE_len H hs (Nat.le_of_lt hi) (fun v _ => wan_bd (show 8 ≤ pK g i by omega))
  have G1 := rl_arr H hs R (Nat.le_of_lt hi) (fun v _ => wan_bd (show 8 ≤ pK g i by omega)) pr
  simp only at G1
  have G2 : Go [(1, nI (dx (dsc 0 (6 + lo g i)) (pA g i)))] (can g i v lf, pr) (v (pA g i) :: can g i v lf, pr) := Go.cons (fun a => ex_dup (by rw [can_len]; omega) (can_at hA)) (Go.nil _)
  obtain ⟨hc, ha, -⟩ := em_8 H hs hi h8
  have N1 := Go.rn hc (G1.app G2)
  have ep : ad g i + (aE g i ++ [(1, nI (dx (dsc 0 (6 + lo g i)) (pA g i)))]).length = ad g (i + 1) - 1 := by
    simp only [List.length_append, List.length_cons, List.length_nil]
    omega
  have el : (aE g i ++ [(1, nI (dx (dsc 0 (6 + lo g i)) (pA g i)))]).length ≤ 10 := by
    simp only [List.length_append, List.length_cons, List.length_nil]
    omega
  rw [ep] at N1
  generalize (aE g i ++ [(1, nI (dx (dsc 0 (6 + lo g i)) (pA g i)))]).length = n1 at N1 el
  have hm : (i, p) ∈ stk g e := by rw [hE.2.2]; exact List.mem_cons_self
  have hlt := stk_lt _ hm
  simp only at hlt
  have hT : (cmF g)[ad g (i + 1) - 1]? = some (10, nI (ad g (if p = i then e + 1 else p + 1))) := by
    by_cases z : p = i
    · have := fx_end H hs hE
      rw [if_pos z, if_neg (by omega), z] at this
      rw [if_pos z]
      exact this
    · obtain ⟨z1, z2, z3, z4, z5⟩ := stk_p (okb_le (Nat.le_of_lt hE.1) (snd_ok hs)) i p hm z
      rw [if_neg z]
      exact fx_else H hs (by have := hE.1; omega) z3 z5 h8
  refine ⟨fun hv => ?_, fun hv => ?_⟩
  · have N2 : Rn (cmF g) 1 (ad g (i + 1) - 1, v (pA g i) :: can g i v lf, pr) (ad g (i + 1) - 1 + 1, can g i v lf, pr) := Rn.one hT (ex_jun hv)
    rw [show ad g (i + 1) - 1 + 1 = ad g (i + 1) by omega] at N2
    refine ⟨n1 + 1, can g (i + 1) v lf, by omega, rl_can (cm_can H hs hi (by omega)), ?_⟩
    rw [can_of (lps_8 h8)]
    exact N1.tr N2
  · have N2 : Rn (cmF g) 1 (ad g (i + 1) - 1, v (pA g i) :: can g i v lf, pr) (ad g (if p = i then e + 1 else p + 1), can g i v lf, pr) := Rn.one hT (ex_jup hv)
    by_cases z : p = i
    · rw [if_pos z] at N2 ⊢
      refine ⟨n1 + 1, can g (e + 1) v lf, by omega, rl_can (cm_can H hs hE.1 (by have := hE.2.1; omega)), ?_⟩
      rw [can_of (lps_of (show stk g (e + 1) = stk g i by rw [stk_en hE.2.1, hE.2.2]; rfl))]
      exact N1.tr N2
    · obtain ⟨z1, z2, z3, z4, z5⟩ := stk_p (okb_le (Nat.le_of_lt hE.1) (snd_ok hs)) i p hm z
      rw [if_neg z] at N2 ⊢
      refine ⟨n1 + 1, can g (p + 1) v lf, by omega, rl_can (cm_can H hs (by have := hE.1; omega) (by omega)), ?_⟩
      rw [can_of (show lps g (p + 1) = lps g i from lps_c8 (o := i) (p := p) (stk_el z3 z5) (by omega))]
      exact N1.tr N2
theorem drop_at (H : Pok g) (hs : snd g = true) {e o p : Nat} (hE : Ed g o e p) (h10 : pK g o = 10) : (cmF g)[ad g (e + 1) - 1]? = some (8, 0) := by
  obtain ⟨hc, ha⟩ := (em_11 H hs hE.1 hE.2.1 hE.2.2).2 h10
  have h1 := hc.app.2.tail.2.tail.2.tail.2.tail.1
  rw [ha]
  rw [show ad g e + (aE g e).length + 4 - 1 = ad g e + (aE g e).length + 1 + 1 + 1 by omega]
  exact h1
theorem loop_p (H : Pok g) (hs : snd g = true) {i o p : Nat} (hi : i ≤ pN g) (hm : (o, p) ∈ stk g i) (h10 : pK g o = 10) : p = o := by
  have := ((cI H hs hi).2.2.2.2.2.2 (o, p) hm).1
  simp only at this
  omega
theorem sim_10 (H : Pok g) (hs : snd g = true) {i e p : Nat} {v lf : Nat → Int32} {pr : Nat × (Nat → Int32)} {s : List Int32} (hi : i < pN g) (h10 : pK g i = 10) (hE : Ed g i e p) (R : Rl g (i, v, lf, pr) s) : (pA g i = 0 → Fol g (i, v, lf, pr) (e + 1, v, upd lf i (nI (pA g i)), pr) s) ∧ (pA g i ≠ 0 → Fol g (i, v, lf, pr) (i + 1, v, upd lf i (nI (pA g i)), pr) s) := by
  have hA := (H.2 i hi).2.1 (by omega) (by omega)
  have hlo := lo3 H hs (Nat.le_of_lt hi)
  have hal := aE_len H hs (Nat.le_of_lt hi) (fun v _ => wan_bd (show 8 ≤ pK g i by omega))
  have G1 := rl_arr H hs R (Nat.le_of_lt hi) (fun v _ => wan_bd (show 8 ≤ pK g i by omega)) pr
  simp only at G1
  have G2 : Go [(0, nI (pA g i)), (1, 0)] (can g i v lf, pr) (nI (pA g i) :: nI (pA g i) :: can g i v lf, pr) := Go.cons (fun a => ex_push (by rw [can_len]; omega)) (Go.cons (fun a => ex_dup (d := 0) (by rw [List.length_cons, can_len]; omega) rfl) (Go.nil _))
  obtain ⟨hc, ha, -⟩ := em_10 H hs hi h10
  have N1 := Go.rn hc (G1.app G2)
  have ep : ad g i + (aE g i ++ [(0, nI (pA g i)), (1, 0)]).length = ad g (i + 1) - 1 := by
    simp only [List.length_append, List.length_cons, List.length_nil]
    omega
  have el : (aE g i ++ [(0, nI (pA g i)), (1, 0)]).length ≤ 11 := by
    simp only [List.length_append, List.length_cons, List.length_nil]
    omega
  rw [ep] at N1
  generalize (aE g i ++ [(0, nI (pA g i)), (1, 0)]).length = n1 at N1 el
  have hm : (i, p) ∈ stk g e := by rw [hE.2.2]; exact List.mem_cons_self
  have z : p = i := loop_p H hs (Nat.le_of_lt hE.1) hm h10
  have hT := fx_end H hs hE
  rw [if_pos z, if_pos h10, z] at hT
  have hne : ∀ q ∈ lps g i, q ≠ i := fun q hq => by have := lps_lt q hq; omega
  refine ⟨fun hz => ?_, fun hz => ?_⟩
  · have N2 : Rn (cmF g) 1 (ad g (i + 1) - 1, nI (pA g i) :: nI (pA g i) :: can g i v lf, pr) (ad g (e + 1) - 1, nI (pA g i) :: can g i v lf, pr) := Rn.one hT (ex_jup (by rw [z0le (by omega)]; omega))
    have N3 : Rn (cmF g) 1 (ad g (e + 1) - 1, nI (pA g i) :: can g i v lf, pr) (ad g (e + 1) - 1 + 1, can g i v lf, pr) := Rn.one (drop_at H hs hE h10) ex_drop
    have he := ((em_11 H hs hE.1 hE.2.1 hE.2.2).2 h10).2
    rw [show ad g (e + 1) - 1 + 1 = ad g (e + 1) by omega] at N3
    refine ⟨n1 + 1 + 1, can g (e + 1) v (upd lf i (nI (pA g i))), by omega, rl_can (cm_can H hs hE.1 (by have := hE.2.1; omega)), ?_⟩
    rw [can_of (lps_of (show stk g (e + 1) = stk g i by rw [stk_en hE.2.1, hE.2.2]; rfl)), can_up hne]
    exact (N1.tr N2).tr N3
  · have N2 : Rn (cmF g) 1 (ad g (i + 1) - 1, nI (pA g i) :: nI (pA g i) :: can g i v lf, pr) (ad g (i + 1) - 1 + 1, nI (pA g i) :: can g i v lf, pr) := Rn.one hT (ex_jun (by rw [z0le (by omega)]; omega))
    rw [show ad g (i + 1) - 1 + 1 = ad g (i + 1) by omega] at N2
    refine ⟨n1 + 1, can g (i + 1) v (upd lf i (nI (pA g i))), by omega, rl_can (cm_can H hs hi (by omega)), ?_⟩
    have e2 : can g (i + 1) v (upd lf i (nI (pA g i))) = nI (pA g i) :: can g i v lf := by
      rw [← can_up (z := nI (pA g i)) hne, can, lps_10 h10, List.map_cons, List.cons_append, can]
      congr 1
      simp [upd]
    rw [e2]
    exact N1.tr N2
theorem sim_9 (H : Pok g) (hs : snd g = true) {i o e p : Nat} {v lf : Nat → Int32} {pr : Nat × (Nat → Int32)} {s : List Int32} (hi : i < pN g) (h9 : pK g i = 9) (hst : stk g i = (o, o) :: stk g o) (ho : pK g o = 8) (hE : Ed g o e p) (R : Rl g (i, v, lf, pr) s) : Fol g (i, v, lf, pr) (e + 1, v, lf, pr) s := by
  have hlo := lo3 H hs (Nat.le_of_lt hi)
  have hal := aE_len H hs (Nat.le_of_lt hi) (fun v _ => wan_bd (show 8 ≤ pK g i by omega))
  have G1 := rl_arr H hs R (Nat.le_of_lt hi) (fun v _ => wan_bd (show 8 ≤ pK g i by omega)) pr
  simp only at G1
  obtain ⟨hc, ha, -⟩ := em_9 H hs hi h9 hst
  have N1 := Go.rn hc G1
  have hm : (o, p) ∈ stk g e := by rw [hE.2.2]; exact List.mem_cons_self
  have hlt := stk_lt _ hm
  have hlt2 := stk_lt (o, o) (show (o, o) ∈ stk g i by rw [hst]; exact List.mem_cons_self)
  simp only at hlt hlt2
  have hie : i < e := by
    refine Classical.byContradiction (fun z => ?_)
    have h1 := stk_deep (show (o, o) ∈ stk g i by rw [hst]; exact List.mem_cons_self) (k := e + 1)
    by_cases z2 : e = i
    · have := hE.2.1
      rw [z2] at this
      omega
    · have h2 := h1 (by omega) (by omega)
      rw [stk_en hE.2.1, hE.2.2, List.tail_cons] at h2
      omega
  have hpi : p = i := stk_e (okb_le (Nat.le_of_lt hE.1) (snd_ok hs)) o p i o (stk g o) hm h9 hie hst
  have hT := fx_end H hs hE
  rw [if_neg (by omega), if_neg (by omega), hpi] at hT
  have N2 : Rn (cmF g) 1 (ad g (i + 1) - 1, can g i v lf, pr) (ad g (e + 1), can g i v lf, pr) := Rn.one hT ex_jump
  rw [show ad g i + (aE g i).length = ad g (i + 1) - 1 by omega] at N1
  refine ⟨(aE g i).length + 1, can g (e + 1) v lf, by omega, rl_can (cm_can H hs hE.1 (by have := hE.2.1; omega)), ?_⟩
  have l1 : lps g (e + 1) = lps g o := lps_of (by rw [stk_en hE.2.1, hE.2.2]; rfl)
  have l2 : lps g i = lps g o := lps_c8 hst (by omega)
  rw [can_of (l1.trans l2.symm)]
  exact N1.tr N2
theorem sim_11 (H : Pok g) (hs : snd g = true) {i o p : Nat} {v lf : Nat → Int32} {pr : Nat × (Nat → Int32)} {s : List Int32} (hi : i < pN g) (h11 : pK g i = 11) (hst : stk g i = (o, p) :: stk g o) (R : Rl g (i, v, lf, pr) s) : (pK g o = 8 → Fol g (i, v, lf, pr) (i + 1, v, lf, pr) s) ∧ (pK g o = 10 → ¬ lf o - nI 1 ≤ 0 → Fol g (i, v, lf, pr) (o + 1, v, upd lf o (lf o - nI 1), pr) s) ∧ (pK g o = 10 → lf o - nI 1 ≤ 0 → Fol g (i, v, lf, pr) (i + 1, v, upd lf o (lf o - nI 1), pr) s) := by
  have hlo := lo3 H hs (Nat.le_of_lt hi)
  have hal := aE_len H hs (Nat.le_of_lt hi) (fun v _ => wan_bd (show 8 ≤ pK g i by omega))
  have G1 := rl_arr H hs R (Nat.le_of_lt hi) (fun v _ => wan_bd (show 8 ≤ pK g i by omega)) pr
  simp only at G1
  have l1 : lps g (i + 1) = lps g o := lps_of (by rw [stk_en h11, hst]; rfl)
  have hm : (o, p) ∈ stk g i := by rw [hst]; exact List.mem_cons_self
  have hlt := stk_lt _ hm
  simp only at hlt
  have hne : ∀ q ∈ lps g o, q ≠ o := fun q hq => by have := lps_lt q hq; omega
  refine ⟨fun ho => ?_, ?_⟩
  · obtain ⟨hc, ha⟩ := (em_11 H hs hi h11 hst).1 (by omega)
    have N1 := Go.rn hc G1
    rw [← ha] at N1
    refine ⟨(aE g i).length, can g (i + 1) v lf, by omega, rl_can (cm_can H hs hi (by omega)), ?_⟩
    rw [can_of (l1.trans (lps_c8 hst (by omega)).symm)]
    exact N1
  · have key : pK g o = 10 → Rn (cmF g) ((aE g i).length + 1 + 1 + 1 + 1) (ad g i, s, pr) (ad g (o + 1) - 1, (lf o - nI 1) :: (lf o - nI 1) :: can g o v lf, pr) := by
      intro ho
      obtain ⟨hc, ha⟩ := (em_11 H hs hi h11 hst).2 ho
      have z : p = o := loop_p H hs (Nat.le_of_lt hi) hm ho
      have hc2 := hc.app
      have N1 := Go.rn hc2.1 G1
      have e1 : can g i v lf = lf o :: can g o v lf := by
        rw [can, lps_c10 hst ho]
        rfl
      rw [e1] at N1
      have c1 := hc2.2.tail
      have c2 := c1.2.tail
      have c3 := c2.2.tail
      have hcl := can_len g o v lf
      have hlo2 : lo g i = lo g o + 1 := by rw [← lps_len, ← lps_len, lps_c10 hst ho]; rfl
      have N2 : Rn (cmF g) 1 (ad g i + (aE g i).length, lf o :: can g o v lf, pr) (ad g i + (aE g i).length + 1, (-1) :: lf o :: can g o v lf, pr) := Rn.one c1.1 (ex_push (by rw [List.length_cons, hcl]; omega))
      have N3 : Rn (cmF g) 1 (ad g i + (aE g i).length + 1, (-1) :: lf o :: can g o v lf, pr) (ad g i + (aE g i).length + 1 + 1, cmp 2 (lf o) (-1) :: can g o v lf, pr) := Rn.one c2.1 (ex_ar (by decide) (by decide))
      have ec : cmp 2 (lf o) (-1) = lf o - nI 1 := by
        rw [cmp, if_pos rfl, ← zpre]
        rfl
      rw [ec] at N3
      have N4 : Rn (cmF g) 1 (ad g i + (aE g i).length + 1 + 1, (lf o - nI 1) :: can g o v lf, pr) (pt g (o, p) - 1, (lf o - nI 1) :: can g o v lf, pr) := Rn.one c3.1 ex_jump
      obtain ⟨hd, hda, -⟩ := em_10 H hs (show o < pN g by omega) ho
      have d1 := hd.app.2.tail.2.tail.1
      have ept : pt g (o, p) - 1 = ad g o + (aE g o).length + 1 := by
        rw [pt]
        simp only
        rw [z]
        omega
      rw [ept] at N4
      have N5 : Rn (cmF g) 1 (ad g o + (aE g o).length + 1, (lf o - nI 1) :: can g o v lf, pr) (ad g o + (aE g o).length + 1 + 1, (lf o - nI 1) :: (lf o - nI 1) :: can g o v lf, pr) := Rn.one d1 (ex_dup (d := 0) (by rw [List.length_cons, hcl]; omega) rfl)
      rw [show ad g o + (aE g o).length + 1 + 1 = ad g (o + 1) - 1 by omega] at N5
      exact (((N1.tr N2).tr N3).tr N4).tr N5
    have pat2 : pK g o = 10 → (cmF g)[ad g (o + 1) - 1]? = some (10, nI (ad g (i + 1) - 1)) := by
      intro ho
      have z : p = o := loop_p H hs (Nat.le_of_lt hi) hm ho
      have hT := fx_end H hs (o := o) (e := i) (p := p) ⟨hi, h11, hst⟩
      rw [if_pos z, if_pos ho, z] at hT
      exact hT
    refine ⟨fun ho hc => ?_, fun ho hc => ?_⟩
    · have hda := (em_10 H hs (show o < pN g by omega) ho).2.1
      have N6 : Rn (cmF g) 1 (ad g (o + 1) - 1, (lf o - nI 1) :: (lf o - nI 1) :: can g o v lf, pr) (ad g (o + 1) - 1 + 1, (lf o - nI 1) :: can g o v lf, pr) := Rn.one (pat2 ho) (ex_jun hc)
      rw [show ad g (o + 1) - 1 + 1 = ad g (o + 1) by omega] at N6
      refine ⟨(aE g i).length + 1 + 1 + 1 + 1 + 1, can g (o + 1) v (upd lf o (lf o - nI 1)), by omega, rl_can (cm_can H hs (by omega) (by omega)), ?_⟩
      have e2 : can g (o + 1) v (upd lf o (lf o - nI 1)) = (lf o - nI 1) :: can g o v lf := by
        rw [← can_up (z := lf o - nI 1) hne, can, lps_10 ho, List.map_cons, List.cons_append, can]
        congr 1
        simp [upd]
      rw [e2]
      exact (key ho).tr N6
    · have hE : Ed g o i p := ⟨hi, h11, hst⟩
      have ha := ((em_11 H hs hi h11 hst).2 ho).2
      have N6 : Rn (cmF g) 1 (ad g (o + 1) - 1, (lf o - nI 1) :: (lf o - nI 1) :: can g o v lf, pr) (ad g (i + 1) - 1, (lf o - nI 1) :: can g o v lf, pr) := Rn.one (pat2 ho) (ex_jup hc)
      have N7 : Rn (cmF g) 1 (ad g (i + 1) - 1, (lf o - nI 1) :: can g o v lf, pr) (ad g (i + 1) - 1 + 1, can g o v lf, pr) := Rn.one (drop_at H hs hE ho) ex_drop
      rw [show ad g (i + 1) - 1 + 1 = ad g (i + 1) by omega] at N7
      refine ⟨(aE g i).length + 1 + 1 + 1 + 1 + 1 + 1, can g (i + 1) v (upd lf o (lf o - nI 1)), by omega, rl_can (cm_can H hs hi (by omega)), ?_⟩
      rw [can_of l1, can_up hne]
      exact ((key ho).tr N6).tr N7
theorem sim (H : Pok g) (hs : snd g = true) {x y : Ms} (P : Pas g x y) {s : List Int32} (R : Rl g x s) : Fol g x y s := by
  obtain ⟨i, v, lf, pr⟩ := x
  obtain ⟨hi, P⟩ := P
  simp only at hi P
  rcases P with ⟨e, hy⟩ | ⟨e, hy⟩ | ⟨e, en, p, hE, ⟨hc, hy⟩ | ⟨hc, hy⟩⟩ | ⟨e, en, p, hE, ⟨hc, hy⟩ | ⟨hc, hy⟩⟩ | ⟨e, o, en, p, hst, ho8, hE, hy⟩ | ⟨e, o, p, hst, ⟨ho, hy⟩ | ⟨ho, ⟨hc, hy⟩ | ⟨hc, hy⟩⟩⟩
  · subst hy
    exact (sim_st H hs hi (by omega) R).1 e
  · subst hy
    exact (sim_st H hs hi (by omega) R).2 e
  · subst hy
    exact (sim_8 H hs hi e hE R).1 hc
  · subst hy
    exact (sim_8 H hs hi e hE R).2 hc
  · subst hy
    exact (sim_10 H hs hi e hE R).1 hc
  · subst hy
    exact (sim_10 H hs hi e hE R).2 hc
  · subst hy
    exact sim_9 H hs hi e hst ho8 hE R
  · subst hy
    exact (sim_11 H hs hi e hst R).1 ho
  · subst hy
    exact (sim_11 H hs hi e hst R).2.1 ho hc
  · subst hy
    exact (sim_11 H hs hi e hst R).2.2 ho hc
end S2
end
section
/-! the whole run -/
section BO
variable {g : Pg}
theorem hd_c {a : Nat} {t l : List Nat} (h : l = a :: t) : l.headD 0 = a := by rw [h]; rfl
theorem phi_step (H : Pok g) (hs : snd g = true) {x y : Ms} (P : Pas g x y) (L : Lv g x.1 x.2.2.1) : Lv g y.1 y.2.2.1 ∧ phi g y.1 y.2.2.1 < phi g x.1 x.2.2.1 ∧ y.1 ≤ pN g := by
  obtain ⟨i, v, lf, pr⟩ := x
  obtain ⟨hi, P⟩ := P
  simp only at hi P L
  have hl1 := rb_len' H hs (show i + 1 ≤ pN g from hi)
  have plain : lps g (i + 1) = lps g i → pK g i ≠ 10 → Lv g (i + 1) lf ∧ phi g (i + 1) lf < phi g i lf ∧ i + 1 ≤ pN g := by
    intro e1 e2
    obtain ⟨a, t, h⟩ := c1 hl1
    have h2 := rb_st hi e2 (lo_of e1) h
    refine ⟨by rw [Lv, e1]; exact L, ?_, hi⟩
    rw [phi, phi, e1, h, h2, List.sum_cons, List.sum_cons]
    omega
  have jump : ∀ j, i < j → j ≤ pN g → lps g j = lps g i → pK g i ≠ 10 → lo g (i + 1) = lo g i → (∀ t, i + 1 ≤ t → t ≤ j → lo g j ≤ lo g t) → Lv g j lf ∧ phi g j lf < phi g i lf ∧ j ≤ pN g := by
    intro j h1 h2 e1 e2 e3 h3
    obtain ⟨a, t, h⟩ := c1 hl1
    have h4 := rb_st hi e2 e3 h
    have h5 := rb_sum H hs h1 h2 h3
    refine ⟨by rw [Lv, e1]; exact L, ?_, h2⟩
    rw [h, List.sum_cons] at h5
    rw [phi, phi, e1, h4, List.sum_cons]
    omega
  rcases P with ⟨e, hy⟩ | ⟨e, hy⟩ | ⟨e, en, p, hE, hy⟩ | ⟨e, en, p, hE, hy⟩ | ⟨e, o, en, p, hst, ho8, hE, hy⟩ | ⟨e, o, p, hst, hy⟩
  · subst hy
    exact plain (lps_st (by omega)) (by omega)
  · subst hy
    exact plain (lps_st (by omega)) (by omega)
  · rcases hy with ⟨hc, hy⟩ | ⟨hc, hy⟩
    · subst hy
      exact plain (lps_8 e) (by omega)
    · subst hy
      obtain ⟨hE1, hE2, hE3⟩ := hE
      have hm : (i, p) ∈ stk g en := by rw [hE3]; exact List.mem_cons_self
      have hlt := stk_lt _ hm
      simp only at hlt
      have l8 := lo_of (lps_8 e)
      by_cases z : p = i
      · rw [if_pos z]
        have le1 : lps g (en + 1) = lps g i := lps_of (by rw [stk_en hE2, hE3]; rfl)
        refine jump (en + 1) (by omega) (by omega) le1 (by omega) l8 (fun t t1 t2 => ?_)
        rw [lo_of le1]
        by_cases te : t = en + 1
        · rw [te, lo_of le1]
          exact Nat.le_refl _
        · obtain ⟨p', hp'⟩ := stk_all hm t t1 (by omega)
          exact (lo_in hp').1
      · obtain ⟨z1, z2, z3, z4, z5⟩ := stk_p (okb_le (Nat.le_of_lt hE1) (snd_ok hs)) i p hm z
        rw [if_neg z]
        have le1 : lps g (p + 1) = lps g i := lps_c8 (o := i) (p := p) (stk_el z3 z5) (by omega)
        refine jump (p + 1) (by omega) (by omega) le1 (by omega) l8 (fun t t1 t2 => ?_)
        rw [lo_of le1]
        obtain ⟨p', hp'⟩ := stk_all hm t t1 (by omega)
        exact (lo_in hp').1
  · have hE' := hE
    obtain ⟨hE1, hE2, hE3⟩ := hE
    obtain ⟨b, hb⟩ := rb_loop H hs hE' e
    obtain ⟨c, t, hct⟩ := c1 (rb_len' H hs (show en + 1 ≤ pN g from hE1))
    rw [hct] at hb
    have h0 := rb_10 hi e hb
    have hne : ∀ q ∈ lps g i, q ≠ i := fun q hq => by have := lps_lt q hq; omega
    have hA := (H.2 i hi).2.1 (by omega) (by omega)
    rcases hy with ⟨hc, hy⟩ | ⟨hc, hy⟩
    · subst hy
      simp only
      have le1 : lps g (en + 1) = lps g i := lps_of (by rw [stk_en hE2, hE3]; rfl)
      refine ⟨by rw [Lv, le1]; exact lv5_upd L hne, ?_, hE1⟩
      rw [phi, phi, le1, wt_upd hne, h0, hct, List.sum_cons, List.sum_cons]
      omega
    · subst hy
      simp only
      have le1 := lps_10 e
      refine ⟨?_, ?_, hi⟩
      · rw [Lv, le1]
        intro q hq
        rcases List.mem_cons.mp hq with z | z
        · exact ⟨pA g i, by omega, hA, by rw [z]; simp [upd]⟩
        · exact lv5_upd L hne q z
      · rw [phi, phi, le1, List.map_cons, wt_upd hne, h0, hb, List.sum_cons, List.sum_cons, List.sum_cons, List.sum_cons]
        have hw : wt g (upd lf i (nI (pA g i))) i = (pA g i - 1) * b := by
          simp only [wt, upd]
          rw [if_pos trivial, nI_clamp (by omega), hd_c hb]
        rw [hw]
        have hmul : (pA g i - 1) * b ≤ 4 * b := Nat.mul_le_mul_right b (by omega)
        omega
  · obtain ⟨hE1, hE2, hE3⟩ := hE
    subst hy
    simp only
    have hm : (o, p) ∈ stk g en := by rw [hE3]; exact List.mem_cons_self
    have hlt := stk_lt _ hm
    have hm2 : (o, o) ∈ stk g i := by rw [hst]; exact List.mem_cons_self
    have hlt2 := stk_lt _ hm2
    simp only at hlt hlt2
    have hie : i < en := by
      refine Classical.byContradiction (fun z => ?_)
      by_cases z2 : en = i
      · rw [z2] at hE2
        omega
      · have h2 := stk_deep hm2 (k := en + 1) (by omega) (by omega)
        rw [stk_en hE2, hE3, List.tail_cons] at h2
        omega
    have l2 : lps g i = lps g o := lps_c8 hst (by omega)
    have l3 : lps g (i + 1) = lps g o := lps_c8 (o := o) (p := i) (stk_el e hst) (by omega)
    have le1 : lps g (en + 1) = lps g o := lps_of (by rw [stk_en hE2, hE3]; rfl)
    refine jump (en + 1) (by omega) (by omega) (le1.trans l2.symm) (by omega) (lo_of (l3.trans l2.symm)) (fun t t1 t2 => ?_)
    rw [lo_of le1]
    by_cases te : t = en + 1
    · rw [te, lo_of le1]
      exact Nat.le_refl _
    · obtain ⟨p', hp'⟩ := stk_all hm t (by omega) (by omega)
      exact (lo_in hp').1
  · have l1 : lps g (i + 1) = lps g o := lps_of (by rw [stk_en e, hst]; rfl)
    have hm : (o, p) ∈ stk g i := by rw [hst]; exact List.mem_cons_self
    have hlt := stk_lt _ hm
    simp only at hlt
    rcases hy with ⟨ho, hy⟩ | ⟨ho, hy⟩
    · subst hy
      exact plain (l1.trans (lps_c8 hst (by omega)).symm) (by omega)
    · have l2 := lps_c10 hst ho
      have hlo : lo g i = lo g (i + 1) + 1 := by rw [← lps_len, ← lps_len, l1, l2]; rfl
      have h0 := rb_11 hi e hlo
      obtain ⟨b, hb⟩ := rb_loop H hs (o := o) (e := i) (p := p) ⟨hi, e, hst⟩ ho
      have hne : ∀ q ∈ lps g o, q ≠ o := fun q hq => by have := lps_lt q hq; omega
      rw [Lv, l2] at L
      obtain ⟨n, n1, n2, n3⟩ := L o List.mem_cons_self
      have L2 : ∀ q ∈ lps g o, ∃ L, 1 ≤ L ∧ L ≤ 5 ∧ lf q = nI L := fun q hq => L q (List.mem_cons_of_mem _ hq)
      have en1 : lf o - nI 1 = nI (n - 1) := by rw [n3]; exact zsub n1
      have hw : wt g lf o = (n - 1) * b := by
        simp only [wt]
        rw [n3, nI_clamp (by omega), hd_c hb]
      rw [en1] at hy
      rcases hy with ⟨hc, hy⟩ | ⟨hc, hy⟩
      · rw [z0le (by omega)] at hc
        subst hy
        simp only
        refine ⟨?_, ?_, by omega⟩
        · rw [Lv, lps_10 ho]
          intro q hq
          rcases List.mem_cons.mp hq with z | z
          · exact ⟨n - 1, by omega, by omega, by rw [z]; simp [upd]⟩
          · exact lv5_upd L2 hne q z
        · have hw2 : wt g (upd lf o (nI (n - 1))) o = (n - 1 - 1) * b := by
            simp only [wt, upd]
            rw [if_pos trivial, nI_clamp (by omega), hd_c hb]
          rw [phi, phi, lps_10 ho, l2, List.map_cons, List.map_cons, wt_upd hne, h0, hb, hw, hw2, List.sum_cons, List.sum_cons, List.sum_cons, List.sum_cons]
          have e3 : (n - 1) * b = (n - 1 - 1) * b + b := by
            rw [show n - 1 = (n - 1 - 1) + 1 by omega, Nat.add_mul, Nat.one_mul, Nat.add_sub_cancel]
          omega
      · subst hy
        simp only
        refine ⟨by rw [Lv, l1]; exact lv5_upd L2 hne, ?_, hi⟩
        rw [phi, phi, l1, l2, List.map_cons, wt_upd hne, h0, hw, List.sum_cons, List.sum_cons]
        omega
theorem pas_ex (H : Pok g) (hs : snd g = true) (x : Ms) (hx : x.1 < pN g) : ∃ y, Pas g x y := by
  obtain ⟨i, v, lf, pr⟩ := x
  simp only at hx
  have k1 := (H.2 i hx).1
  have hq := cQ hs hx
  have fin : ∀ o p, (o, p) ∈ stk g (i + 1) → ∃ e p', Ed g o e p' := by
    intro o p hm
    obtain ⟨e, p', h1, h2, h3, h4⟩ := stk_end hm (n := pN g) hx (fun p' h => by rw [snd_st hs] at h; cases h)
    exact ⟨e, p', h2, h3, h4⟩
  by_cases h6 : pK g i ≤ 6
  · exact ⟨_, hx, Or.inl ⟨h6, rfl⟩⟩
  · by_cases h7 : pK g i = 7
    · exact ⟨_, hx, Or.inr (Or.inl ⟨h7, rfl⟩)⟩
    · by_cases h8 : pK g i = 8
      · obtain ⟨e, p, hE⟩ := fin i i (by rw [stk_op (Or.inl h8)]; exact List.mem_cons_self)
        by_cases hc : v (pA g i) ≤ 0
        · exact ⟨_, hx, Or.inr (Or.inr (Or.inl ⟨h8, e, p, hE, Or.inr ⟨hc, rfl⟩⟩))⟩
        · exact ⟨_, hx, Or.inr (Or.inr (Or.inl ⟨h8, e, p, hE, Or.inl ⟨hc, rfl⟩⟩))⟩
      · by_cases h10 : pK g i = 10
        · obtain ⟨e, p, hE⟩ := fin i i (by rw [stk_op (Or.inr h10)]; exact List.mem_cons_self)
          by_cases hc : pA g i = 0
          · exact ⟨_, hx, Or.inr (Or.inr (Or.inr (Or.inl ⟨h10, e, p, hE, Or.inl ⟨hc, rfl⟩⟩)))⟩
          · exact ⟨_, hx, Or.inr (Or.inr (Or.inr (Or.inl ⟨h10, e, p, hE, Or.inr ⟨hc, rfl⟩⟩)))⟩
        · by_cases h9 : pK g i = 9
          · obtain ⟨o, hst, ho⟩ := okq_9 hq h9
            obtain ⟨e, p, hE⟩ := fin o i (by rw [stk_el h9 hst]; exact List.mem_cons_self)
            exact ⟨_, hx, Or.inr (Or.inr (Or.inr (Or.inr (Or.inl ⟨h9, o, e, p, hst, ho, hE, rfl⟩))))⟩
          · have h11 : pK g i = 11 := by omega
            obtain ⟨o, p, hst⟩ := okq_11 hq h11
            rcases stk_k (g := g) (i := i) (o, p) (by rw [hst]; exact List.mem_cons_self) with k8 | k10
            · exact ⟨_, hx, Or.inr (Or.inr (Or.inr (Or.inr (Or.inr ⟨h11, o, p, hst, Or.inl ⟨k8, rfl⟩⟩))))⟩
            · by_cases hc : lf o - nI 1 ≤ 0
              · exact ⟨_, hx, Or.inr (Or.inr (Or.inr (Or.inr (Or.inr ⟨h11, o, p, hst, Or.inr ⟨k10, Or.inr ⟨hc, rfl⟩⟩⟩))))⟩
              · exact ⟨_, hx, Or.inr (Or.inr (Or.inr (Or.inr (Or.inr ⟨h11, o, p, hst, Or.inr ⟨k10, Or.inl ⟨hc, rfl⟩⟩⟩))))⟩
theorem both_n (H : Pok g) (hs : snd g = true) : ∀ (N : Nat) (x : Ms) (s : List Int32), x.1 ≤ pN g → phi g x.1 x.2.2.1 ≤ N → Lv g x.1 x.2.2.1 → Rl g x s → ∃ (t : Nat) (z : Ms) (n : Nat), t ≤ N ∧ z.1 = pN g ∧ Mn g t x z ∧ n ≤ 15 * N + 6 ∧ Rn (cmF g) n (ad g x.1, s, x.2.2.2) ((cmF g).length, [z.2.1 5, z.2.1 4, z.2.1 3, z.2.1 2, z.2.1 1, z.2.1 0], z.2.2.2) := by
  have last : ∀ (N : Nat) (x : Ms) (s : List Int32), x.1 = pN g → Rl g x s → ∃ (t : Nat) (z : Ms) (n : Nat), t ≤ N ∧ z.1 = pN g ∧ Mn g t x z ∧ n ≤ 15 * N + 6 ∧ Rn (cmF g) n (ad g x.1, s, x.2.2.2) ((cmF g).length, [z.2.1 5, z.2.1 4, z.2.1 3, z.2.1 2, z.2.1 1, z.2.1 0], z.2.2.2) := by
    intro N x s hx R
    have hw : ∀ v, v ≤ 5 → wan g x.1 v = true := fun v _ => wan_end (by omega)
    have G := rl_arr H hs R (by omega) hw x.2.2.2
    have hl := aE_len H hs (by omega) hw
    have hlo : lo g x.1 = 0 := by rw [hx, lo, snd_st hs]; rfl
    have ec : can g x.1 x.2.1 x.2.2.1 = [x.2.1 5, x.2.1 4, x.2.1 3, x.2.1 2, x.2.1 1, x.2.1 0] := by
      have : lps g x.1 = [] := by rw [hx, lps, snd_st hs]; rfl
      rw [can, this]
      rfl
    rw [ec] at G
    have cf := cF_eq H hs
    rw [← hx] at cf
    have hc : Cd (cmF g) (ad g x.1) (aE g x.1) := fun j q hj => by
      rw [cf, ← List.append_nil (aE g x.1)]
      exact app_at hj
    have N1 := Go.rn hc G
    have hlen : (cmF g).length = ad g x.1 + (aE g x.1).length := by rw [cf, List.length_append]; rfl
    rw [← hlen] at N1
    exact ⟨0, x, (aE g x.1).length, Nat.zero_le _, hx, rfl, by omega, N1⟩
  intro N
  induction N with
  | zero =>
    intro x s hx hp L R
    by_cases h : x.1 = pN g
    · exact last 0 x s h R
    · obtain ⟨y, P⟩ := pas_ex H hs x (by omega)
      have := (phi_step H hs P L).2.1
      omega
  | succ N ih =>
    intro x s hx hp L R
    by_cases h : x.1 = pN g
    · exact last (N + 1) x s h R
    · obtain ⟨y, P⟩ := pas_ex H hs x (by omega)
      obtain ⟨p1, p2, p3⟩ := phi_step H hs P L
      obtain ⟨k, s', hk, R', N1⟩ := sim H hs P R
      obtain ⟨t, z, n, t1, t2, t3, t4, t5⟩ := ih y s' p3 (by omega) p1 R'
      exact ⟨t + 1, z, k + n, by omega, t2, ⟨y, P, t3⟩, by omega, N1.tr t5⟩
/-- the model's run and the machine's -/
theorem both (H : Pok g) (hs : snd g = true) (v lf f : Nat → Int32) : ∃ (t : Nat) (z : Ms) (n : Nat), t ≤ 5000 ∧ z.1 = pN g ∧ Mn g t (0, v, lf, 0, f) z ∧ n ≤ 90000 ∧ Rn (cmF g) n (0, [v 5, v 4, v 3, v 2, v 1, v 0], 0, f) ((cmF g).length, [z.2.1 5, z.2.1 4, z.2.1 3, z.2.1 2, z.2.1 1, z.2.1 0], z.2.2.2) := by
  have h0 : phi g 0 lf ≤ 5000 := by
    have : lps g 0 = [] := rfl
    rw [phi, this]
    exact rb_0 H hs
  obtain ⟨t, z, n, t1, t2, t3, t4, t5⟩ := both_n H hs 5000 (0, v, lf, 0, f) [v 5, v 4, v 3, v 2, v 1, v 0] (Nat.zero_le _) h0 (fun o ho => by cases ho) ⟨v, fun _ _ => rfl, rfl, rfl⟩
  exact ⟨t, z, n, t1, t2, t3, by omega, t5⟩
theorem Mn.k {z : Ms} : ∀ {t : Nat} {x : Ms}, Mn g t x z → z.2.2.2.1 ≤ x.2.2.2.1 + t
  | 0, x, h => by
    have e : x = z := h
    rw [e]
    exact Nat.le_refl _
  | t + 1, x, h => by
    obtain ⟨y, P, h⟩ := h
    have h1 := Mn.k h
    have h2 := P.k
    omega
end BO
end
section
/-! the constructors -/
def zs : Sg := fun _ _ => 0
/-- the fields of an object that has just been made -/
def xaZ : List Value := [.int 0, .null, .null, .null, .null, .null, .int 0, .int 0, .int 0, .null, .null, .null, .int 0, .int 0, .int 0, .null, .null, .null, .int 0, .int 0, .null]
set_option maxHeartbeats 4000000 in
set_option maxRecDepth 100000 in
theorem xa_init (l : Launch) (dC : Nat → ClassId) (dI : Nat → Nat → Nat) (h0 sz : Nat) : Met l yX0_init (ws_ yX0_init cX0_init 1 none) { frames := 1, cells := 12, slots := 1390, locals := 21 } (va_Pc [.ref h0] (fun U => U.heap.size = sz ∧ va_P (dC, dI) vwCl [(h0, .inr (0, xaZ))] U.heap ∧ va_K (dC, dI) vwCl [] U ∧ va_D (fun _ => True) [(h0, .inr (0, xaZ))]))
    (va_Qv (fun (u : (Nat → Nat) × (Nat → ClassId)) => u.1 0 = h0) (fun u t => va_P (dC, dI) vwCl (xaW u.1 u.2 zs) t.heap ∧ va_K (dC, dI) vwCl (xaT u.2) t ∧ va_D (va_A [(h0, .inr (0, xaZ))] sz) (xaW u.1 u.2 zs)) (va_A [(h0, .inr (0, xaZ))] sz)) 12 1390 (va_A [(h0, .inr (0, xaZ))] sz) := by
  refine Met.ofW (cc := cX0_init) (maxL := 1) (ret := none) (by decide) rfl ?_
  intro p e s m args below meth c s₁ B hml hv
  obtain ⟨rfl, hsz, hP, hK, hD0⟩ := hv
  have hx := B.exec
  have hb := B.bytes
  have hr := B.returns
  have hts := atoms_spec (ws := ws_ yX0_init cX0_init 1 none) B.pre
  have hts : ∀ w ∈ lw_all, w.before _ s = true := fun w h => hts w (List.mem_cons_of_mem _ h)
  have hown : s.vm.findClass RX0 = some m.cls := findClass_of_methodNamed B.named
  have hlocks := B.notSynchronized
  have hin : meth.name = "<init>" := (name_of_methodNamed B.named B.method).1
  subst hsz
  have hD := hD0.self (sz := s.heap.size)
  generalize hAe : va_A [(h0, .inr (0, xaZ))] s.heap.size = A at hD ⊢
  have hA : ∀ q : Nat, s.heap.size ≤ q → A q := fun q h => by rw [← hAe]; exact Or.inr h
  have hS : va_S A s.heap s.heap [] := va_S.rf
  have hP : va_P (dC, dI) vwCl [(h0, .inr (0, [.int 0, .null, .null, .null, .null, .null, .int 0, .int 0, .int 0, .null, .null, .null, .int 0, .int 0, .int 0, .null, .null, .null, .int 0, .int 0, .null]))] s.heap := hP
  have hD : va_D A [(h0, .inr (0, [.int 0, .null, .null, .null, .null, .null, .int 0, .int 0, .int 0, .null, .null, .null, .int 0, .int 0, .int 0, .null, .null, .null, .int 0, .int 0, .null]))] := hD
  have hl := lv_entry ([.ref h0]) (n := 1) (Nat.le_of_ble_eq_true rfl)
  rw [lg_entry_eq]
  generalize (lg_sl ([.ref h0]) ++ List.replicate (1 - (lg_sl ([.ref h0])).length) Slot.unset).toArray = ls at hl ⊢
  have hl : lv_has ls 1 [(0, .ref h0)] := hl
  refine lv_aload_n hx hb dX0_init_0 rfl (lv_at hl 0 rfl) ?_
  refine W.objInit hx hb hown (hts _ q39) (hts _ q40) (hts _ q41) rfl (by rw [hml]; exact hl.1) rfl dX0_init_1 (Nat.le_of_ble_eq_true rfl) (Nat.le_of_ble_eq_true rfl) ?_
  refine W.eq (g2 := F0 m 4 ls []) rfl ?_
  refine lv_aload_n hx hb dX0_init_4 rfl (lv_at hl 0 rfl) ?_
  refine lv_bipush (v := 40) hx hb dX0_init_5 (by decide) ?_
  refine va_newa (atype := .byte) (a0 := (40, .inl (fun _ => 0))) (ty := .byte) (N' := 40) hx hb (hts _ q106) rfl hK hP hD hS hA (fun cA => rfl) (by decide) (by decide) (by decide) (Nat.le_of_ble_eq_true rfl) (Nat.le_of_ble_eq_true rfl) dX0_init_7 (fun q1_ c1_ H hK hP hD hS => ?_)
  have hP : va_P (dC, dI) vwCl [(h0, .inr (0, [.int 0, .null, .null, .null, .null, .null, .int 0, .int 0, .int 0, .null, .null, .null, .int 0, .int 0, .int 0, .null, .null, .null, .int 0, .int 0, .null])), (q1_, .inl (c1_, 40, .inl (fun _ => 0)))] H := hP
  have hD : va_D A [(h0, .inr (0, [.int 0, .null, .null, .null, .null, .null, .int 0, .int 0, .int 0, .null, .null, .null, .int 0, .int 0, .int 0, .null, .null, .null, .int 0, .int 0, .null])), (q1_, .inl (c1_, 40, .inl (fun _ => 0)))] := hD
  have hK : va_K (dC, dI) vwCl [(c1_, .byte)] s := hK
  refine W.widen (k := 1) (n := 40) (Nat.le_of_ble_eq_true rfl) (Nat.le_of_ble_eq_true rfl) ?_
  refine va_putF (D := (dC, dI)) (ci := 0) (v := .ref q1_) (ty := .array .byte) (C := RX0) (T := TX0) (N := 21) hx hb hts in_X0 tyX0 tyX0_ok nmX0 hown hK hP hD hS 0 rfl rfl 1 (by decide) (hts _ q43) (fun _ h9 => h9) rfl hin rfl (by decide +kernel) rfl rfl (Nat.le_of_ble_eq_true rfl) dX0_init_9 (fun H locs hP hD hS => ?_)
  have hP : va_P (dC, dI) vwCl [(h0, .inr (0, [.int 0, .ref q1_, .null, .null, .null, .null, .int 0, .int 0, .int 0, .null, .null, .null, .int 0, .int 0, .int 0, .null, .null, .null, .int 0, .int 0, .null])), (q1_, .inl (c1_, 40, .inl (fun _ => 0)))] H := hP
  have hD : va_D A [(h0, .inr (0, [.int 0, .ref q1_, .null, .null, .null, .null, .int 0, .int 0, .int 0, .null, .null, .null, .int 0, .int 0, .int 0, .null, .null, .null, .int 0, .int 0, .null])), (q1_, .inl (c1_, 40, .inl (fun _ => 0)))] := hD
  refine lv_aload_n hx hb dX0_init_12 rfl (lv_at hl 0 rfl) ?_
  refine lv_bipush (v := 40) hx hb dX0_init_13 (by decide) ?_
  refine va_newa (atype := .int) (a0 := (40, .inl (fun _ => 0))) (ty := .int) (N' := 40) hx hb (hts _ q107) rfl hK hP hD hS hA (fun cA => rfl) (by decide) (by decide) (by decide) (Nat.le_of_ble_eq_true rfl) (Nat.le_of_ble_eq_true rfl) dX0_init_15 (fun q2_ c2_ H hK hP hD hS => ?_)
  have hP : va_P (dC, dI) vwCl [(h0, .inr (0, [.int 0, .ref q1_, .null, .null, .null, .null, .int 0, .int 0, .int 0, .null, .null, .null, .int 0, .int 0, .int 0, .null, .null, .null, .int 0, .int 0, .null])), (q1_, .inl (c1_, 40, .inl (fun _ => 0))), (q2_, .inl (c2_, 40, .inl (fun _ => 0)))] H := hP
  have hD : va_D A [(h0, .inr (0, [.int 0, .ref q1_, .null, .null, .null, .null, .int 0, .int 0, .int 0, .null, .null, .null, .int 0, .int 0, .int 0, .null, .null, .null, .int 0, .int 0, .null])), (q1_, .inl (c1_, 40, .inl (fun _ => 0))), (q2_, .inl (c2_, 40, .inl (fun _ => 0)))] := hD
  have hK : va_K (dC, dI) vwCl [(c1_, .byte), (c2_, .int)] s := hK
  refine W.widen (k := 2) (n := 80) (Nat.le_of_ble_eq_true rfl) (Nat.le_of_ble_eq_true rfl) ?_
  refine va_putF (D := (dC, dI)) (ci := 0) (v := .ref q2_) (ty := .array .int) (C := RX0) (T := TX0) (N := 21) hx hb hts in_X0 tyX0 tyX0_ok nmX0 hown hK hP hD hS 0 rfl rfl 2 (by decide) (hts _ q44) (fun _ h9 => h9) rfl hin rfl (by decide +kernel) rfl rfl (Nat.le_of_ble_eq_true rfl) dX0_init_17 (fun H locs hP hD hS => ?_)
  have hP : va_P (dC, dI) vwCl [(h0, .inr (0, [.int 0, .ref q1_, .ref q2_, .null, .null, .null, .int 0, .int 0, .int 0, .null, .null, .null, .int 0, .int 0, .int 0, .null, .null, .null, .int 0, .int 0, .null])), (q1_, .inl (c1_, 40, .inl (fun _ => 0))), (q2_, .inl (c2_, 40, .inl (fun _ => 0)))] H := hP
  have hD : va_D A [(h0, .inr (0, [.int 0, .ref q1_, .ref q2_, .null, .null, .null, .int 0, .int 0, .int 0, .null, .null, .null, .int 0, .int 0, .int 0, .null, .null, .null, .int 0, .int 0, .null])), (q1_, .inl (c1_, 40, .inl (fun _ => 0))), (q2_, .inl (c2_, 40, .inl (fun _ => 0)))] := hD
  refine lv_aload_n hx hb dX0_init_20 rfl (lv_at hl 0 rfl) ?_
  refine lv_bipush (v := 40) hx hb dX0_init_21 (by decide) ?_
  refine va_newa (atype := .byte) (a0 := (40, .inl (fun _ => 0))) (ty := .byte) (N' := 40) hx hb (hts _ q106) rfl hK hP hD hS hA (fun cA => rfl) (by decide) (by decide) (by decide) (Nat.le_of_ble_eq_true rfl) (Nat.le_of_ble_eq_true rfl) dX0_init_23 (fun q3_ c3_ H hK hP hD hS => ?_)
  have hP : va_P (dC, dI) vwCl [(h0, .inr (0, [.int 0, .ref q1_, .ref q2_, .null, .null, .null, .int 0, .int 0, .int 0, .null, .null, .null, .int 0, .int 0, .int 0, .null, .null, .null, .int 0, .int 0, .null])), (q1_, .inl (c1_, 40, .inl (fun _ => 0))), (q2_, .inl (c2_, 40, .inl (fun _ => 0))), (q3_, .inl (c3_, 40, .inl (fun _ => 0)))] H := hP
  have hD : va_D A [(h0, .inr (0, [.int 0, .ref q1_, .ref q2_, .null, .null, .null, .int 0, .int 0, .int 0, .null, .null, .null, .int 0, .int 0, .int 0, .null, .null, .null, .int 0, .int 0, .null])), (q1_, .inl (c1_, 40, .inl (fun _ => 0))), (q2_, .inl (c2_, 40, .inl (fun _ => 0))), (q3_, .inl (c3_, 40, .inl (fun _ => 0)))] := hD
  have hK : va_K (dC, dI) vwCl [(c1_, .byte), (c2_, .int), (c3_, .byte)] s := hK
  refine W.widen (k := 3) (n := 120) (Nat.le_of_ble_eq_true rfl) (Nat.le_of_ble_eq_true rfl) ?_
  refine va_putF (D := (dC, dI)) (ci := 0) (v := .ref q3_) (ty := .array .byte) (C := RX0) (T := TX0) (N := 21) hx hb hts in_X0 tyX0 tyX0_ok nmX0 hown hK hP hD hS 0 rfl rfl 3 (by decide) (hts _ q45) (fun _ h9 => h9) rfl hin rfl (by decide +kernel) rfl rfl (Nat.le_of_ble_eq_true rfl) dX0_init_25 (fun H locs hP hD hS => ?_)
  have hP : va_P (dC, dI) vwCl [(h0, .inr (0, [.int 0, .ref q1_, .ref q2_, .ref q3_, .null, .null, .int 0, .int 0, .int 0, .null, .null, .null, .int 0, .int 0, .int 0, .null, .null, .null, .int 0, .int 0, .null])), (q1_, .inl (c1_, 40, .inl (fun _ => 0))), (q2_, .inl (c2_, 40, .inl (fun _ => 0))), (q3_, .inl (c3_, 40, .inl (fun _ => 0)))] H := hP
  have hD : va_D A [(h0, .inr (0, [.int 0, .ref q1_, .ref q2_, .ref q3_, .null, .null, .int 0, .int 0, .int 0, .null, .null, .null, .int 0, .int 0, .int 0, .null, .null, .null, .int 0, .int 0, .null])), (q1_, .inl (c1_, 40, .inl (fun _ => 0))), (q2_, .inl (c2_, 40, .inl (fun _ => 0))), (q3_, .inl (c3_, 40, .inl (fun _ => 0)))] := hD
  refine lv_aload_n hx hb dX0_init_28 rfl (lv_at hl 0 rfl) ?_
  refine lv_bipush (v := 40) hx hb dX0_init_29 (by decide) ?_
  refine va_newa (atype := .byte) (a0 := (40, .inl (fun _ => 0))) (ty := .byte) (N' := 40) hx hb (hts _ q106) rfl hK hP hD hS hA (fun cA => rfl) (by decide) (by decide) (by decide) (Nat.le_of_ble_eq_true rfl) (Nat.le_of_ble_eq_true rfl) dX0_init_31 (fun q4_ c4_ H hK hP hD hS => ?_)
  have hP : va_P (dC, dI) vwCl [(h0, .inr (0, [.int 0, .ref q1_, .ref q2_, .ref q3_, .null, .null, .int 0, .int 0, .int 0, .null, .null, .null, .int 0, .int 0, .int 0, .null, .null, .null, .int 0, .int 0, .null])), (q1_, .inl (c1_, 40, .inl (fun _ => 0))), (q2_, .inl (c2_, 40, .inl (fun _ => 0))), (q3_, .inl (c3_, 40, .inl (fun _ => 0))), (q4_, .inl (c4_, 40, .inl (fun _ => 0)))] H := hP
  have hD : va_D A [(h0, .inr (0, [.int 0, .ref q1_, .ref q2_, .ref q3_, .null, .null, .int 0, .int 0, .int 0, .null, .null, .null, .int 0, .int 0, .int 0, .null, .null, .null, .int 0, .int 0, .null])), (q1_, .inl (c1_, 40, .inl (fun _ => 0))), (q2_, .inl (c2_, 40, .inl (fun _ => 0))), (q3_, .inl (c3_, 40, .inl (fun _ => 0))), (q4_, .inl (c4_, 40, .inl (fun _ => 0)))] := hD
  have hK : va_K (dC, dI) vwCl [(c1_, .byte), (c2_, .int), (c3_, .byte), (c4_, .byte)] s := hK
  refine W.widen (k := 4) (n := 160) (Nat.le_of_ble_eq_true rfl) (Nat.le_of_ble_eq_true rfl) ?_
  refine va_putF (D := (dC, dI)) (ci := 0) (v := .ref q4_) (ty := .array .byte) (C := RX0) (T := TX0) (N := 21) hx hb hts in_X0 tyX0 tyX0_ok nmX0 hown hK hP hD hS 0 rfl rfl 4 (by decide) (hts _ q46) (fun _ h9 => h9) rfl hin rfl (by decide +kernel) rfl rfl (Nat.le_of_ble_eq_true rfl) dX0_init_33 (fun H locs hP hD hS => ?_)
  have hP : va_P (dC, dI) vwCl [(h0, .inr (0, [.int 0, .ref q1_, .ref q2_, .ref q3_, .ref q4_, .null, .int 0, .int 0, .int 0, .null, .null, .null, .int 0, .int 0, .int 0, .null, .null, .null, .int 0, .int 0, .null])), (q1_, .inl (c1_, 40, .inl (fun _ => 0))), (q2_, .inl (c2_, 40, .inl (fun _ => 0))), (q3_, .inl (c3_, 40, .inl (fun _ => 0))), (q4_, .inl (c4_, 40, .inl (fun _ => 0)))] H := hP
  have hD : va_D A [(h0, .inr (0, [.int 0, .ref q1_, .ref q2_, .ref q3_, .ref q4_, .null, .int 0, .int 0, .int 0, .null, .null, .null, .int 0, .int 0, .int 0, .null, .null, .null, .int 0, .int 0, .null])), (q1_, .inl (c1_, 40, .inl (fun _ => 0))), (q2_, .inl (c2_, 40, .inl (fun _ => 0))), (q3_, .inl (c3_, 40, .inl (fun _ => 0))), (q4_, .inl (c4_, 40, .inl (fun _ => 0)))] := hD
  refine lv_aload_n hx hb dX0_init_36 rfl (lv_at hl 0 rfl) ?_
  refine lv_bipush (v := 6) hx hb dX0_init_37 (by decide) ?_
  refine va_newa (atype := .int) (a0 := (6, .inl (fun _ => 0))) (ty := .int) (N' := 6) hx hb (hts _ q107) rfl hK hP hD hS hA (fun cA => rfl) (by decide) (by decide) (by decide) (Nat.le_of_ble_eq_true rfl) (Nat.le_of_ble_eq_true rfl) dX0_init_39 (fun q5_ c5_ H hK hP hD hS => ?_)
  have hP : va_P (dC, dI) vwCl [(h0, .inr (0, [.int 0, .ref q1_, .ref q2_, .ref q3_, .ref q4_, .null, .int 0, .int 0, .int 0, .null, .null, .null, .int 0, .int 0, .int 0, .null, .null, .null, .int 0, .int 0, .null])), (q1_, .inl (c1_, 40, .inl (fun _ => 0))), (q2_, .inl (c2_, 40, .inl (fun _ => 0))), (q3_, .inl (c3_, 40, .inl (fun _ => 0))), (q4_, .inl (c4_, 40, .inl (fun _ => 0))), (q5_, .inl (c5_, 6, .inl (fun _ => 0)))] H := hP
  have hD : va_D A [(h0, .inr (0, [.int 0, .ref q1_, .ref q2_, .ref q3_, .ref q4_, .null, .int 0, .int 0, .int 0, .null, .null, .null, .int 0, .int 0, .int 0, .null, .null, .null, .int 0, .int 0, .null])), (q1_, .inl (c1_, 40, .inl (fun _ => 0))), (q2_, .inl (c2_, 40, .inl (fun _ => 0))), (q3_, .inl (c3_, 40, .inl (fun _ => 0))), (q4_, .inl (c4_, 40, .inl (fun _ => 0))), (q5_, .inl (c5_, 6, .inl (fun _ => 0)))] := hD
  have hK : va_K (dC, dI) vwCl [(c1_, .byte), (c2_, .int), (c3_, .byte), (c4_, .byte), (c5_, .int)] s := hK
  refine W.widen (k := 5) (n := 166) (Nat.le_of_ble_eq_true rfl) (Nat.le_of_ble_eq_true rfl) ?_
  refine va_putF (D := (dC, dI)) (ci := 0) (v := .ref q5_) (ty := .array .int) (C := RX0) (T := TX0) (N := 21) hx hb hts in_X0 tyX0 tyX0_ok nmX0 hown hK hP hD hS 0 rfl rfl 5 (by decide) (hts _ q47) (fun _ h9 => h9) rfl hin rfl (by decide +kernel) rfl rfl (Nat.le_of_ble_eq_true rfl) dX0_init_41 (fun H locs hP hD hS => ?_)
  have hP : va_P (dC, dI) vwCl [(h0, .inr (0, [.int 0, .ref q1_, .ref q2_, .ref q3_, .ref q4_, .ref q5_, .int 0, .int 0, .int 0, .null, .null, .null, .int 0, .int 0, .int 0, .null, .null, .null, .int 0, .int 0, .null])), (q1_, .inl (c1_, 40, .inl (fun _ => 0))), (q2_, .inl (c2_, 40, .inl (fun _ => 0))), (q3_, .inl (c3_, 40, .inl (fun _ => 0))), (q4_, .inl (c4_, 40, .inl (fun _ => 0))), (q5_, .inl (c5_, 6, .inl (fun _ => 0)))] H := hP
  have hD : va_D A [(h0, .inr (0, [.int 0, .ref q1_, .ref q2_, .ref q3_, .ref q4_, .ref q5_, .int 0, .int 0, .int 0, .null, .null, .null, .int 0, .int 0, .int 0, .null, .null, .null, .int 0, .int 0, .null])), (q1_, .inl (c1_, 40, .inl (fun _ => 0))), (q2_, .inl (c2_, 40, .inl (fun _ => 0))), (q3_, .inl (c3_, 40, .inl (fun _ => 0))), (q4_, .inl (c4_, 40, .inl (fun _ => 0))), (q5_, .inl (c5_, 6, .inl (fun _ => 0)))] := hD
  refine lv_aload_n hx hb dX0_init_44 rfl (lv_at hl 0 rfl) ?_
  refine lv_sipush (v := 560) hx hb dX0_init_45 (by decide) ?_
  refine va_newa (atype := .byte) (a0 := (560, .inl (fun _ => 0))) (ty := .byte) (N' := 560) hx hb (hts _ q106) rfl hK hP hD hS hA (fun cA => rfl) (by decide) (by decide) (by decide) (Nat.le_of_ble_eq_true rfl) (Nat.le_of_ble_eq_true rfl) dX0_init_48 (fun q6_ c6_ H hK hP hD hS => ?_)
  have hP : va_P (dC, dI) vwCl [(h0, .inr (0, [.int 0, .ref q1_, .ref q2_, .ref q3_, .ref q4_, .ref q5_, .int 0, .int 0, .int 0, .null, .null, .null, .int 0, .int 0, .int 0, .null, .null, .null, .int 0, .int 0, .null])), (q1_, .inl (c1_, 40, .inl (fun _ => 0))), (q2_, .inl (c2_, 40, .inl (fun _ => 0))), (q3_, .inl (c3_, 40, .inl (fun _ => 0))), (q4_, .inl (c4_, 40, .inl (fun _ => 0))), (q5_, .inl (c5_, 6, .inl (fun _ => 0))), (q6_, .inl (c6_, 560, .inl (fun _ => 0)))] H := hP
  have hD : va_D A [(h0, .inr (0, [.int 0, .ref q1_, .ref q2_, .ref q3_, .ref q4_, .ref q5_, .int 0, .int 0, .int 0, .null, .null, .null, .int 0, .int 0, .int 0, .null, .null, .null, .int 0, .int 0, .null])), (q1_, .inl (c1_, 40, .inl (fun _ => 0))), (q2_, .inl (c2_, 40, .inl (fun _ => 0))), (q3_, .inl (c3_, 40, .inl (fun _ => 0))), (q4_, .inl (c4_, 40, .inl (fun _ => 0))), (q5_, .inl (c5_, 6, .inl (fun _ => 0))), (q6_, .inl (c6_, 560, .inl (fun _ => 0)))] := hD
  have hK : va_K (dC, dI) vwCl [(c1_, .byte), (c2_, .int), (c3_, .byte), (c4_, .byte), (c5_, .int), (c6_, .byte)] s := hK
  refine W.widen (k := 6) (n := 726) (Nat.le_of_ble_eq_true rfl) (Nat.le_of_ble_eq_true rfl) ?_
  refine va_putF (D := (dC, dI)) (ci := 0) (v := .ref q6_) (ty := .array .byte) (C := RX0) (T := TX0) (N := 21) hx hb hts in_X0 tyX0 tyX0_ok nmX0 hown hK hP hD hS 0 rfl rfl 9 (by decide) (hts _ q51) (fun _ h9 => h9) rfl hin rfl (by decide +kernel) rfl rfl (Nat.le_of_ble_eq_true rfl) dX0_init_50 (fun H locs hP hD hS => ?_)
  have hP : va_P (dC, dI) vwCl [(h0, .inr (0, [.int 0, .ref q1_, .ref q2_, .ref q3_, .ref q4_, .ref q5_, .int 0, .int 0, .int 0, .ref q6_, .null, .null, .int 0, .int 0, .int 0, .null, .null, .null, .int 0, .int 0, .null])), (q1_, .inl (c1_, 40, .inl (fun _ => 0))), (q2_, .inl (c2_, 40, .inl (fun _ => 0))), (q3_, .inl (c3_, 40, .inl (fun _ => 0))), (q4_, .inl (c4_, 40, .inl (fun _ => 0))), (q5_, .inl (c5_, 6, .inl (fun _ => 0))), (q6_, .inl (c6_, 560, .inl (fun _ => 0)))] H := hP
  have hD : va_D A [(h0, .inr (0, [.int 0, .ref q1_, .ref q2_, .ref q3_, .ref q4_, .ref q5_, .int 0, .int 0, .int 0, .ref q6_, .null, .null, .int 0, .int 0, .int 0, .null, .null, .null, .int 0, .int 0, .null])), (q1_, .inl (c1_, 40, .inl (fun _ => 0))), (q2_, .inl (c2_, 40, .inl (fun _ => 0))), (q3_, .inl (c3_, 40, .inl (fun _ => 0))), (q4_, .inl (c4_, 40, .inl (fun _ => 0))), (q5_, .inl (c5_, 6, .inl (fun _ => 0))), (q6_, .inl (c6_, 560, .inl (fun _ => 0)))] := hD
  refine lv_aload_n hx hb dX0_init_53 rfl (lv_at hl 0 rfl) ?_
  refine lv_sipush (v := 560) hx hb dX0_init_54 (by decide) ?_
  refine va_newa (atype := .int) (a0 := (560, .inl (fun _ => 0))) (ty := .int) (N' := 560) hx hb (hts _ q107) rfl hK hP hD hS hA (fun cA => rfl) (by decide) (by decide) (by decide) (Nat.le_of_ble_eq_true rfl) (Nat.le_of_ble_eq_true rfl) dX0_init_57 (fun q7_ c7_ H hK hP hD hS => ?_)
  have hP : va_P (dC, dI) vwCl [(h0, .inr (0, [.int 0, .ref q1_, .ref q2_, .ref q3_, .ref q4_, .ref q5_, .int 0, .int 0, .int 0, .ref q6_, .null, .null, .int 0, .int 0, .int 0, .null, .null, .null, .int 0, .int 0, .null])), (q1_, .inl (c1_, 40, .inl (fun _ => 0))), (q2_, .inl (c2_, 40, .inl (fun _ => 0))), (q3_, .inl (c3_, 40, .inl (fun _ => 0))), (q4_, .inl (c4_, 40, .inl (fun _ => 0))), (q5_, .inl (c5_, 6, .inl (fun _ => 0))), (q6_, .inl (c6_, 560, .inl (fun _ => 0))), (q7_, .inl (c7_, 560, .inl (fun _ => 0)))] H := hP
  have hD : va_D A [(h0, .inr (0, [.int 0, .ref q1_, .ref q2_, .ref q3_, .ref q4_, .ref q5_, .int 0, .int 0, .int 0, .ref q6_, .null, .null, .int 0, .int 0, .int 0, .null, .null, .null, .int 0, .int 0, .null])), (q1_, .inl (c1_, 40, .inl (fun _ => 0))), (q2_, .inl (c2_, 40, .inl (fun _ => 0))), (q3_, .inl (c3_, 40, .inl (fun _ => 0))), (q4_, .inl (c4_, 40, .inl (fun _ => 0))), (q5_, .inl (c5_, 6, .inl (fun _ => 0))), (q6_, .inl (c6_, 560, .inl (fun _ => 0))), (q7_, .inl (c7_, 560, .inl (fun _ => 0)))] := hD
  have hK : va_K (dC, dI) vwCl [(c1_, .byte), (c2_, .int), (c3_, .byte), (c4_, .byte), (c5_, .int), (c6_, .byte), (c7_, .int)] s := hK
  refine W.widen (k := 7) (n := 1286) (Nat.le_of_ble_eq_true rfl) (Nat.le_of_ble_eq_true rfl) ?_
  refine va_putF (D := (dC, dI)) (ci := 0) (v := .ref q7_) (ty := .array .int) (C := RX0) (T := TX0) (N := 21) hx hb hts in_X0 tyX0 tyX0_ok nmX0 hown hK hP hD hS 0 rfl rfl 10 (by decide) (hts _ q52) (fun _ h9 => h9) rfl hin rfl (by decide +kernel) rfl rfl (Nat.le_of_ble_eq_true rfl) dX0_init_59 (fun H locs hP hD hS => ?_)
  have hP : va_P (dC, dI) vwCl [(h0, .inr (0, [.int 0, .ref q1_, .ref q2_, .ref q3_, .ref q4_, .ref q5_, .int 0, .int 0, .int 0, .ref q6_, .ref q7_, .null, .int 0, .int 0, .int 0, .null, .null, .null, .int 0, .int 0, .null])), (q1_, .inl (c1_, 40, .inl (fun _ => 0))), (q2_, .inl (c2_, 40, .inl (fun _ => 0))), (q3_, .inl (c3_, 40, .inl (fun _ => 0))), (q4_, .inl (c4_, 40, .inl (fun _ => 0))), (q5_, .inl (c5_, 6, .inl (fun _ => 0))), (q6_, .inl (c6_, 560, .inl (fun _ => 0))), (q7_, .inl (c7_, 560, .inl (fun _ => 0)))] H := hP
  have hD : va_D A [(h0, .inr (0, [.int 0, .ref q1_, .ref q2_, .ref q3_, .ref q4_, .ref q5_, .int 0, .int 0, .int 0, .ref q6_, .ref q7_, .null, .int 0, .int 0, .int 0, .null, .null, .null, .int 0, .int 0, .null])), (q1_, .inl (c1_, 40, .inl (fun _ => 0))), (q2_, .inl (c2_, 40, .inl (fun _ => 0))), (q3_, .inl (c3_, 40, .inl (fun _ => 0))), (q4_, .inl (c4_, 40, .inl (fun _ => 0))), (q5_, .inl (c5_, 6, .inl (fun _ => 0))), (q6_, .inl (c6_, 560, .inl (fun _ => 0))), (q7_, .inl (c7_, 560, .inl (fun _ => 0)))] := hD
  refine lv_aload_n hx hb dX0_init_62 rfl (lv_at hl 0 rfl) ?_
  refine lv_bipush (v := 16) hx hb dX0_init_63 (by decide) ?_
  refine va_newa (atype := .byte) (a0 := (16, .inl (fun _ => 0))) (ty := .byte) (N' := 16) hx hb (hts _ q106) rfl hK hP hD hS hA (fun cA => rfl) (by decide) (by decide) (by decide) (Nat.le_of_ble_eq_true rfl) (Nat.le_of_ble_eq_true rfl) dX0_init_65 (fun q8_ c8_ H hK hP hD hS => ?_)
  have hP : va_P (dC, dI) vwCl [(h0, .inr (0, [.int 0, .ref q1_, .ref q2_, .ref q3_, .ref q4_, .ref q5_, .int 0, .int 0, .int 0, .ref q6_, .ref q7_, .null, .int 0, .int 0, .int 0, .null, .null, .null, .int 0, .int 0, .null])), (q1_, .inl (c1_, 40, .inl (fun _ => 0))), (q2_, .inl (c2_, 40, .inl (fun _ => 0))), (q3_, .inl (c3_, 40, .inl (fun _ => 0))), (q4_, .inl (c4_, 40, .inl (fun _ => 0))), (q5_, .inl (c5_, 6, .inl (fun _ => 0))), (q6_, .inl (c6_, 560, .inl (fun _ => 0))), (q7_, .inl (c7_, 560, .inl (fun _ => 0))), (q8_, .inl (c8_, 16, .inl (fun _ => 0)))] H := hP
  have hD : va_D A [(h0, .inr (0, [.int 0, .ref q1_, .ref q2_, .ref q3_, .ref q4_, .ref q5_, .int 0, .int 0, .int 0, .ref q6_, .ref q7_, .null, .int 0, .int 0, .int 0, .null, .null, .null, .int 0, .int 0, .null])), (q1_, .inl (c1_, 40, .inl (fun _ => 0))), (q2_, .inl (c2_, 40, .inl (fun _ => 0))), (q3_, .inl (c3_, 40, .inl (fun _ => 0))), (q4_, .inl (c4_, 40, .inl (fun _ => 0))), (q5_, .inl (c5_, 6, .inl (fun _ => 0))), (q6_, .inl (c6_, 560, .inl (fun _ => 0))), (q7_, .inl (c7_, 560, .inl (fun _ => 0))), (q8_, .inl (c8_, 16, .inl (fun _ => 0)))] := hD
  have hK : va_K (dC, dI) vwCl [(c1_, .byte), (c2_, .int), (c3_, .byte), (c4_, .byte), (c5_, .int), (c6_, .byte), (c7_, .int), (c8_, .byte)] s := hK
  refine W.widen (k := 8) (n := 1302) (Nat.le_of_ble_eq_true rfl) (Nat.le_of_ble_eq_true rfl) ?_
  refine va_putF (D := (dC, dI)) (ci := 0) (v := .ref q8_) (ty := .array .byte) (C := RX0) (T := TX0) (N := 21) hx hb hts in_X0 tyX0 tyX0_ok nmX0 hown hK hP hD hS 0 rfl rfl 11 (by decide) (hts _ q53) (fun _ h9 => h9) rfl hin rfl (by decide +kernel) rfl rfl (Nat.le_of_ble_eq_true rfl) dX0_init_67 (fun H locs hP hD hS => ?_)
  have hP : va_P (dC, dI) vwCl [(h0, .inr (0, [.int 0, .ref q1_, .ref q2_, .ref q3_, .ref q4_, .ref q5_, .int 0, .int 0, .int 0, .ref q6_, .ref q7_, .ref q8_, .int 0, .int 0, .int 0, .null, .null, .null, .int 0, .int 0, .null])), (q1_, .inl (c1_, 40, .inl (fun _ => 0))), (q2_, .inl (c2_, 40, .inl (fun _ => 0))), (q3_, .inl (c3_, 40, .inl (fun _ => 0))), (q4_, .inl (c4_, 40, .inl (fun _ => 0))), (q5_, .inl (c5_, 6, .inl (fun _ => 0))), (q6_, .inl (c6_, 560, .inl (fun _ => 0))), (q7_, .inl (c7_, 560, .inl (fun _ => 0))), (q8_, .inl (c8_, 16, .inl (fun _ => 0)))] H := hP
  have hD : va_D A [(h0, .inr (0, [.int 0, .ref q1_, .ref q2_, .ref q3_, .ref q4_, .ref q5_, .int 0, .int 0, .int 0, .ref q6_, .ref q7_, .ref q8_, .int 0, .int 0, .int 0, .null, .null, .null, .int 0, .int 0, .null])), (q1_, .inl (c1_, 40, .inl (fun _ => 0))), (q2_, .inl (c2_, 40, .inl (fun _ => 0))), (q3_, .inl (c3_, 40, .inl (fun _ => 0))), (q4_, .inl (c4_, 40, .inl (fun _ => 0))), (q5_, .inl (c5_, 6, .inl (fun _ => 0))), (q6_, .inl (c6_, 560, .inl (fun _ => 0))), (q7_, .inl (c7_, 560, .inl (fun _ => 0))), (q8_, .inl (c8_, 16, .inl (fun _ => 0)))] := hD
  refine lv_aload_n hx hb dX0_init_70 rfl (lv_at hl 0 rfl) ?_
  refine lv_iconst (v := 4) hx hb dX0_init_71 (by decide) ?_
  refine va_newa (atype := .byte) (a0 := (4, .inl (fun _ => 0))) (ty := .byte) (N' := 4) hx hb (hts _ q106) rfl hK hP hD hS hA (fun cA => rfl) (by decide) (by decide) (by decide) (Nat.le_of_ble_eq_true rfl) (Nat.le_of_ble_eq_true rfl) dX0_init_72 (fun q9_ c9_ H hK hP hD hS => ?_)
  have hP : va_P (dC, dI) vwCl [(h0, .inr (0, [.int 0, .ref q1_, .ref q2_, .ref q3_, .ref q4_, .ref q5_, .int 0, .int 0, .int 0, .ref q6_, .ref q7_, .ref q8_, .int 0, .int 0, .int 0, .null, .null, .null, .int 0, .int 0, .null])), (q1_, .inl (c1_, 40, .inl (fun _ => 0))), (q2_, .inl (c2_, 40, .inl (fun _ => 0))), (q3_, .inl (c3_, 40, .inl (fun _ => 0))), (q4_, .inl (c4_, 40, .inl (fun _ => 0))), (q5_, .inl (c5_, 6, .inl (fun _ => 0))), (q6_, .inl (c6_, 560, .inl (fun _ => 0))), (q7_, .inl (c7_, 560, .inl (fun _ => 0))), (q8_, .inl (c8_, 16, .inl (fun _ => 0))), (q9_, .inl (c9_, 4, .inl (fun _ => 0)))] H := hP
  have hD : va_D A [(h0, .inr (0, [.int 0, .ref q1_, .ref q2_, .ref q3_, .ref q4_, .ref q5_, .int 0, .int 0, .int 0, .ref q6_, .ref q7_, .ref q8_, .int 0, .int 0, .int 0, .null, .null, .null, .int 0, .int 0, .null])), (q1_, .inl (c1_, 40, .inl (fun _ => 0))), (q2_, .inl (c2_, 40, .inl (fun _ => 0))), (q3_, .inl (c3_, 40, .inl (fun _ => 0))), (q4_, .inl (c4_, 40, .inl (fun _ => 0))), (q5_, .inl (c5_, 6, .inl (fun _ => 0))), (q6_, .inl (c6_, 560, .inl (fun _ => 0))), (q7_, .inl (c7_, 560, .inl (fun _ => 0))), (q8_, .inl (c8_, 16, .inl (fun _ => 0))), (q9_, .inl (c9_, 4, .inl (fun _ => 0)))] := hD
  have hK : va_K (dC, dI) vwCl [(c1_, .byte), (c2_, .int), (c3_, .byte), (c4_, .byte), (c5_, .int), (c6_, .byte), (c7_, .int), (c8_, .byte), (c9_, .byte)] s := hK
  refine W.widen (k := 9) (n := 1306) (Nat.le_of_ble_eq_true rfl) (Nat.le_of_ble_eq_true rfl) ?_
  refine va_putF (D := (dC, dI)) (ci := 0) (v := .ref q9_) (ty := .array .byte) (C := RX0) (T := TX0) (N := 21) hx hb hts in_X0 tyX0 tyX0_ok nmX0 hown hK hP hD hS 0 rfl rfl 15 (by decide) (hts _ q57) (fun _ h9 => h9) rfl hin rfl (by decide +kernel) rfl rfl (Nat.le_of_ble_eq_true rfl) dX0_init_74 (fun H locs hP hD hS => ?_)
  have hP : va_P (dC, dI) vwCl [(h0, .inr (0, [.int 0, .ref q1_, .ref q2_, .ref q3_, .ref q4_, .ref q5_, .int 0, .int 0, .int 0, .ref q6_, .ref q7_, .ref q8_, .int 0, .int 0, .int 0, .ref q9_, .null, .null, .int 0, .int 0, .null])), (q1_, .inl (c1_, 40, .inl (fun _ => 0))), (q2_, .inl (c2_, 40, .inl (fun _ => 0))), (q3_, .inl (c3_, 40, .inl (fun _ => 0))), (q4_, .inl (c4_, 40, .inl (fun _ => 0))), (q5_, .inl (c5_, 6, .inl (fun _ => 0))), (q6_, .inl (c6_, 560, .inl (fun _ => 0))), (q7_, .inl (c7_, 560, .inl (fun _ => 0))), (q8_, .inl (c8_, 16, .inl (fun _ => 0))), (q9_, .inl (c9_, 4, .inl (fun _ => 0)))] H := hP
  have hD : va_D A [(h0, .inr (0, [.int 0, .ref q1_, .ref q2_, .ref q3_, .ref q4_, .ref q5_, .int 0, .int 0, .int 0, .ref q6_, .ref q7_, .ref q8_, .int 0, .int 0, .int 0, .ref q9_, .null, .null, .int 0, .int 0, .null])), (q1_, .inl (c1_, 40, .inl (fun _ => 0))), (q2_, .inl (c2_, 40, .inl (fun _ => 0))), (q3_, .inl (c3_, 40, .inl (fun _ => 0))), (q4_, .inl (c4_, 40, .inl (fun _ => 0))), (q5_, .inl (c5_, 6, .inl (fun _ => 0))), (q6_, .inl (c6_, 560, .inl (fun _ => 0))), (q7_, .inl (c7_, 560, .inl (fun _ => 0))), (q8_, .inl (c8_, 16, .inl (fun _ => 0))), (q9_, .inl (c9_, 4, .inl (fun _ => 0)))] := hD
  refine lv_aload_n hx hb dX0_init_77 rfl (lv_at hl 0 rfl) ?_
  refine lv_iconst (v := 4) hx hb dX0_init_78 (by decide) ?_
  refine va_newa (atype := .short) (a0 := (4, .inl (fun _ => 0))) (ty := .short) (N' := 4) hx hb (hts _ q108) rfl hK hP hD hS hA (fun cA => rfl) (by decide) (by decide) (by decide) (Nat.le_of_ble_eq_true rfl) (Nat.le_of_ble_eq_true rfl) dX0_init_79 (fun q10_ c10_ H hK hP hD hS => ?_)
  have hP : va_P (dC, dI) vwCl [(h0, .inr (0, [.int 0, .ref q1_, .ref q2_, .ref q3_, .ref q4_, .ref q5_, .int 0, .int 0, .int 0, .ref q6_, .ref q7_, .ref q8_, .int 0, .int 0, .int 0, .ref q9_, .null, .null, .int 0, .int 0, .null])), (q1_, .inl (c1_, 40, .inl (fun _ => 0))), (q2_, .inl (c2_, 40, .inl (fun _ => 0))), (q3_, .inl (c3_, 40, .inl (fun _ => 0))), (q4_, .inl (c4_, 40, .inl (fun _ => 0))), (q5_, .inl (c5_, 6, .inl (fun _ => 0))), (q6_, .inl (c6_, 560, .inl (fun _ => 0))), (q7_, .inl (c7_, 560, .inl (fun _ => 0))), (q8_, .inl (c8_, 16, .inl (fun _ => 0))), (q9_, .inl (c9_, 4, .inl (fun _ => 0))), (q10_, .inl (c10_, 4, .inl (fun _ => 0)))] H := hP
  have hD : va_D A [(h0, .inr (0, [.int 0, .ref q1_, .ref q2_, .ref q3_, .ref q4_, .ref q5_, .int 0, .int 0, .int 0, .ref q6_, .ref q7_, .ref q8_, .int 0, .int 0, .int 0, .ref q9_, .null, .null, .int 0, .int 0, .null])), (q1_, .inl (c1_, 40, .inl (fun _ => 0))), (q2_, .inl (c2_, 40, .inl (fun _ => 0))), (q3_, .inl (c3_, 40, .inl (fun _ => 0))), (q4_, .inl (c4_, 40, .inl (fun _ => 0))), (q5_, .inl (c5_, 6, .inl (fun _ => 0))), (q6_, .inl (c6_, 560, .inl (fun _ => 0))), (q7_, .inl (c7_, 560, .inl (fun _ => 0))), (q8_, .inl (c8_, 16, .inl (fun _ => 0))), (q9_, .inl (c9_, 4, .inl (fun _ => 0))), (q10_, .inl (c10_, 4, .inl (fun _ => 0)))] := hD
  have hK : va_K (dC, dI) vwCl [(c1_, .byte), (c2_, .int), (c3_, .byte), (c4_, .byte), (c5_, .int), (c6_, .byte), (c7_, .int), (c8_, .byte), (c9_, .byte), (c10_, .short)] s := hK
  refine W.widen (k := 10) (n := 1310) (Nat.le_of_ble_eq_true rfl) (Nat.le_of_ble_eq_true rfl) ?_
  refine va_putF (D := (dC, dI)) (ci := 0) (v := .ref q10_) (ty := .array .short) (C := RX0) (T := TX0) (N := 21) hx hb hts in_X0 tyX0 tyX0_ok nmX0 hown hK hP hD hS 0 rfl rfl 16 (by decide) (hts _ q58) (fun _ h9 => h9) rfl hin rfl (by decide +kernel) rfl rfl (Nat.le_of_ble_eq_true rfl) dX0_init_81 (fun H locs hP hD hS => ?_)
  have hP : va_P (dC, dI) vwCl [(h0, .inr (0, [.int 0, .ref q1_, .ref q2_, .ref q3_, .ref q4_, .ref q5_, .int 0, .int 0, .int 0, .ref q6_, .ref q7_, .ref q8_, .int 0, .int 0, .int 0, .ref q9_, .ref q10_, .null, .int 0, .int 0, .null])), (q1_, .inl (c1_, 40, .inl (fun _ => 0))), (q2_, .inl (c2_, 40, .inl (fun _ => 0))), (q3_, .inl (c3_, 40, .inl (fun _ => 0))), (q4_, .inl (c4_, 40, .inl (fun _ => 0))), (q5_, .inl (c5_, 6, .inl (fun _ => 0))), (q6_, .inl (c6_, 560, .inl (fun _ => 0))), (q7_, .inl (c7_, 560, .inl (fun _ => 0))), (q8_, .inl (c8_, 16, .inl (fun _ => 0))), (q9_, .inl (c9_, 4, .inl (fun _ => 0))), (q10_, .inl (c10_, 4, .inl (fun _ => 0)))] H := hP
  have hD : va_D A [(h0, .inr (0, [.int 0, .ref q1_, .ref q2_, .ref q3_, .ref q4_, .ref q5_, .int 0, .int 0, .int 0, .ref q6_, .ref q7_, .ref q8_, .int 0, .int 0, .int 0, .ref q9_, .ref q10_, .null, .int 0, .int 0, .null])), (q1_, .inl (c1_, 40, .inl (fun _ => 0))), (q2_, .inl (c2_, 40, .inl (fun _ => 0))), (q3_, .inl (c3_, 40, .inl (fun _ => 0))), (q4_, .inl (c4_, 40, .inl (fun _ => 0))), (q5_, .inl (c5_, 6, .inl (fun _ => 0))), (q6_, .inl (c6_, 560, .inl (fun _ => 0))), (q7_, .inl (c7_, 560, .inl (fun _ => 0))), (q8_, .inl (c8_, 16, .inl (fun _ => 0))), (q9_, .inl (c9_, 4, .inl (fun _ => 0))), (q10_, .inl (c10_, 4, .inl (fun _ => 0)))] := hD
  refine lv_aload_n hx hb dX0_init_84 rfl (lv_at hl 0 rfl) ?_
  refine lv_bipush (v := 16) hx hb dX0_init_85 (by decide) ?_
  refine va_newa (atype := .int) (a0 := (16, .inl (fun _ => 0))) (ty := .int) (N' := 16) hx hb (hts _ q107) rfl hK hP hD hS hA (fun cA => rfl) (by decide) (by decide) (by decide) (Nat.le_of_ble_eq_true rfl) (Nat.le_of_ble_eq_true rfl) dX0_init_87 (fun q11_ c11_ H hK hP hD hS => ?_)
  have hP : va_P (dC, dI) vwCl [(h0, .inr (0, [.int 0, .ref q1_, .ref q2_, .ref q3_, .ref q4_, .ref q5_, .int 0, .int 0, .int 0, .ref q6_, .ref q7_, .ref q8_, .int 0, .int 0, .int 0, .ref q9_, .ref q10_, .null, .int 0, .int 0, .null])), (q1_, .inl (c1_, 40, .inl (fun _ => 0))), (q2_, .inl (c2_, 40, .inl (fun _ => 0))), (q3_, .inl (c3_, 40, .inl (fun _ => 0))), (q4_, .inl (c4_, 40, .inl (fun _ => 0))), (q5_, .inl (c5_, 6, .inl (fun _ => 0))), (q6_, .inl (c6_, 560, .inl (fun _ => 0))), (q7_, .inl (c7_, 560, .inl (fun _ => 0))), (q8_, .inl (c8_, 16, .inl (fun _ => 0))), (q9_, .inl (c9_, 4, .inl (fun _ => 0))), (q10_, .inl (c10_, 4, .inl (fun _ => 0))), (q11_, .inl (c11_, 16, .inl (fun _ => 0)))] H := hP
  have hD : va_D A [(h0, .inr (0, [.int 0, .ref q1_, .ref q2_, .ref q3_, .ref q4_, .ref q5_, .int 0, .int 0, .int 0, .ref q6_, .ref q7_, .ref q8_, .int 0, .int 0, .int 0, .ref q9_, .ref q10_, .null, .int 0, .int 0, .null])), (q1_, .inl (c1_, 40, .inl (fun _ => 0))), (q2_, .inl (c2_, 40, .inl (fun _ => 0))), (q3_, .inl (c3_, 40, .inl (fun _ => 0))), (q4_, .inl (c4_, 40, .inl (fun _ => 0))), (q5_, .inl (c5_, 6, .inl (fun _ => 0))), (q6_, .inl (c6_, 560, .inl (fun _ => 0))), (q7_, .inl (c7_, 560, .inl (fun _ => 0))), (q8_, .inl (c8_, 16, .inl (fun _ => 0))), (q9_, .inl (c9_, 4, .inl (fun _ => 0))), (q10_, .inl (c10_, 4, .inl (fun _ => 0))), (q11_, .inl (c11_, 16, .inl (fun _ => 0)))] := hD
  have hK : va_K (dC, dI) vwCl [(c1_, .byte), (c2_, .int), (c3_, .byte), (c4_, .byte), (c5_, .int), (c6_, .byte), (c7_, .int), (c8_, .byte), (c9_, .byte), (c10_, .short), (c11_, .int)] s := hK
  refine W.widen (k := 11) (n := 1326) (Nat.le_of_ble_eq_true rfl) (Nat.le_of_ble_eq_true rfl) ?_
  refine va_putF (D := (dC, dI)) (ci := 0) (v := .ref q11_) (ty := .array .int) (C := RX0) (T := TX0) (N := 21) hx hb hts in_X0 tyX0 tyX0_ok nmX0 hown hK hP hD hS 0 rfl rfl 17 (by decide) (hts _ q59) (fun _ h9 => h9) rfl hin rfl (by decide +kernel) rfl rfl (Nat.le_of_ble_eq_true rfl) dX0_init_89 (fun H locs hP hD hS => ?_)
  have hP : va_P (dC, dI) vwCl [(h0, .inr (0, [.int 0, .ref q1_, .ref q2_, .ref q3_, .ref q4_, .ref q5_, .int 0, .int 0, .int 0, .ref q6_, .ref q7_, .ref q8_, .int 0, .int 0, .int 0, .ref q9_, .ref q10_, .ref q11_, .int 0, .int 0, .null])), (q1_, .inl (c1_, 40, .inl (fun _ => 0))), (q2_, .inl (c2_, 40, .inl (fun _ => 0))), (q3_, .inl (c3_, 40, .inl (fun _ => 0))), (q4_, .inl (c4_, 40, .inl (fun _ => 0))), (q5_, .inl (c5_, 6, .inl (fun _ => 0))), (q6_, .inl (c6_, 560, .inl (fun _ => 0))), (q7_, .inl (c7_, 560, .inl (fun _ => 0))), (q8_, .inl (c8_, 16, .inl (fun _ => 0))), (q9_, .inl (c9_, 4, .inl (fun _ => 0))), (q10_, .inl (c10_, 4, .inl (fun _ => 0))), (q11_, .inl (c11_, 16, .inl (fun _ => 0)))] H := hP
  have hD : va_D A [(h0, .inr (0, [.int 0, .ref q1_, .ref q2_, .ref q3_, .ref q4_, .ref q5_, .int 0, .int 0, .int 0, .ref q6_, .ref q7_, .ref q8_, .int 0, .int 0, .int 0, .ref q9_, .ref q10_, .ref q11_, .int 0, .int 0, .null])), (q1_, .inl (c1_, 40, .inl (fun _ => 0))), (q2_, .inl (c2_, 40, .inl (fun _ => 0))), (q3_, .inl (c3_, 40, .inl (fun _ => 0))), (q4_, .inl (c4_, 40, .inl (fun _ => 0))), (q5_, .inl (c5_, 6, .inl (fun _ => 0))), (q6_, .inl (c6_, 560, .inl (fun _ => 0))), (q7_, .inl (c7_, 560, .inl (fun _ => 0))), (q8_, .inl (c8_, 16, .inl (fun _ => 0))), (q9_, .inl (c9_, 4, .inl (fun _ => 0))), (q10_, .inl (c10_, 4, .inl (fun _ => 0))), (q11_, .inl (c11_, 16, .inl (fun _ => 0)))] := hD
  refine lv_aload_n hx hb dX0_init_92 rfl (lv_at hl 0 rfl) ?_
  refine lv_bipush (v := 64) hx hb dX0_init_93 (by decide) ?_
  refine va_newa (atype := .int) (a0 := (64, .inl (fun _ => 0))) (ty := .int) (N' := 64) hx hb (hts _ q107) rfl hK hP hD hS hA (fun cA => rfl) (by decide) (by decide) (by decide) (Nat.le_of_ble_eq_true rfl) (Nat.le_of_ble_eq_true rfl) dX0_init_95 (fun q12_ c12_ H hK hP hD hS => ?_)
  have hP : va_P (dC, dI) vwCl [(h0, .inr (0, [.int 0, .ref q1_, .ref q2_, .ref q3_, .ref q4_, .ref q5_, .int 0, .int 0, .int 0, .ref q6_, .ref q7_, .ref q8_, .int 0, .int 0, .int 0, .ref q9_, .ref q10_, .ref q11_, .int 0, .int 0, .null])), (q1_, .inl (c1_, 40, .inl (fun _ => 0))), (q2_, .inl (c2_, 40, .inl (fun _ => 0))), (q3_, .inl (c3_, 40, .inl (fun _ => 0))), (q4_, .inl (c4_, 40, .inl (fun _ => 0))), (q5_, .inl (c5_, 6, .inl (fun _ => 0))), (q6_, .inl (c6_, 560, .inl (fun _ => 0))), (q7_, .inl (c7_, 560, .inl (fun _ => 0))), (q8_, .inl (c8_, 16, .inl (fun _ => 0))), (q9_, .inl (c9_, 4, .inl (fun _ => 0))), (q10_, .inl (c10_, 4, .inl (fun _ => 0))), (q11_, .inl (c11_, 16, .inl (fun _ => 0))), (q12_, .inl (c12_, 64, .inl (fun _ => 0)))] H := hP
  have hD : va_D A [(h0, .inr (0, [.int 0, .ref q1_, .ref q2_, .ref q3_, .ref q4_, .ref q5_, .int 0, .int 0, .int 0, .ref q6_, .ref q7_, .ref q8_, .int 0, .int 0, .int 0, .ref q9_, .ref q10_, .ref q11_, .int 0, .int 0, .null])), (q1_, .inl (c1_, 40, .inl (fun _ => 0))), (q2_, .inl (c2_, 40, .inl (fun _ => 0))), (q3_, .inl (c3_, 40, .inl (fun _ => 0))), (q4_, .inl (c4_, 40, .inl (fun _ => 0))), (q5_, .inl (c5_, 6, .inl (fun _ => 0))), (q6_, .inl (c6_, 560, .inl (fun _ => 0))), (q7_, .inl (c7_, 560, .inl (fun _ => 0))), (q8_, .inl (c8_, 16, .inl (fun _ => 0))), (q9_, .inl (c9_, 4, .inl (fun _ => 0))), (q10_, .inl (c10_, 4, .inl (fun _ => 0))), (q11_, .inl (c11_, 16, .inl (fun _ => 0))), (q12_, .inl (c12_, 64, .inl (fun _ => 0)))] := hD
  have hK : va_K (dC, dI) vwCl [(c1_, .byte), (c2_, .int), (c3_, .byte), (c4_, .byte), (c5_, .int), (c6_, .byte), (c7_, .int), (c8_, .byte), (c9_, .byte), (c10_, .short), (c11_, .int), (c12_, .int)] s := hK
  refine W.widen (k := 12) (n := 1390) (Nat.le_of_ble_eq_true rfl) (Nat.le_of_ble_eq_true rfl) ?_
  refine va_putF (D := (dC, dI)) (ci := 0) (v := .ref q12_) (ty := .array .int) (C := RX0) (T := TX0) (N := 21) hx hb hts in_X0 tyX0 tyX0_ok nmX0 hown hK hP hD hS 0 rfl rfl 20 (by decide) (hts _ q62) (fun _ h9 => h9) rfl hin rfl (by decide +kernel) rfl rfl (Nat.le_of_ble_eq_true rfl) dX0_init_97 (fun H locs hP hD hS => ?_)
  have hP : va_P (dC, dI) vwCl [(h0, .inr (0, [.int 0, .ref q1_, .ref q2_, .ref q3_, .ref q4_, .ref q5_, .int 0, .int 0, .int 0, .ref q6_, .ref q7_, .ref q8_, .int 0, .int 0, .int 0, .ref q9_, .ref q10_, .ref q11_, .int 0, .int 0, .ref q12_])), (q1_, .inl (c1_, 40, .inl (fun _ => 0))), (q2_, .inl (c2_, 40, .inl (fun _ => 0))), (q3_, .inl (c3_, 40, .inl (fun _ => 0))), (q4_, .inl (c4_, 40, .inl (fun _ => 0))), (q5_, .inl (c5_, 6, .inl (fun _ => 0))), (q6_, .inl (c6_, 560, .inl (fun _ => 0))), (q7_, .inl (c7_, 560, .inl (fun _ => 0))), (q8_, .inl (c8_, 16, .inl (fun _ => 0))), (q9_, .inl (c9_, 4, .inl (fun _ => 0))), (q10_, .inl (c10_, 4, .inl (fun _ => 0))), (q11_, .inl (c11_, 16, .inl (fun _ => 0))), (q12_, .inl (c12_, 64, .inl (fun _ => 0)))] H := hP
  have hD : va_D A [(h0, .inr (0, [.int 0, .ref q1_, .ref q2_, .ref q3_, .ref q4_, .ref q5_, .int 0, .int 0, .int 0, .ref q6_, .ref q7_, .ref q8_, .int 0, .int 0, .int 0, .ref q9_, .ref q10_, .ref q11_, .int 0, .int 0, .ref q12_])), (q1_, .inl (c1_, 40, .inl (fun _ => 0))), (q2_, .inl (c2_, 40, .inl (fun _ => 0))), (q3_, .inl (c3_, 40, .inl (fun _ => 0))), (q4_, .inl (c4_, 40, .inl (fun _ => 0))), (q5_, .inl (c5_, 6, .inl (fun _ => 0))), (q6_, .inl (c6_, 560, .inl (fun _ => 0))), (q7_, .inl (c7_, 560, .inl (fun _ => 0))), (q8_, .inl (c8_, 16, .inl (fun _ => 0))), (q9_, .inl (c9_, 4, .inl (fun _ => 0))), (q10_, .inl (c10_, 4, .inl (fun _ => 0))), (q11_, .inl (c11_, 16, .inl (fun _ => 0))), (q12_, .inl (c12_, 64, .inl (fun _ => 0)))] := hD
  exact W.vret hx hb hr (fun t ht hW => ⟨⟨(fun k => match k with | 0 => h0 | 1 => q1_ | 2 => q2_ | 3 => q3_ | 4 => q4_ | 5 => q5_ | 9 => q6_ | 10 => q7_ | 11 => q8_ | 15 => q9_ | 16 => q10_ | 17 => q11_ | 20 => q12_ | _ => 0, fun k => match k with | 1 => c1_ | 2 => c2_ | 3 => c3_ | 4 => c4_ | 5 => c5_ | 9 => c6_ | 10 => c7_ | 11 => c8_ | 15 => c9_ | 16 => c10_ | 17 => c11_ | 20 => c12_ | _ => c1_), rfl, rfl, by rw [ht]; exact hP, va_K.moved hW.alike hK, hD⟩, hS.F ht⟩) hS.2.2 dX0_init_100
/-- the fields of an object that has just been made -/
def xbZ : List Value := [.int 0, .null, .null, .null, .null, .null, .null, .int 0, .null]
set_option maxHeartbeats 4000000 in
set_option maxRecDepth 100000 in
theorem xb_init (l : Launch) (dC : Nat → ClassId) (dI : Nat → Nat → Nat) (h0 sz : Nat) : Met l yX1_init (ws_ yX1_init cX1_init 1 none) { frames := 1, cells := 7, slots := 270, locals := 21 } (va_Pc [.ref h0] (fun U => U.heap.size = sz ∧ va_P (dC, dI) vwCl [(h0, .inr (1, xbZ))] U.heap ∧ va_K (dC, dI) vwCl [] U ∧ va_D (fun _ => True) [(h0, .inr (1, xbZ))]))
    (va_Qv (fun (u : (Nat → Nat) × (Nat → ClassId)) => u.1 0 = h0) (fun u t => va_P (dC, dI) vwCl (xbW u.1 u.2 zs) t.heap ∧ va_K (dC, dI) vwCl (xbT u.2) t ∧ va_D (va_A [(h0, .inr (1, xbZ))] sz) (xbW u.1 u.2 zs)) (va_A [(h0, .inr (1, xbZ))] sz)) 7 270 (va_A [(h0, .inr (1, xbZ))] sz) := by
  refine Met.ofW (cc := cX1_init) (maxL := 1) (ret := none) (by decide) rfl ?_
  intro p e s m args below meth c s₁ B hml hv
  obtain ⟨rfl, hsz, hP, hK, hD0⟩ := hv
  have hx := B.exec
  have hb := B.bytes
  have hr := B.returns
  have hts := atoms_spec (ws := ws_ yX1_init cX1_init 1 none) B.pre
  have hts : ∀ w ∈ lw_all, w.before _ s = true := fun w h => hts w (List.mem_cons_of_mem _ h)
  have hown : s.vm.findClass RX1 = some m.cls := findClass_of_methodNamed B.named
  have hlocks := B.notSynchronized
  have hin : meth.name = "<init>" := (name_of_methodNamed B.named B.method).1
  subst hsz
  have hD := hD0.self (sz := s.heap.size)
  generalize hAe : va_A [(h0, .inr (1, xbZ))] s.heap.size = A at hD ⊢
  have hA : ∀ q : Nat, s.heap.size ≤ q → A q := fun q h => by rw [← hAe]; exact Or.inr h
  have hS : va_S A s.heap s.heap [] := va_S.rf
  have hP : va_P (dC, dI) vwCl [(h0, .inr (1, [.int 0, .null, .null, .null, .null, .null, .null, .int 0, .null]))] s.heap := hP
  have hD : va_D A [(h0, .inr (1, [.int 0, .null, .null, .null, .null, .null, .null, .int 0, .null]))] := hD
  have hl := lv_entry ([.ref h0]) (n := 1) (Nat.le_of_ble_eq_true rfl)
  rw [lg_entry_eq]
  generalize (lg_sl ([.ref h0]) ++ List.replicate (1 - (lg_sl ([.ref h0])).length) Slot.unset).toArray = ls at hl ⊢
  have hl : lv_has ls 1 [(0, .ref h0)] := hl
  refine lv_aload_n hx hb dX1_init_0 rfl (lv_at hl 0 rfl) ?_
  refine W.objInit hx hb hown (hts _ q239) (hts _ q40) (hts _ q41) rfl (by rw [hml]; exact hl.1) rfl dX1_init_1 (Nat.le_of_ble_eq_true rfl) (Nat.le_of_ble_eq_true rfl) ?_
  refine W.eq (g2 := F0 m 4 ls []) rfl ?_
  refine lv_aload_n hx hb dX1_init_4 rfl (lv_at hl 0 rfl) ?_
  refine lv_iconst (v := 0) hx hb dX1_init_5 (by decide) ?_
  refine va_put (D := (dC, dI)) (ci := 1) (v := .int 0) (ty := .int) (C := RX1) (T := TX1) (N := 9) hx hb hts in_X1 tyX1 tyX1_ok nmX1 hown hK hP hD hS 0 rfl rfl 0 (by decide) (hts _ q240) (fun _ h9 => h9) rfl (by decide +kernel) rfl rfl (Nat.le_of_ble_eq_true rfl) dX1_init_6 (fun H locs hP hD hS => ?_)
  have hP : va_P (dC, dI) vwCl [(h0, .inr (1, [.int 0, .null, .null, .null, .null, .null, .null, .int 0, .null]))] H := hP
  have hD : va_D A [(h0, .inr (1, [.int 0, .null, .null, .null, .null, .null, .null, .int 0, .null]))] := hD
  refine lv_aload_n hx hb dX1_init_9 rfl (lv_at hl 0 rfl) ?_
  refine lv_bipush (v := 40) hx hb dX1_init_10 (by decide) ?_
  refine va_newa (atype := .int) (a0 := (40, .inl (fun _ => 0))) (ty := .int) (N' := 40) hx hb (hts _ q107) rfl hK hP hD hS hA (fun cA => rfl) (by decide) (by decide) (by decide) (Nat.le_of_ble_eq_true rfl) (Nat.le_of_ble_eq_true rfl) dX1_init_12 (fun q1_ c1_ H hK hP hD hS => ?_)
  have hP : va_P (dC, dI) vwCl [(h0, .inr (1, [.int 0, .null, .null, .null, .null, .null, .null, .int 0, .null])), (q1_, .inl (c1_, 40, .inl (fun _ => 0)))] H := hP
  have hD : va_D A [(h0, .inr (1, [.int 0, .null, .null, .null, .null, .null, .null, .int 0, .null])), (q1_, .inl (c1_, 40, .inl (fun _ => 0)))] := hD
  have hK : va_K (dC, dI) vwCl [(c1_, .int)] s := hK
  refine W.widen (k := 1) (n := 40) (Nat.le_of_ble_eq_true rfl) (Nat.le_of_ble_eq_true rfl) ?_
  refine va_put (D := (dC, dI)) (ci := 1) (v := .ref q1_) (ty := .array .int) (C := RX1) (T := TX1) (N := 9) hx hb hts in_X1 tyX1 tyX1_ok nmX1 hown hK hP hD hS 0 rfl rfl 1 (by decide) (hts _ q241) (fun _ h9 => h9) rfl (by decide +kernel) rfl rfl (Nat.le_of_ble_eq_true rfl) dX1_init_14 (fun H locs hP hD hS => ?_)
  have hP : va_P (dC, dI) vwCl [(h0, .inr (1, [.int 0, .ref q1_, .null, .null, .null, .null, .null, .int 0, .null])), (q1_, .inl (c1_, 40, .inl (fun _ => 0)))] H := hP
  have hD : va_D A [(h0, .inr (1, [.int 0, .ref q1_, .null, .null, .null, .null, .null, .int 0, .null])), (q1_, .inl (c1_, 40, .inl (fun _ => 0)))] := hD
  refine lv_aload_n hx hb dX1_init_17 rfl (lv_at hl 0 rfl) ?_
  refine lv_bipush (v := 40) hx hb dX1_init_18 (by decide) ?_
  refine va_newa (atype := .int) (a0 := (40, .inl (fun _ => 0))) (ty := .int) (N' := 40) hx hb (hts _ q107) rfl hK hP hD hS hA (fun cA => rfl) (by decide) (by decide) (by decide) (Nat.le_of_ble_eq_true rfl) (Nat.le_of_ble_eq_true rfl) dX1_init_20 (fun q2_ c2_ H hK hP hD hS => ?_)
  have hP : va_P (dC, dI) vwCl [(h0, .inr (1, [.int 0, .ref q1_, .null, .null, .null, .null, .null, .int 0, .null])), (q1_, .inl (c1_, 40, .inl (fun _ => 0))), (q2_, .inl (c2_, 40, .inl (fun _ => 0)))] H := hP
  have hD : va_D A [(h0, .inr (1, [.int 0, .ref q1_, .null, .null, .null, .null, .null, .int 0, .null])), (q1_, .inl (c1_, 40, .inl (fun _ => 0))), (q2_, .inl (c2_, 40, .inl (fun _ => 0)))] := hD
  have hK : va_K (dC, dI) vwCl [(c1_, .int), (c2_, .int)] s := hK
  refine W.widen (k := 2) (n := 80) (Nat.le_of_ble_eq_true rfl) (Nat.le_of_ble_eq_true rfl) ?_
  refine va_put (D := (dC, dI)) (ci := 1) (v := .ref q2_) (ty := .array .int) (C := RX1) (T := TX1) (N := 9) hx hb hts in_X1 tyX1 tyX1_ok nmX1 hown hK hP hD hS 0 rfl rfl 2 (by decide) (hts _ q242) (fun _ h9 => h9) rfl (by decide +kernel) rfl rfl (Nat.le_of_ble_eq_true rfl) dX1_init_22 (fun H locs hP hD hS => ?_)
  have hP : va_P (dC, dI) vwCl [(h0, .inr (1, [.int 0, .ref q1_, .ref q2_, .null, .null, .null, .null, .int 0, .null])), (q1_, .inl (c1_, 40, .inl (fun _ => 0))), (q2_, .inl (c2_, 40, .inl (fun _ => 0)))] H := hP
  have hD : va_D A [(h0, .inr (1, [.int 0, .ref q1_, .ref q2_, .null, .null, .null, .null, .int 0, .null])), (q1_, .inl (c1_, 40, .inl (fun _ => 0))), (q2_, .inl (c2_, 40, .inl (fun _ => 0)))] := hD
  refine lv_aload_n hx hb dX1_init_25 rfl (lv_at hl 0 rfl) ?_
  refine lv_bipush (v := 40) hx hb dX1_init_26 (by decide) ?_
  refine va_newa (atype := .int) (a0 := (40, .inl (fun _ => 0))) (ty := .int) (N' := 40) hx hb (hts _ q107) rfl hK hP hD hS hA (fun cA => rfl) (by decide) (by decide) (by decide) (Nat.le_of_ble_eq_true rfl) (Nat.le_of_ble_eq_true rfl) dX1_init_28 (fun q3_ c3_ H hK hP hD hS => ?_)
  have hP : va_P (dC, dI) vwCl [(h0, .inr (1, [.int 0, .ref q1_, .ref q2_, .null, .null, .null, .null, .int 0, .null])), (q1_, .inl (c1_, 40, .inl (fun _ => 0))), (q2_, .inl (c2_, 40, .inl (fun _ => 0))), (q3_, .inl (c3_, 40, .inl (fun _ => 0)))] H := hP
  have hD : va_D A [(h0, .inr (1, [.int 0, .ref q1_, .ref q2_, .null, .null, .null, .null, .int 0, .null])), (q1_, .inl (c1_, 40, .inl (fun _ => 0))), (q2_, .inl (c2_, 40, .inl (fun _ => 0))), (q3_, .inl (c3_, 40, .inl (fun _ => 0)))] := hD
  have hK : va_K (dC, dI) vwCl [(c1_, .int), (c2_, .int), (c3_, .int)] s := hK
  refine W.widen (k := 3) (n := 120) (Nat.le_of_ble_eq_true rfl) (Nat.le_of_ble_eq_true rfl) ?_
  refine va_put (D := (dC, dI)) (ci := 1) (v := .ref q3_) (ty := .array .int) (C := RX1) (T := TX1) (N := 9) hx hb hts in_X1 tyX1 tyX1_ok nmX1 hown hK hP hD hS 0 rfl rfl 3 (by decide) (hts _ q243) (fun _ h9 => h9) rfl (by decide +kernel) rfl rfl (Nat.le_of_ble_eq_true rfl) dX1_init_30 (fun H locs hP hD hS => ?_)
  have hP : va_P (dC, dI) vwCl [(h0, .inr (1, [.int 0, .ref q1_, .ref q2_, .ref q3_, .null, .null, .null, .int 0, .null])), (q1_, .inl (c1_, 40, .inl (fun _ => 0))), (q2_, .inl (c2_, 40, .inl (fun _ => 0))), (q3_, .inl (c3_, 40, .inl (fun _ => 0)))] H := hP
  have hD : va_D A [(h0, .inr (1, [.int 0, .ref q1_, .ref q2_, .ref q3_, .null, .null, .null, .int 0, .null])), (q1_, .inl (c1_, 40, .inl (fun _ => 0))), (q2_, .inl (c2_, 40, .inl (fun _ => 0))), (q3_, .inl (c3_, 40, .inl (fun _ => 0)))] := hD
  refine lv_aload_n hx hb dX1_init_33 rfl (lv_at hl 0 rfl) ?_
  refine lv_bipush (v := 40) hx hb dX1_init_34 (by decide) ?_
  refine va_newa (atype := .int) (a0 := (40, .inl (fun _ => 0))) (ty := .int) (N' := 40) hx hb (hts _ q107) rfl hK hP hD hS hA (fun cA => rfl) (by decide) (by decide) (by decide) (Nat.le_of_ble_eq_true rfl) (Nat.le_of_ble_eq_true rfl) dX1_init_36 (fun q4_ c4_ H hK hP hD hS => ?_)
  have hP : va_P (dC, dI) vwCl [(h0, .inr (1, [.int 0, .ref q1_, .ref q2_, .ref q3_, .null, .null, .null, .int 0, .null])), (q1_, .inl (c1_, 40, .inl (fun _ => 0))), (q2_, .inl (c2_, 40, .inl (fun _ => 0))), (q3_, .inl (c3_, 40, .inl (fun _ => 0))), (q4_, .inl (c4_, 40, .inl (fun _ => 0)))] H := hP
  have hD : va_D A [(h0, .inr (1, [.int 0, .ref q1_, .ref q2_, .ref q3_, .null, .null, .null, .int 0, .null])), (q1_, .inl (c1_, 40, .inl (fun _ => 0))), (q2_, .inl (c2_, 40, .inl (fun _ => 0))), (q3_, .inl (c3_, 40, .inl (fun _ => 0))), (q4_, .inl (c4_, 40, .inl (fun _ => 0)))] := hD
  have hK : va_K (dC, dI) vwCl [(c1_, .int), (c2_, .int), (c3_, .int), (c4_, .int)] s := hK
  refine W.widen (k := 4) (n := 160) (Nat.le_of_ble_eq_true rfl) (Nat.le_of_ble_eq_true rfl) ?_
  refine va_put (D := (dC, dI)) (ci := 1) (v := .ref q4_) (ty := .array .int) (C := RX1) (T := TX1) (N := 9) hx hb hts in_X1 tyX1 tyX1_ok nmX1 hown hK hP hD hS 0 rfl rfl 4 (by decide) (hts _ q244) (fun _ h9 => h9) rfl (by decide +kernel) rfl rfl (Nat.le_of_ble_eq_true rfl) dX1_init_38 (fun H locs hP hD hS => ?_)
  have hP : va_P (dC, dI) vwCl [(h0, .inr (1, [.int 0, .ref q1_, .ref q2_, .ref q3_, .ref q4_, .null, .null, .int 0, .null])), (q1_, .inl (c1_, 40, .inl (fun _ => 0))), (q2_, .inl (c2_, 40, .inl (fun _ => 0))), (q3_, .inl (c3_, 40, .inl (fun _ => 0))), (q4_, .inl (c4_, 40, .inl (fun _ => 0)))] H := hP
  have hD : va_D A [(h0, .inr (1, [.int 0, .ref q1_, .ref q2_, .ref q3_, .ref q4_, .null, .null, .int 0, .null])), (q1_, .inl (c1_, 40, .inl (fun _ => 0))), (q2_, .inl (c2_, 40, .inl (fun _ => 0))), (q3_, .inl (c3_, 40, .inl (fun _ => 0))), (q4_, .inl (c4_, 40, .inl (fun _ => 0)))] := hD
  refine lv_aload_n hx hb dX1_init_41 rfl (lv_at hl 0 rfl) ?_
  refine lv_bipush (v := 6) hx hb dX1_init_42 (by decide) ?_
  refine va_newa (atype := .int) (a0 := (6, .inl (fun _ => 0))) (ty := .int) (N' := 6) hx hb (hts _ q107) rfl hK hP hD hS hA (fun cA => rfl) (by decide) (by decide) (by decide) (Nat.le_of_ble_eq_true rfl) (Nat.le_of_ble_eq_true rfl) dX1_init_44 (fun q5_ c5_ H hK hP hD hS => ?_)
  have hP : va_P (dC, dI) vwCl [(h0, .inr (1, [.int 0, .ref q1_, .ref q2_, .ref q3_, .ref q4_, .null, .null, .int 0, .null])), (q1_, .inl (c1_, 40, .inl (fun _ => 0))), (q2_, .inl (c2_, 40, .inl (fun _ => 0))), (q3_, .inl (c3_, 40, .inl (fun _ => 0))), (q4_, .inl (c4_, 40, .inl (fun _ => 0))), (q5_, .inl (c5_, 6, .inl (fun _ => 0)))] H := hP
  have hD : va_D A [(h0, .inr (1, [.int 0, .ref q1_, .ref q2_, .ref q3_, .ref q4_, .null, .null, .int 0, .null])), (q1_, .inl (c1_, 40, .inl (fun _ => 0))), (q2_, .inl (c2_, 40, .inl (fun _ => 0))), (q3_, .inl (c3_, 40, .inl (fun _ => 0))), (q4_, .inl (c4_, 40, .inl (fun _ => 0))), (q5_, .inl (c5_, 6, .inl (fun _ => 0)))] := hD
  have hK : va_K (dC, dI) vwCl [(c1_, .int), (c2_, .int), (c3_, .int), (c4_, .int), (c5_, .int)] s := hK
  refine W.widen (k := 5) (n := 166) (Nat.le_of_ble_eq_true rfl) (Nat.le_of_ble_eq_true rfl) ?_
  refine va_put (D := (dC, dI)) (ci := 1) (v := .ref q5_) (ty := .array .int) (C := RX1) (T := TX1) (N := 9) hx hb hts in_X1 tyX1 tyX1_ok nmX1 hown hK hP hD hS 0 rfl rfl 5 (by decide) (hts _ q245) (fun _ h9 => h9) rfl (by decide +kernel) rfl rfl (Nat.le_of_ble_eq_true rfl) dX1_init_46 (fun H locs hP hD hS => ?_)
  have hP : va_P (dC, dI) vwCl [(h0, .inr (1, [.int 0, .ref q1_, .ref q2_, .ref q3_, .ref q4_, .ref q5_, .null, .int 0, .null])), (q1_, .inl (c1_, 40, .inl (fun _ => 0))), (q2_, .inl (c2_, 40, .inl (fun _ => 0))), (q3_, .inl (c3_, 40, .inl (fun _ => 0))), (q4_, .inl (c4_, 40, .inl (fun _ => 0))), (q5_, .inl (c5_, 6, .inl (fun _ => 0)))] H := hP
  have hD : va_D A [(h0, .inr (1, [.int 0, .ref q1_, .ref q2_, .ref q3_, .ref q4_, .ref q5_, .null, .int 0, .null])), (q1_, .inl (c1_, 40, .inl (fun _ => 0))), (q2_, .inl (c2_, 40, .inl (fun _ => 0))), (q3_, .inl (c3_, 40, .inl (fun _ => 0))), (q4_, .inl (c4_, 40, .inl (fun _ => 0))), (q5_, .inl (c5_, 6, .inl (fun _ => 0)))] := hD
  refine lv_aload_n hx hb dX1_init_49 rfl (lv_at hl 0 rfl) ?_
  refine lv_bipush (v := 64) hx hb dX1_init_50 (by decide) ?_
  refine va_newa (atype := .int) (a0 := (64, .inl (fun _ => 0))) (ty := .int) (N' := 64) hx hb (hts _ q107) rfl hK hP hD hS hA (fun cA => rfl) (by decide) (by decide) (by decide) (Nat.le_of_ble_eq_true rfl) (Nat.le_of_ble_eq_true rfl) dX1_init_52 (fun q6_ c6_ H hK hP hD hS => ?_)
  have hP : va_P (dC, dI) vwCl [(h0, .inr (1, [.int 0, .ref q1_, .ref q2_, .ref q3_, .ref q4_, .ref q5_, .null, .int 0, .null])), (q1_, .inl (c1_, 40, .inl (fun _ => 0))), (q2_, .inl (c2_, 40, .inl (fun _ => 0))), (q3_, .inl (c3_, 40, .inl (fun _ => 0))), (q4_, .inl (c4_, 40, .inl (fun _ => 0))), (q5_, .inl (c5_, 6, .inl (fun _ => 0))), (q6_, .inl (c6_, 64, .inl (fun _ => 0)))] H := hP
  have hD : va_D A [(h0, .inr (1, [.int 0, .ref q1_, .ref q2_, .ref q3_, .ref q4_, .ref q5_, .null, .int 0, .null])), (q1_, .inl (c1_, 40, .inl (fun _ => 0))), (q2_, .inl (c2_, 40, .inl (fun _ => 0))), (q3_, .inl (c3_, 40, .inl (fun _ => 0))), (q4_, .inl (c4_, 40, .inl (fun _ => 0))), (q5_, .inl (c5_, 6, .inl (fun _ => 0))), (q6_, .inl (c6_, 64, .inl (fun _ => 0)))] := hD
  have hK : va_K (dC, dI) vwCl [(c1_, .int), (c2_, .int), (c3_, .int), (c4_, .int), (c5_, .int), (c6_, .int)] s := hK
  refine W.widen (k := 6) (n := 230) (Nat.le_of_ble_eq_true rfl) (Nat.le_of_ble_eq_true rfl) ?_
  refine va_put (D := (dC, dI)) (ci := 1) (v := .ref q6_) (ty := .array .int) (C := RX1) (T := TX1) (N := 9) hx hb hts in_X1 tyX1 tyX1_ok nmX1 hown hK hP hD hS 0 rfl rfl 6 (by decide) (hts _ q246) (fun _ h9 => h9) rfl (by decide +kernel) rfl rfl (Nat.le_of_ble_eq_true rfl) dX1_init_54 (fun H locs hP hD hS => ?_)
  have hP : va_P (dC, dI) vwCl [(h0, .inr (1, [.int 0, .ref q1_, .ref q2_, .ref q3_, .ref q4_, .ref q5_, .ref q6_, .int 0, .null])), (q1_, .inl (c1_, 40, .inl (fun _ => 0))), (q2_, .inl (c2_, 40, .inl (fun _ => 0))), (q3_, .inl (c3_, 40, .inl (fun _ => 0))), (q4_, .inl (c4_, 40, .inl (fun _ => 0))), (q5_, .inl (c5_, 6, .inl (fun _ => 0))), (q6_, .inl (c6_, 64, .inl (fun _ => 0)))] H := hP
  have hD : va_D A [(h0, .inr (1, [.int 0, .ref q1_, .ref q2_, .ref q3_, .ref q4_, .ref q5_, .ref q6_, .int 0, .null])), (q1_, .inl (c1_, 40, .inl (fun _ => 0))), (q2_, .inl (c2_, 40, .inl (fun _ => 0))), (q3_, .inl (c3_, 40, .inl (fun _ => 0))), (q4_, .inl (c4_, 40, .inl (fun _ => 0))), (q5_, .inl (c5_, 6, .inl (fun _ => 0))), (q6_, .inl (c6_, 64, .inl (fun _ => 0)))] := hD
  refine lv_aload_n hx hb dX1_init_57 rfl (lv_at hl 0 rfl) ?_
  refine lv_iconst (v := 0) hx hb dX1_init_58 (by decide) ?_
  refine va_put (D := (dC, dI)) (ci := 1) (v := .int 0) (ty := .int) (C := RX1) (T := TX1) (N := 9) hx hb hts in_X1 tyX1 tyX1_ok nmX1 hown hK hP hD hS 0 rfl rfl 7 (by decide) (hts _ q247) (fun _ h9 => h9) rfl (by decide +kernel) rfl rfl (Nat.le_of_ble_eq_true rfl) dX1_init_59 (fun H locs hP hD hS => ?_)
  have hP : va_P (dC, dI) vwCl [(h0, .inr (1, [.int 0, .ref q1_, .ref q2_, .ref q3_, .ref q4_, .ref q5_, .ref q6_, .int 0, .null])), (q1_, .inl (c1_, 40, .inl (fun _ => 0))), (q2_, .inl (c2_, 40, .inl (fun _ => 0))), (q3_, .inl (c3_, 40, .inl (fun _ => 0))), (q4_, .inl (c4_, 40, .inl (fun _ => 0))), (q5_, .inl (c5_, 6, .inl (fun _ => 0))), (q6_, .inl (c6_, 64, .inl (fun _ => 0)))] H := hP
  have hD : va_D A [(h0, .inr (1, [.int 0, .ref q1_, .ref q2_, .ref q3_, .ref q4_, .ref q5_, .ref q6_, .int 0, .null])), (q1_, .inl (c1_, 40, .inl (fun _ => 0))), (q2_, .inl (c2_, 40, .inl (fun _ => 0))), (q3_, .inl (c3_, 40, .inl (fun _ => 0))), (q4_, .inl (c4_, 40, .inl (fun _ => 0))), (q5_, .inl (c5_, 6, .inl (fun _ => 0))), (q6_, .inl (c6_, 64, .inl (fun _ => 0)))] := hD
  refine lv_aload_n hx hb dX1_init_62 rfl (lv_at hl 0 rfl) ?_
  refine lv_bipush (v := 40) hx hb dX1_init_63 (by decide) ?_
  refine va_newa (atype := .int) (a0 := (40, .inl (fun _ => 0))) (ty := .int) (N' := 40) hx hb (hts _ q107) rfl hK hP hD hS hA (fun cA => rfl) (by decide) (by decide) (by decide) (Nat.le_of_ble_eq_true rfl) (Nat.le_of_ble_eq_true rfl) dX1_init_65 (fun q7_ c7_ H hK hP hD hS => ?_)
  have hP : va_P (dC, dI) vwCl [(h0, .inr (1, [.int 0, .ref q1_, .ref q2_, .ref q3_, .ref q4_, .ref q5_, .ref q6_, .int 0, .null])), (q1_, .inl (c1_, 40, .inl (fun _ => 0))), (q2_, .inl (c2_, 40, .inl (fun _ => 0))), (q3_, .inl (c3_, 40, .inl (fun _ => 0))), (q4_, .inl (c4_, 40, .inl (fun _ => 0))), (q5_, .inl (c5_, 6, .inl (fun _ => 0))), (q6_, .inl (c6_, 64, .inl (fun _ => 0))), (q7_, .inl (c7_, 40, .inl (fun _ => 0)))] H := hP
  have hD : va_D A [(h0, .inr (1, [.int 0, .ref q1_, .ref q2_, .ref q3_, .ref q4_, .ref q5_, .ref q6_, .int 0, .null])), (q1_, .inl (c1_, 40, .inl (fun _ => 0))), (q2_, .inl (c2_, 40, .inl (fun _ => 0))), (q3_, .inl (c3_, 40, .inl (fun _ => 0))), (q4_, .inl (c4_, 40, .inl (fun _ => 0))), (q5_, .inl (c5_, 6, .inl (fun _ => 0))), (q6_, .inl (c6_, 64, .inl (fun _ => 0))), (q7_, .inl (c7_, 40, .inl (fun _ => 0)))] := hD
  have hK : va_K (dC, dI) vwCl [(c1_, .int), (c2_, .int), (c3_, .int), (c4_, .int), (c5_, .int), (c6_, .int), (c7_, .int)] s := hK
  refine W.widen (k := 7) (n := 270) (Nat.le_of_ble_eq_true rfl) (Nat.le_of_ble_eq_true rfl) ?_
  refine va_put (D := (dC, dI)) (ci := 1) (v := .ref q7_) (ty := .array .int) (C := RX1) (T := TX1) (N := 9) hx hb hts in_X1 tyX1 tyX1_ok nmX1 hown hK hP hD hS 0 rfl rfl 8 (by decide) (hts _ q248) (fun _ h9 => h9) rfl (by decide +kernel) rfl rfl (Nat.le_of_ble_eq_true rfl) dX1_init_67 (fun H locs hP hD hS => ?_)
  have hP : va_P (dC, dI) vwCl [(h0, .inr (1, [.int 0, .ref q1_, .ref q2_, .ref q3_, .ref q4_, .ref q5_, .ref q6_, .int 0, .ref q7_])), (q1_, .inl (c1_, 40, .inl (fun _ => 0))), (q2_, .inl (c2_, 40, .inl (fun _ => 0))), (q3_, .inl (c3_, 40, .inl (fun _ => 0))), (q4_, .inl (c4_, 40, .inl (fun _ => 0))), (q5_, .inl (c5_, 6, .inl (fun _ => 0))), (q6_, .inl (c6_, 64, .inl (fun _ => 0))), (q7_, .inl (c7_, 40, .inl (fun _ => 0)))] H := hP
  have hD : va_D A [(h0, .inr (1, [.int 0, .ref q1_, .ref q2_, .ref q3_, .ref q4_, .ref q5_, .ref q6_, .int 0, .ref q7_])), (q1_, .inl (c1_, 40, .inl (fun _ => 0))), (q2_, .inl (c2_, 40, .inl (fun _ => 0))), (q3_, .inl (c3_, 40, .inl (fun _ => 0))), (q4_, .inl (c4_, 40, .inl (fun _ => 0))), (q5_, .inl (c5_, 6, .inl (fun _ => 0))), (q6_, .inl (c6_, 64, .inl (fun _ => 0))), (q7_, .inl (c7_, 40, .inl (fun _ => 0)))] := hD
  exact W.vret hx hb hr (fun t ht hW => ⟨⟨(fun k => match k with | 0 => h0 | 1 => q1_ | 2 => q2_ | 3 => q3_ | 4 => q4_ | 5 => q5_ | 6 => q6_ | 8 => q7_ | _ => 0, fun k => match k with | 1 => c1_ | 2 => c2_ | 3 => c3_ | 4 => c4_ | 5 => c5_ | 6 => c6_ | 8 => c7_ | _ => c1_), rfl, rfl, by rw [ht]; exact hP, va_K.moved hW.alike hK, hD⟩, hS.F ht⟩) hS.2.2 dX1_init_70
end
section
/-! THE CLAIM OUT OF ONE WALK OF THE LAW'S BODY. Your part is whole_start (and what it stands on); all else here is the same for every law, but numbers. -/
def R_law : String := "StackSchedulerLaw"
def lw_P (b : Addr) (xs : List Int32) (args : Array Value) (s : State) : Prop := args = #[.ref b] ∧ s.IntsAt b xs ∧ xs.length ≤ 320 ∧ (Jvm.Cond.and given_1 narrow_1).before args s = true
def lw_Q (_ : Array Value) (s : State) (o : Outcome) (t : State) : Prop := o = .returned (some (.int 1)) ∧ Framed s o t [] 600000 7290000
def lw_Z (below : List Frame) (a : Array Value) (s : State) : State → Prop := fun t => ∃ o, t.status = .running ∧ Ended t below o ∧ lw_Q a s o t
/-- the law's own end, with 1 on the stack, nothing written that was there before, its room as the claim has it -/
theorem lw_ret {p : Program} {l : Launch} {e : Env} {s : State} {m : MethodId} {below : List Frame} {meth : Method} {c : Code} {b : Nat} (hx : p.tables.exec = Jvm.exec) (hb : c.code = code) (hr : meth.sig.returnType = ret) (hlocks : meth.locks = false) {pc : Nat} {H : Heap} {ls : Array Slot} (hdg : decode code pc = .ok (.ireturn, 1)) : W p l e room_1 s m #[Value.ref b] below meth c H [] 600000 7290000 (lw_Z below #[Value.ref b] s) (F0 m pc ls [.int 1]) := by
  intro T hT X
  obtain ⟨fs, hret, hrun, hended, hW, hframe⟩ := X.leave (v := some (.int 1)) (hlocks := hlocks) (fun h => by rw [hr] at h; cases h)
  have hmeth' : T.vm.method? m = some meth := X.method'
  refine ⟨T.setFrames fs, ?_, .returned (some (.int 1)), hrun, hended, rfl, ⟨_, rfl⟩, hW, hframe⟩
  jvm_step X.here [X.here.top, hx, hb, hdg, hmeth', hr, ret, narrow_b1]
  (try refine ⟨rfl, ?_⟩); (try refine ⟨rfl, ?_⟩)
  first | (intro acts; rw [hret _ acts rfl rfl rfl]) | rw [hret _ _ rfl rfl rfl]
  exact Steps.refl _
/-- what holds at the law's entry: the machine, the code, the tables' words (any of lw_tbl by 'hts w (by decide +kernel)'), the script of L ints xs at the cell b, what the Statement gives of the start (any of its parts by flat_of_before) -/
def lw_At (p : Program) (s : State) (m : MethodId) (meth : Method) (c : Code) (b L : Nat) (xs : Nat → Int32) : Prop :=
  p.tables.exec = Jvm.exec ∧ c.code = code ∧ meth.sig.returnType = ret ∧ c.maxLocals = 4 ∧ s.vm.findClass R_law = some m.cls ∧ (∀ w ∈ lw_tbl, w.before #[Value.ref b] s = true) ∧ va_X b L xs s s.heap ∧ b < s.heap.size ∧ meth.locks = false ∧ (Jvm.Cond.and given_1 narrow_1).before #[Value.ref b] s = true
end
section
/-! THE LAW'S WALKING ROWS: the world of both objects -/
def zLP (D : va_G) (h : Nat → Nat) (d : Nat → ClassId) (h' : Nat → Nat) (d' : Nat → ClassId) (σ τ : Sg) (H : Heap) : Prop := va_P D vwCl (xaW h d σ ++ xbW h' d' τ) H
/-- what the law's body stands on -/
def zCL (X : CX) (D : va_G) (h : Nat → Nat) (d : Nat → ClassId) (h' : Nat → Nat) (d' : Nat → ClassId) (b L : Nat) (xs : Nat → Int32) : Prop :=
  Bx X cL_law 4 ∧ X.2.1.2.2.2.2.maxLocals = 4 ∧ X.1.2.2.2.2.vm.findClass R_law = some X.2.1.1.cls ∧ (∀ w ∈ lw_all, w.before X.2.1.2.1 X.1.2.2.2.2 = true) ∧ va_K D vwCl (xaT d ++ xbT d') X.1.2.2.2.2 ∧ (∀ σ τ, va_D X.2.2.2.1 (xaW h d σ ++ xbW h' d' τ)) ∧ (∀ q : Nat, X.1.2.2.2.2.heap.size ≤ q → X.2.2.2.1 q) ∧ X.1.2.2.2.1 = room_1 ∧ (X.2.2.2.2.2.1 ≤ 600000 ∧ X.2.2.2.2.2.2 ≤ 7290000) ∧
  (va_X b L xs X.1.2.2.2.2 X.1.2.2.2.2.heap ∧ b < X.1.2.2.2.2.heap.size ∧ ¬ X.2.2.2.1 b ∧ L ≤ 320) ∧
  (∀ (σ τ : Sg) (pc : Nat) (LL : List (Nat × Value)), decode cL_law pc = .ok (.ireturn, 1) → XW X (zLP D h d h' d' σ τ) pc LL [.int 1])
section LR
variable {X : CX} {D : va_G} {h : Nat → Nat} {d : Nat → ClassId} {h' : Nat → Nat} {d' : Nat → ClassId} {b L : Nat} {xs : Nat → Int32} {σ τ : Sg} {pc : Nat} {LL : List (Nat × Value)} {rest : List Value}
theorem xl_ret (C : zCL X D h d h' d' b L xs) (dd : decode cL_law pc = .ok (.ireturn, 1)) : XW X (zLP D h d h' d' σ τ) pc LL [.int 1] := C.2.2.2.2.2.2.2.2.2.2 σ τ pc LL dd
theorem xl_sld (C : zCL X D h d h' d' b L xs) (dd : decode cL_law pc = .ok (.iaload, 1)) (j : Nat) {i z : Int32} (hi : i = nI j) (hj : j < L) (hz : xs j = z) (kk : XW X (zLP D h d h' d' σ τ) (pc + 1) LL (.int z :: rest)) : XW X (zLP D h d h' d' σ τ) pc LL (.int i :: .ref b :: rest) := by
  intro H locs ls hP hS hL
  obtain ⟨⟨hx, hb, hnL⟩, hml, hown, hts, hK, hD, hA, hR, hcs, ⟨hX, hbl, hbA, hL3⟩, -⟩ := C
  subst hi
  subst hz
  refine va_sld hx hb hX hbl hbA hS (vp_in_nI hj (by omega)) dd ?_
  rw [nI_clamp (by omega)]
  exact kk H locs ls hP hS hL
theorem xl_slen (C : zCL X D h d h' d' b L xs) (dd : decode cL_law pc = .ok (.arraylength, 1)) (kk : XW X (zLP D h d h' d' σ τ) (pc + 1) LL (.int (nI L) :: rest)) : XW X (zLP D h d h' d' σ τ) pc LL (.ref b :: rest) := by
  intro H locs ls hP hS hL
  obtain ⟨⟨hx, hb, hnL⟩, hml, hown, hts, hK, hD, hA, hR, hcs, ⟨hX, hbl, hbA, hL3⟩, -⟩ := C
  exact va_slen hx hb hX hbl hbA hS dd (kk H locs ls hP hS hL)
theorem xl_tabIn (C : zCL X D h d h' d' b L xs) {P : Heap → Prop} {dflt lo hi : Int} {offs : Array Int} {len : Nat} {x : Int32} {off : Int} {tgt : Nat} (dd : decode cL_law pc = .ok (.tableswitch dflt lo hi offs, len)) (h1 : ¬ x.toInt < lo) (h2 : ¬ hi < x.toInt) (ho : offs[(x.toInt - lo).toNat]? = some off) (ht : (pc : Int) + off = (tgt : Int)) (kk : XW X P tgt LL rest) : XW X P pc LL (.int x :: rest) := fun H locs ls hP hS hL => lv_tableIn C.1.1 C.1.2.1 dd h1 h2 ho ht (kk H locs ls hP hS hL)
theorem xl_tabOut (C : zCL X D h d h' d' b L xs) {P : Heap → Prop} {dflt lo hi : Int} {offs : Array Int} {len : Nat} {x : Int32} {tgt : Nat} (dd : decode cL_law pc = .ok (.tableswitch dflt lo hi offs, len)) (hh : x.toInt < lo ∨ hi < x.toInt) (ht : (pc : Int) + dflt = (tgt : Int)) (kk : XW X P tgt LL rest) : XW X P pc LL (.int x :: rest) := fun H locs ls hP hS hL => lv_tableOut C.1.1 C.1.2.1 dd hh ht (kk H locs ls hP hS hL)
set_option maxHeartbeats 4000000 in
set_option maxRecDepth 100000 in
theorem xl_calliA (C : zCL X D h d h' d' b L xs) {lv' : Nat} {y : MethodName} {cc' : ByteArray} {nL' idx nA : Nat} {ty : FieldType} {as st : List Value} {post' : Option Int32 → Sg → Prop} (hG : GoodIn lw_all (wsV R_law idx RX0 y (ws_ y cc' nL' (some ty)))) (hd : y.cls = RX0 ∧ y.cls ≠ "java/lang/invoke/MethodHandle" ∧ y.cls ≠ "java/lang/invoke/VarHandle" ∧ (parseMethodDescriptor y.desc).map (fun d => d.parameters.length) = some nA) (hlv : lv' + 1 ≤ 9) (hn : nL' ≤ 9) (hst : st = as.reverse ++ .ref (h 0) :: rest) (hro : (rest.map fun v => v.category).sum ≤ 8) (dd : decode cL_law pc = .ok (.invokevirtual idx, 3)) (M : XA lv' y cc' nL' (some ty) as σ post') (hlen : as.length = nA) (kk : ∀ (r : Int32) (u : Sg), post' (some r) u → XW X (zLP D h d h' d' u τ) (pc + 3) LL (.int r :: rest)) : XW X (zLP D h d h' d' σ τ) pc LL st := by
  intro H locs ls hP hS hL
  obtain ⟨⟨hx, hb, hnL⟩, hml, hown, hts, hK, hD0, hA, hR, ⟨hc0, hs0⟩, -, -⟩ := C
  subst hst
  subst hlen
  have hD := hD0 σ τ
  have hP : va_P D vwCl (xaW h d σ ++ xbW h' d' τ) H := hP
  have hPc := hP.sub (ws' := xaW h d σ) [0, 1, 2, 3, 4, 5, 6, 7, 8, 9, 10, 11, 12] rfl
  have hDc := hD.sub (ws' := xaW h d σ) [0, 1, 2, 3, 4, 5, 6, 7, 8, 9, 10, 11, 12] (by decide) rfl
  have hKc := hK.sub (tys' := xaT d) [0, 1, 2, 3, 4, 5, 6, 7, 8, 9, 10, 11] rfl
  have hFc := va_free (wc := xaW h d σ) hD hS hA [0, 1, 2, 3, 4, 5, 6, 7, 8, 9, 10, 11, 12] rfl
  have hRf : (rmL lv').frames + 1 ≤ X.1.2.2.2.1.frames := by rw [hR]; exact hlv
  have hRl : 8 + (nL' + 11) + (rmL lv').locals ≤ X.1.2.2.2.1.locals := by
    rw [hR]
    show 8 + (nL' + 11) + 28 * lv' ≤ 322
    omega
  refine va_calli (va_runV (As := as) (rest := rest) ⟨hx, hb, hml, hown, hts⟩ (M _ D.1 D.2 h d H.size) (cwV as.length hts hG rfl rfl rfl hd ⟨hRf, hRl⟩) ⟨fun a U g mk q => by obtain ⟨q0, q1, qP, qK, qD⟩ := q; exact ⟨q0, q1, qP, va_K.moved (u := U) (U := U.calling g mk a) (Vm.Alike.refl U.vm) qK, qD⟩, va_recv hKc hPc (ci := 0) (q0 := 0) rfl rfl, fun U hU hW => ⟨rfl, by rw [hU], by rw [hU]; exact hPc, va_K.moved hW.alike hKc, hDc.weaken (fun _ _ _ _ => trivial)⟩⟩ rfl rfl (hL.1.trans hnL) rfl (lv_room hro) dd ⟨by rw [hR]; exact hc0, by rw [hR]; exact hs0⟩) hS (fun q _ h => hFc q h) hFc (fun r u t H1 locs1 ht hvm hw hB hz1 hk1 hS1 => ?_)
  obtain ⟨hP1, hK1, hD1⟩ := hB
  rw [ht] at hP1
  obtain ⟨hP2, hD2⟩ := va_join (wr := xbW h' d' τ) (w1 := xaW h d u) hP hD [0, 1, 2, 3, 4, 5, 6, 7, 8, 9, 10, 11, 12] [13, 14, 15, 16, 17, 18, 19, 20] rfl rfl (by decide) (by decide) hk1 hFc hP1 hD1
  exact kk r u hw H1 locs1 ls (hP2.sub (ws' := xaW h d u ++ xbW h' d' τ) [8, 9, 10, 11, 12, 13, 14, 15, 16, 17, 18, 19, 20, 0, 1, 2, 3, 4, 5, 6, 7] rfl) hS1 hL
set_option maxHeartbeats 4000000 in
set_option maxRecDepth 100000 in
theorem xl_callvA (C : zCL X D h d h' d' b L xs) {lv' : Nat} {y : MethodName} {cc' : ByteArray} {nL' idx nA : Nat} {as st : List Value} {post' : Option Int32 → Sg → Prop} (hG : GoodIn lw_all (wsV R_law idx RX0 y (ws_ y cc' nL' none))) (hd : y.cls = RX0 ∧ y.cls ≠ "java/lang/invoke/MethodHandle" ∧ y.cls ≠ "java/lang/invoke/VarHandle" ∧ (parseMethodDescriptor y.desc).map (fun d => d.parameters.length) = some nA) (hlv : lv' + 1 ≤ 9) (hn : nL' ≤ 9) (hst : st = as.reverse ++ .ref (h 0) :: rest) (hro : (rest.map fun v => v.category).sum ≤ 8) (dd : decode cL_law pc = .ok (.invokevirtual idx, 3)) (M : XA lv' y cc' nL' none as σ post') (hlen : as.length = nA) (kk : ∀ (u : Sg), post' none u → XW X (zLP D h d h' d' u τ) (pc + 3) LL rest) : XW X (zLP D h d h' d' σ τ) pc LL st := by
  intro H locs ls hP hS hL
  obtain ⟨⟨hx, hb, hnL⟩, hml, hown, hts, hK, hD0, hA, hR, ⟨hc0, hs0⟩, -, -⟩ := C
  subst hst
  subst hlen
  have hD := hD0 σ τ
  have hP : va_P D vwCl (xaW h d σ ++ xbW h' d' τ) H := hP
  have hPc := hP.sub (ws' := xaW h d σ) [0, 1, 2, 3, 4, 5, 6, 7, 8, 9, 10, 11, 12] rfl
  have hDc := hD.sub (ws' := xaW h d σ) [0, 1, 2, 3, 4, 5, 6, 7, 8, 9, 10, 11, 12] (by decide) rfl
  have hKc := hK.sub (tys' := xaT d) [0, 1, 2, 3, 4, 5, 6, 7, 8, 9, 10, 11] rfl
  have hFc := va_free (wc := xaW h d σ) hD hS hA [0, 1, 2, 3, 4, 5, 6, 7, 8, 9, 10, 11, 12] rfl
  have hRf : (rmL lv').frames + 1 ≤ X.1.2.2.2.1.frames := by rw [hR]; exact hlv
  have hRl : 8 + (nL' + 11) + (rmL lv').locals ≤ X.1.2.2.2.1.locals := by
    rw [hR]
    show 8 + (nL' + 11) + 28 * lv' ≤ 322
    omega
  refine va_callv (va_runV (As := as) (rest := rest) ⟨hx, hb, hml, hown, hts⟩ (M _ D.1 D.2 h d H.size) (cwV as.length hts hG rfl rfl rfl hd ⟨hRf, hRl⟩) ⟨fun a U g mk q => by obtain ⟨q0, q1, qP, qK, qD⟩ := q; exact ⟨q0, q1, qP, va_K.moved (u := U) (U := U.calling g mk a) (Vm.Alike.refl U.vm) qK, qD⟩, va_recv hKc hPc (ci := 0) (q0 := 0) rfl rfl, fun U hU hW => ⟨rfl, by rw [hU], by rw [hU]; exact hPc, va_K.moved hW.alike hKc, hDc.weaken (fun _ _ _ _ => trivial)⟩⟩ rfl rfl (hL.1.trans hnL) rfl (lv_room hro) dd ⟨by rw [hR]; exact hc0, by rw [hR]; exact hs0⟩) hS (fun q _ h => hFc q h) hFc (fun u t H1 locs1 ht hvm hw hB hz1 hk1 hS1 => ?_)
  obtain ⟨hP1, hK1, hD1⟩ := hB
  rw [ht] at hP1
  obtain ⟨hP2, hD2⟩ := va_join (wr := xbW h' d' τ) (w1 := xaW h d u) hP hD [0, 1, 2, 3, 4, 5, 6, 7, 8, 9, 10, 11, 12] [13, 14, 15, 16, 17, 18, 19, 20] rfl rfl (by decide) (by decide) hk1 hFc hP1 hD1
  exact kk u hw H1 locs1 ls (hP2.sub (ws' := xaW h d u ++ xbW h' d' τ) [8, 9, 10, 11, 12, 13, 14, 15, 16, 17, 18, 19, 20, 0, 1, 2, 3, 4, 5, 6, 7] rfl) hS1 hL
set_option maxHeartbeats 4000000 in
set_option maxRecDepth 100000 in
theorem xl_calliB (C : zCL X D h d h' d' b L xs) {lv' : Nat} {y : MethodName} {cc' : ByteArray} {nL' idx nA : Nat} {ty : FieldType} {as st : List Value} {post' : Option Int32 → Sg → Prop} (hG : GoodIn lw_all (wsV R_law idx RX1 y (ws_ y cc' nL' (some ty)))) (hd : y.cls = RX1 ∧ y.cls ≠ "java/lang/invoke/MethodHandle" ∧ y.cls ≠ "java/lang/invoke/VarHandle" ∧ (parseMethodDescriptor y.desc).map (fun d => d.parameters.length) = some nA) (hlv : lv' + 1 ≤ 9) (hn : nL' ≤ 9) (hst : st = as.reverse ++ .ref (h' 0) :: rest) (hro : (rest.map fun v => v.category).sum ≤ 8) (dd : decode cL_law pc = .ok (.invokevirtual idx, 3)) (M : XB lv' y cc' nL' (some ty) as τ post') (hlen : as.length = nA) (kk : ∀ (r : Int32) (u : Sg), post' (some r) u → XW X (zLP D h d h' d' σ u) (pc + 3) LL (.int r :: rest)) : XW X (zLP D h d h' d' σ τ) pc LL st := by
  intro H locs ls hP hS hL
  obtain ⟨⟨hx, hb, hnL⟩, hml, hown, hts, hK, hD0, hA, hR, ⟨hc0, hs0⟩, -, -⟩ := C
  subst hst
  subst hlen
  have hD := hD0 σ τ
  have hP : va_P D vwCl (xaW h d σ ++ xbW h' d' τ) H := hP
  have hPc := hP.sub (ws' := xbW h' d' τ) [13, 14, 15, 16, 17, 18, 19, 20] rfl
  have hDc := hD.sub (ws' := xbW h' d' τ) [13, 14, 15, 16, 17, 18, 19, 20] (by decide) rfl
  have hKc := hK.sub (tys' := xbT d') [12, 13, 14, 15, 16, 17, 18] rfl
  have hFc := va_free (wc := xbW h' d' τ) hD hS hA [13, 14, 15, 16, 17, 18, 19, 20] rfl
  have hRf : (rmL lv').frames + 1 ≤ X.1.2.2.2.1.frames := by rw [hR]; exact hlv
  have hRl : 8 + (nL' + 11) + (rmL lv').locals ≤ X.1.2.2.2.1.locals := by
    rw [hR]
    show 8 + (nL' + 11) + 28 * lv' ≤ 322
    omega
  refine va_calli (va_runV (As := as) (rest := rest) ⟨hx, hb, hml, hown, hts⟩ (M _ D.1 D.2 h' d' H.size) (cwV as.length hts hG rfl rfl rfl hd ⟨hRf, hRl⟩) ⟨fun a U g mk q => by obtain ⟨q0, q1, qP, qK, qD⟩ := q; exact ⟨q0, q1, qP, va_K.moved (u := U) (U := U.calling g mk a) (Vm.Alike.refl U.vm) qK, qD⟩, va_recv hKc hPc (ci := 1) (q0 := 0) rfl rfl, fun U hU hW => ⟨rfl, by rw [hU], by rw [hU]; exact hPc, va_K.moved hW.alike hKc, hDc.weaken (fun _ _ _ _ => trivial)⟩⟩ rfl rfl (hL.1.trans hnL) rfl (lv_room hro) dd ⟨by rw [hR]; exact hc0, by rw [hR]; exact hs0⟩) hS (fun q _ h => hFc q h) hFc (fun r u t H1 locs1 ht hvm hw hB hz1 hk1 hS1 => ?_)
  obtain ⟨hP1, hK1, hD1⟩ := hB
  rw [ht] at hP1
  obtain ⟨hP2, hD2⟩ := va_join (wr := xaW h d σ) (w1 := xbW h' d' u) hP hD [13, 14, 15, 16, 17, 18, 19, 20] [0, 1, 2, 3, 4, 5, 6, 7, 8, 9, 10, 11, 12] rfl rfl (by decide) (by decide) hk1 hFc hP1 hD1
  exact kk r u hw H1 locs1 ls (hP2.sub (ws' := xaW h d σ ++ xbW h' d' u) [0, 1, 2, 3, 4, 5, 6, 7, 8, 9, 10, 11, 12, 13, 14, 15, 16, 17, 18, 19, 20] rfl) hS1 hL
set_option maxHeartbeats 4000000 in
set_option maxRecDepth 100000 in
theorem xl_callvB (C : zCL X D h d h' d' b L xs) {lv' : Nat} {y : MethodName} {cc' : ByteArray} {nL' idx nA : Nat} {as st : List Value} {post' : Option Int32 → Sg → Prop} (hG : GoodIn lw_all (wsV R_law idx RX1 y (ws_ y cc' nL' none))) (hd : y.cls = RX1 ∧ y.cls ≠ "java/lang/invoke/MethodHandle" ∧ y.cls ≠ "java/lang/invoke/VarHandle" ∧ (parseMethodDescriptor y.desc).map (fun d => d.parameters.length) = some nA) (hlv : lv' + 1 ≤ 9) (hn : nL' ≤ 9) (hst : st = as.reverse ++ .ref (h' 0) :: rest) (hro : (rest.map fun v => v.category).sum ≤ 8) (dd : decode cL_law pc = .ok (.invokevirtual idx, 3)) (M : XB lv' y cc' nL' none as τ post') (hlen : as.length = nA) (kk : ∀ (u : Sg), post' none u → XW X (zLP D h d h' d' σ u) (pc + 3) LL rest) : XW X (zLP D h d h' d' σ τ) pc LL st := by
  intro H locs ls hP hS hL
  obtain ⟨⟨hx, hb, hnL⟩, hml, hown, hts, hK, hD0, hA, hR, ⟨hc0, hs0⟩, -, -⟩ := C
  subst hst
  subst hlen
  have hD := hD0 σ τ
  have hP : va_P D vwCl (xaW h d σ ++ xbW h' d' τ) H := hP
  have hPc := hP.sub (ws' := xbW h' d' τ) [13, 14, 15, 16, 17, 18, 19, 20] rfl
  have hDc := hD.sub (ws' := xbW h' d' τ) [13, 14, 15, 16, 17, 18, 19, 20] (by decide) rfl
  have hKc := hK.sub (tys' := xbT d') [12, 13, 14, 15, 16, 17, 18] rfl
  have hFc := va_free (wc := xbW h' d' τ) hD hS hA [13, 14, 15, 16, 17, 18, 19, 20] rfl
  have hRf : (rmL lv').frames + 1 ≤ X.1.2.2.2.1.frames := by rw [hR]; exact hlv
  have hRl : 8 + (nL' + 11) + (rmL lv').locals ≤ X.1.2.2.2.1.locals := by
    rw [hR]
    show 8 + (nL' + 11) + 28 * lv' ≤ 322
    omega
  refine va_callv (va_runV (As := as) (rest := rest) ⟨hx, hb, hml, hown, hts⟩ (M _ D.1 D.2 h' d' H.size) (cwV as.length hts hG rfl rfl rfl hd ⟨hRf, hRl⟩) ⟨fun a U g mk q => by obtain ⟨q0, q1, qP, qK, qD⟩ := q; exact ⟨q0, q1, qP, va_K.moved (u := U) (U := U.calling g mk a) (Vm.Alike.refl U.vm) qK, qD⟩, va_recv hKc hPc (ci := 1) (q0 := 0) rfl rfl, fun U hU hW => ⟨rfl, by rw [hU], by rw [hU]; exact hPc, va_K.moved hW.alike hKc, hDc.weaken (fun _ _ _ _ => trivial)⟩⟩ rfl rfl (hL.1.trans hnL) rfl (lv_room hro) dd ⟨by rw [hR]; exact hc0, by rw [hR]; exact hs0⟩) hS (fun q _ h => hFc q h) hFc (fun u t H1 locs1 ht hvm hw hB hz1 hk1 hS1 => ?_)
  obtain ⟨hP1, hK1, hD1⟩ := hB
  rw [ht] at hP1
  obtain ⟨hP2, hD2⟩ := va_join (wr := xaW h d σ) (w1 := xbW h' d' u) hP hD [13, 14, 15, 16, 17, 18, 19, 20] [0, 1, 2, 3, 4, 5, 6, 7, 8, 9, 10, 11, 12] rfl rfl (by decide) (by decide) hk1 hFc hP1 hD1
  exact kk u hw H1 locs1 ls (hP2.sub (ws' := xaW h d σ ++ xbW h' d' u) [0, 1, 2, 3, 4, 5, 6, 7, 8, 9, 10, 11, 12, 13, 14, 15, 16, 17, 18, 19, 20] rfl) hS1 hL
end LR
theorem xa_mono {lv : Nat} {y : MethodName} {cc : ByteArray} {nL : Nat} {as : List Value} {σ : Sg} {post post' : Option Int32 → Sg → Prop} (hh : XA lv y cc nL none as σ post) (hi : ∀ u, post none u → post' none u) : XA lv y cc nL none as σ post' := by
  intro l dC dI h d sz p e a1 a2 a3 s m args below b1 b2 b3 b4
  obtain ⟨n, o, c1, c2, c3, c4, c5⟩ := hh l dC dI h d sz p e a1 a2 a3 s m args below b1 b2 b3 b4
  obtain ⟨⟨u, d1, d2, d3⟩, d4⟩ := c4
  exact ⟨n, o, c1, c2, c3, ⟨⟨u, d1, hi _ d2, d3⟩, d4⟩, c5⟩
end
section
/-! both objects hold the same program, variables and outputs -/
def PCq (σ : Sg) (g : Pg) (υ : Sg) : Prop := υ 0 6 = 1 ∧ υ 0 7 = bI (snd g) ∧ F3 σ υ ∧ (snd g = true → Cod υ (cmF g))
def LI (σ τ : Sg) (g : Pg) (k : Nat) : Prop := Sx σ g ∧ Sm τ g ∧ (∀ j, j ≤ 5 → σ 5 j = τ 5 j) ∧ (σ 0 19 = nI k ∧ τ 0 7 = nI k ∧ k < 2 ^ 30) ∧ (∀ j, σ 20 j = τ 6 j) ∧ (σ 0 6 = 0 ∨ (σ 0 6 = 1 ∧ σ 0 7 = bI (snd g) ∧ (snd g = true → Cod σ (cmF g))))
theorem F3.rf (σ : Sg) : F3 σ σ := ⟨fun _ _ _ _ _ _ _ _ => rfl, fun _ _ _ _ _ _ _ => rfl⟩
section LI
variable {σ τ σ' τ' : Sg} {g : Pg} {k : Nat} {r r' : Int32}
theorem x_compile (I : LI σ τ g k) : XA 5 yX0_compile cX0_compile 2 none [] σ (fun _ υ => PCq σ g υ) := by
  obtain ⟨S, S2, hv, hk, ho, hc⟩ := I
  rcases hc with h6 | ⟨h6, h7, hcod⟩
  · exact xa_mono (c_compile σ g S h6) (fun u h => h.2)
  · exact xa_mono (c_compile_done σ h6) (fun u h => by rw [h.2]; exact ⟨h6, h7, F3.rf σ, hcod⟩)
theorem li_pc (I : LI σ τ g k) (P : PCq σ g σ') : LI σ' τ g k := by
  obtain ⟨S, S2, hv, ⟨k1, k2, k3⟩, ho, hc⟩ := I
  obtain ⟨p1, p2, p3, p4⟩ := P
  refine ⟨S.f3 p3, S2, fun j hj => ?_, ⟨?_, k2, k3⟩, fun j => ?_, Or.inr ⟨p1, p2, p4⟩⟩
  · rw [p3.1 5 j (by decide) (by decide) (by decide) (by decide) (by decide) (by decide)]
    exact hv j hj
  · rw [p3.2 19 (by decide) (by decide) (by decide) (by decide) (by decide) (by decide)]
    exact k1
  · rw [p3.1 20 j (by decide) (by decide) (by decide) (by decide) (by decide) (by decide)]
    exact ho j
theorem li_sound (I : LI σ τ g k) (u : some r = some (bI (snd g)) ∧ PCq σ g σ') (u' : τ' = τ ∧ some r' = some (bI (snd g))) : r = r' ∧ ∃ g' k', LI σ' τ' g' k' := by
  obtain ⟨u1, u2⟩ := u
  obtain ⟨v1, v2⟩ := u'
  subst v1
  exact ⟨(Option.some.inj u1).trans (Option.some.inj v2).symm, g, k, li_pc I u2⟩
theorem li_run_no (I : LI σ τ g k) (u : some r = some (-3) ∧ PCq σ g σ') (u' : some r' = some (-3) ∧ τ' = τ) : r = r' ∧ ∃ g' k', LI σ' τ' g' k' := by
  obtain ⟨u1, u2⟩ := u
  obtain ⟨v2, v1⟩ := u'
  subst v1
  exact ⟨(Option.some.inj u1).trans (Option.some.inj v2).symm, g, k, li_pc I u2⟩
theorem li_run (I : LI σ τ g k) (z : Ms) (hz : z.2.2.2.1 < 2 ^ 30) (u : rnQ (PCq σ g) z.2.1 z.2.2.2.1 z.2.2.2.2 (some r) σ') (u' : some r' = some (nI z.2.2.2.1) ∧ Mm τ' z ∧ Fs τ τ') : r = r' ∧ ∃ g' k', LI σ' τ' g' k' := by
  obtain ⟨u1, τ0, P, f1, f2, w1, w2, w3⟩ := u
  obtain ⟨v1, ⟨m1, m2, m3, m4⟩, v3⟩ := u'
  have I2 := li_pc I P
  obtain ⟨S, S2, hv, ⟨k1, k2, k3⟩, ho, hc⟩ := I2
  have S3 : Sx σ' g := S.of (f2 0 (by decide) (by decide)) (fun j => f1 1 j (by decide) (by decide) (by decide) (by decide)) (fun j => f1 2 j (by decide) (by decide) (by decide) (by decide)) (fun j => f1 3 j (by decide) (by decide) (by decide) (by decide)) (fun j => f1 4 j (by decide) (by decide) (by decide) (by decide))
  refine ⟨(Option.some.inj u1).trans (Option.some.inj v1).symm, g, z.2.2.2.1, S3, S2.fs v3, fun j hj => ?_, ⟨w2, m3, hz⟩, fun j => ?_, Or.inr ⟨?_, ?_, fun hs => ?_⟩⟩
  · rw [w1 j (by omega), m1 j]
  · rw [w3 j, m4 j]
  · rw [f2 6 (by decide) (by decide)]
    exact P.1
  · rw [f2 7 (by decide) (by decide)]
    exact P.2.1
  · obtain ⟨c1, c2, c3⟩ := P.2.2.2 hs
    refine ⟨by rw [f2 8 (by decide) (by decide)]; exact c1, c2, fun i o n hi => ?_⟩
    rw [f1 9 i (by decide) (by decide) (by decide) (by decide), f1 10 i (by decide) (by decide) (by decide) (by decide)]
    exact c3 i o n hi
theorem li_add {a b c e : Int32} (I : LI σ τ g k) (u : (pN g = 40 → some r = some (-2) ∧ σ' = σ) ∧ (pN g < 40 → ¬ vld a b c e → some r = some (-1) ∧ σ' = σ) ∧ (pN g < 40 → vld a b c e → some r = some (nI (pN g + 1)) ∧ Sx σ' (ext g a b c e) ∧ σ' 0 6 = 0 ∧ Fa σ σ')) (u' : (pN g = 40 → some r' = some (-2) ∧ τ' = τ) ∧ (pN g < 40 → ¬ vld a b c e → some r' = some (-1) ∧ τ' = τ) ∧ (pN g < 40 → vld a b c e → some r' = some (nI (pN g + 1)) ∧ Sm τ' (ext g a b c e) ∧ Fb τ τ')) : r = r' ∧ ∃ g' k', LI σ' τ' g' k' := by
  have hn := I.1.1.1
  by_cases n40 : pN g = 40
  · obtain ⟨u1, u2⟩ := u.1 n40
    obtain ⟨v1, v2⟩ := u'.1 n40
    rw [u2, v2]
    exact ⟨(Option.some.inj u1).trans (Option.some.inj v1).symm, g, k, I⟩
  · by_cases V : vld a b c e
    · obtain ⟨u1, u2, u3, u4⟩ := u.2.2 (by omega) V
      obtain ⟨v1, v2, v3⟩ := u'.2.2 (by omega) V
      obtain ⟨S, S2, hv, ⟨k1, k2, k3⟩, ho, hc⟩ := I
      refine ⟨(Option.some.inj u1).trans (Option.some.inj v1).symm, ext g a b c e, k, u2, v2, fun j hj => ?_, ⟨?_, ?_, k3⟩, fun j => ?_, Or.inl u3⟩
      · rw [u4.1 5 j (by decide), v3.1 5 j (by decide)]
        exact hv j hj
      · rw [u4.2 19 (by decide) (by decide)]
        exact k1
      · rw [v3.2 7 (by decide)]
        exact k2
      · rw [u4.1 20 j (by decide), v3.1 6 j (by decide)]
        exact ho j
    · obtain ⟨u1, u2⟩ := u.2.1 (by omega) V
      obtain ⟨v1, v2⟩ := u'.2.1 (by omega) V
      rw [u2, v2]
      exact ⟨(Option.some.inj u1).trans (Option.some.inj v1).symm, g, k, I⟩
/-- the program without its last statements -/
def rt (g : Pg) (n : Nat) : Pg := (n, g.2)
theorem rt_ok {n : Nat} (H : Pok g) (h : n ≤ pN g) : Pok (rt g n) := ⟨Nat.le_trans h H.1, fun i hi => H.2 i (Nat.lt_of_lt_of_le hi h)⟩
theorem Sx.rt {n : Nat} (S : Sx σ g) (h : n ≤ pN g) (e0 : σ' 0 0 = nI n) (e1 : ∀ r j, 1 ≤ r → r ≤ 4 → σ' r j = σ r j) : Sx σ' (rt g n) := by
  refine ⟨rt_ok S.1 h, e0, fun i hi => ?_⟩
  rw [e1 1 i (by decide) (by decide), e1 2 i (by decide) (by decide), e1 3 i (by decide) (by decide), e1 4 i (by decide) (by decide)]
  exact S.2.2 i (Nat.lt_of_lt_of_le hi h)
theorem Sm.rt {n : Nat} (S : Sm τ g) (h : n ≤ pN g) (e0 : τ' 0 0 = nI n) (e1 : ∀ r j, 1 ≤ r → r ≤ 4 → τ' r j = τ r j) : Sm τ' (rt g n) := by
  refine ⟨rt_ok S.1 h, e0, fun i hi => ?_⟩
  rw [e1 1 i (by decide) (by decide), e1 2 i (by decide) (by decide), e1 3 i (by decide) (by decide), e1 4 i (by decide) (by decide)]
  exact S.2.2 i (Nat.lt_of_lt_of_le hi h)
theorem li_retract (I : LI σ τ g k) (u : (pN g = 0 → some r = some (-1) ∧ σ' = σ) ∧ (pN g ≠ 0 → some r = some (nI (pN g - 1)) ∧ σ' = su (su σ 0 0 (nI (pN g - 1))) 0 6 0)) (u' : (pN g = 0 → some r' = some (-1) ∧ τ' = τ) ∧ (pN g ≠ 0 → some r' = some (nI (pN g - 1)) ∧ τ' = su τ 0 0 (nI (pN g - 1)))) : r = r' ∧ ∃ g' k', LI σ' τ' g' k' := by
  by_cases n0 : pN g = 0
  · obtain ⟨u1, u2⟩ := u.1 n0
    obtain ⟨v1, v2⟩ := u'.1 n0
    rw [u2, v2]
    exact ⟨(Option.some.inj u1).trans (Option.some.inj v1).symm, g, k, I⟩
  · obtain ⟨u1, u2⟩ := u.2 n0
    obtain ⟨v1, v2⟩ := u'.2 n0
    obtain ⟨S, S2, hv, ⟨k1, k2, k3⟩, ho, hc⟩ := I
    rw [u2, v2]
    refine ⟨(Option.some.inj u1).trans (Option.some.inj v1).symm, _, k, S.rt (n := pN g - 1) (by omega) rfl (fun q j h1 h2 => ?_), S2.rt (n := pN g - 1) (by omega) rfl (fun q j h1 h2 => ?_), fun j hj => hv j hj, ⟨k1, k2, k3⟩, fun j => ho j, Or.inl rfl⟩
    · simp only [su]
      rw [if_neg (by omega), if_neg (by omega)]
    · simp only [su]
      rw [if_neg (by omega)]
theorem li_clear (I : LI σ τ g k) (u : σ' = zr (su (su (su σ 0 0 0) 0 19 0) 0 6 0) 5 6) (u' : τ' = zr (su (su τ 0 0 0) 0 7 0) 5 6) : ∃ g' k', LI σ' τ' g' k' := by
  obtain ⟨S, S2, hv, ⟨k1, k2, k3⟩, ho, hc⟩ := I
  rw [u, u']
  refine ⟨_, 0, S.rt (n := 0) (by omega) rfl (fun q j h1 h2 => ?_), S2.rt (n := 0) (by omega) rfl (fun q j h1 h2 => ?_), fun j hj => ?_, ⟨rfl, rfl, by decide⟩, fun j => ?_, Or.inl rfl⟩
  · simp only [su, zr]
    rw [if_neg (by omega), if_neg (by omega), if_neg (by omega), if_neg (by omega)]
  · simp only [su, zr]
    rw [if_neg (by omega), if_neg (by omega), if_neg (by omega)]
  · simp only [zr]
    rw [if_pos ⟨trivial, by omega⟩, if_pos ⟨trivial, by omega⟩]
  · exact ho j
theorem li_put {v w : Int32} (I : LI σ τ g k) (u : (∀ j, j ≤ 5 → v = nI j → some r = some 1 ∧ σ' = su σ 5 j w) ∧ ((∀ j, j ≤ 5 → v ≠ nI j) → some r = some 0 ∧ σ' = σ)) (u' : (∀ j, j ≤ 5 → v = nI j → some r' = some 1 ∧ τ' = su τ 5 j w) ∧ ((∀ j, j ≤ 5 → v ≠ nI j) → some r' = some 0 ∧ τ' = τ)) : r = r' ∧ ∃ g' k', LI σ' τ' g' k' := by
  by_cases V : ∃ j, j ≤ 5 ∧ v = nI j
  · obtain ⟨j, hj, e⟩ := V
    obtain ⟨u1, u2⟩ := u.1 j hj e
    obtain ⟨v1, v2⟩ := u'.1 j hj e
    obtain ⟨S, S2, hv, ⟨k1, k2, k3⟩, ho, hc⟩ := I
    rw [u2, v2]
    refine ⟨(Option.some.inj u1).trans (Option.some.inj v1).symm, g, k, S.of rfl (fun _ => rfl) (fun _ => rfl) (fun _ => rfl) (fun _ => rfl), S2.of rfl (fun _ => rfl) (fun _ => rfl) (fun _ => rfl) (fun _ => rfl), fun i hi => ?_, ⟨k1, k2, k3⟩, fun i => ho i, ?_⟩
    · simp only [su]
      rw [if_pos trivial, if_pos trivial, hv i hi]
    · rcases hc with h6 | ⟨h6, h7, hcod⟩
      · exact Or.inl h6
      · exact Or.inr ⟨h6, h7, fun hs => hcod hs⟩
  · have V2 : ∀ j, j ≤ 5 → v ≠ nI j := fun j hj e => V ⟨j, hj, e⟩
    obtain ⟨u1, u2⟩ := u.2 V2
    obtain ⟨v1, v2⟩ := u'.2 V2
    rw [u2, v2]
    exact ⟨(Option.some.inj u1).trans (Option.some.inj v1).symm, g, k, I⟩
theorem li_variable {v : Int32} (I : LI σ τ g k) (u : σ' = σ ∧ (∀ j, j ≤ 5 → v = nI j → some r = some (σ 5 j)) ∧ ((∀ j, j ≤ 5 → v ≠ nI j) → some r = some 0)) (u' : τ' = τ ∧ (∀ j, j ≤ 5 → v = nI j → some r' = some (τ 5 j)) ∧ ((∀ j, j ≤ 5 → v ≠ nI j) → some r' = some 0)) : r = r' ∧ ∃ g' k', LI σ' τ' g' k' := by
  obtain ⟨u0, u1, u2⟩ := u
  obtain ⟨v0, v1, v2⟩ := u'
  rw [u0, v0]
  refine ⟨?_, g, k, I⟩
  by_cases V : ∃ j, j ≤ 5 ∧ v = nI j
  · obtain ⟨j, hj, e⟩ := V
    rw [Option.some.inj (u1 j hj e), Option.some.inj (v1 j hj e)]
    exact I.2.2.1 j hj
  · have V2 : ∀ j, j ≤ 5 → v ≠ nI j := fun j hj e => V ⟨j, hj, e⟩
    rw [Option.some.inj (u2 V2), Option.some.inj (v2 V2)]
theorem li_printed (I : LI σ τ g k) (u : σ' = σ ∧ some r = some (σ 0 19)) (u' : τ' = τ ∧ some r' = some (τ 0 7)) : r = r' ∧ ∃ g' k', LI σ' τ' g' k' := by
  rw [u.1, u'.1]
  refine ⟨?_, g, k, I⟩
  rw [Option.some.inj u.2, Option.some.inj u'.2, I.2.2.2.1.1, I.2.2.2.1.2.1]
theorem li_output {v : Int32} (I : LI σ τ g k) (u : σ' = σ ∧ (∀ j, j < k → j < 64 → v = nI j → some r = some (σ 20 j)) ∧ ((∀ j, j < k → j < 64 → v ≠ nI j) → some r = some 0)) (u' : τ' = τ ∧ (∀ j, j < k → j < 64 → v = nI j → some r' = some (τ 6 j)) ∧ ((∀ j, j < k → j < 64 → v ≠ nI j) → some r' = some 0)) : r = r' ∧ ∃ g' k', LI σ' τ' g' k' := by
  obtain ⟨u0, u1, u2⟩ := u
  obtain ⟨v0, v1, v2⟩ := u'
  rw [u0, v0]
  refine ⟨?_, g, k, I⟩
  by_cases V : ∃ j, j < k ∧ j < 64 ∧ v = nI j
  · obtain ⟨j, hj, h64, e⟩ := V
    rw [Option.some.inj (u1 j hj h64 e), Option.some.inj (v1 j hj h64 e)]
    exact I.2.2.2.2.1 j
  · have V2 : ∀ j, j < k → j < 64 → v ≠ nI j := fun j hj h64 e => V ⟨j, hj, h64, e⟩
    rw [Option.some.inj (u2 V2), Option.some.inj (v2 V2)]
theorem li_0 : LI zs zs (0, fun _ => 0, fun _ => 0, fun _ => 0, fun _ => 0, fun _ => 0) 0 := by
  have H : Pok (0, fun _ => 0, fun _ => 0, fun _ => 0, fun _ => 0, fun _ => 0) := ⟨Nat.zero_le _, fun i hi => absurd hi (Nat.not_lt_zero i)⟩
  exact ⟨⟨H, rfl, fun i hi => absurd hi (Nat.not_lt_zero i)⟩, ⟨H, rfl, fun i hi => absurd hi (Nat.not_lt_zero i)⟩, fun _ _ => rfl, ⟨rfl, rfl, by decide⟩, fun _ => rfl, Or.inl rfl⟩
end LI
end
section
/-! THE LAW -/
set_option maxHeartbeats 4000000 in
set_option maxRecDepth 100000 in
theorem law_loop {X : CX} {D : va_G} {h : Nat → Nat} {d : Nat → ClassId} {h' : Nat → Nat} {d' : Nat → ClassId} {b L : Nat} {xs : Nat → Int32} (C : zCL X D h d h' d' b L xs) :
    ∀ (n i : Nat) (σ τ : Sg) (g : Pg) (k : Nat), i ≤ L → L + 1 ≤ i + n → LI σ τ g k → XW X (zLP D h d h' d' σ τ) 18 [(3, .int (nI i)), (2, .ref (h' 0)), (1, .ref (h 0)), (0, .ref b)] [] := by
  have B := C.1
  have hL3 : L ≤ 320 := C.2.2.2.2.2.2.2.2.2.1.2.2.2
  intro n
  induction n with
  | zero => intro i σ τ g k h1 h2; omega
  | succ n ih =>
    intro i σ τ g k h1 h2 I
    by_cases h5 : i + 5 ≤ L
    · have e5 : nI L - nI 5 = nI (L - 5) := zsub (by omega)
      have J279 : ∀ (σ' τ' : Sg), (∃ g' k', LI σ' τ' g' k') → XW X (zLP D h d h' d' σ' τ') 279 [(3, .int (nI i)), (2, .ref (h' 0)), (1, .ref (h 0)), (0, .ref b)] [] := by
        intro σ' τ' hI
        obtain ⟨g', k', I'⟩ := hI
        refine xw_iinc B dL_law_279 rfl ((show nI i + Int32.ofInt 5 = nI (i + 5) by rw [show Int32.ofInt 5 = nI 5 by decide]; exact nI_add i 5)) (by decide) ?_
        refine xw_goto (tgt := 18) B dL_law_282 (by decide) ?_
        refine xw_loc [(3, .int (nI (i + 5))), (2, .ref (h' 0)), (1, .ref (h 0)), (0, .ref b)] ⟨rfl, rfl, rfl, rfl, trivial⟩ ?_
        exact ih (i + 5) σ' τ' g' k' (by omega) (by omega) I'
      refine xw_iload_n B dL_law_18 rfl ?_
      refine xw_aload_n B dL_law_19 rfl ?_
      refine xl_slen C dL_law_20 ?_
      refine xw_iconst (v := nI 5) B dL_law_21 (by decide) ?_
      refine xw_isub B dL_law_22 (e5) ?_
      refine xw_icmp_gt (tgt := 285) B dL_law_23 (by decide) (fun q => absurd q (by rw [zlt (by omega) (by omega)]; omega)) (fun _ => ?_)
      refine xw_aload_n B dL_law_26 rfl ?_
      refine xw_iload_n B dL_law_27 rfl ?_
      refine xl_sld C dL_law_28 (i) (rfl) (by omega) (rfl) ?_
      refine xw_bipush (v := nI 15) B dL_law_29 (by decide) ?_
      refine xw_iand B dL_law_31 (rfl) ?_
      generalize xs i &&& nI 15 = t
      by_cases t0 : t < 0
      · refine xl_tabOut (tgt := 279) C dL_law_32 (Or.inl ?_) (by decide) ?_
        · rw [Int32.lt_iff_toInt_lt] at t0
          exact t0
        · exact J279 σ τ ⟨g, k, I⟩
      · by_cases t8 : t ≤ nI 8
        · obtain ⟨j, hj, e⟩ := nI_of2 (M := nI 8) (n := 8) (by decide) t0 t8
          subst e
          have hjs : j = 0 ∨ j = 1 ∨ j = 2 ∨ j = 3 ∨ j = 4 ∨ j = 5 ∨ j = 6 ∨ j = 7 ∨ j = 8 := by omega
          rcases hjs with e | e | e | e | e | e | e | e | e <;> subst e
          · refine xl_tabIn (tgt := 84) (off := 52) C dL_law_32 (by decide) (by decide) (by decide) (by decide) ?_
            refine xw_aload_n B dL_law_84 rfl ?_
            refine xw_aload_n B dL_law_85 rfl ?_
            refine xw_iload_n B dL_law_86 rfl ?_
            refine xw_iconst (v := nI 1) B dL_law_87 (by decide) ?_
            refine xw_iadd B dL_law_88 (nI_add i 1) ?_
            refine xl_sld C dL_law_89 (i + 1) (rfl) (by omega) (rfl) ?_
            refine xw_aload_n B dL_law_90 rfl ?_
            refine xw_iload_n B dL_law_91 rfl ?_
            refine xw_iconst (v := nI 2) B dL_law_92 (by decide) ?_
            refine xw_iadd B dL_law_93 (nI_add i 2) ?_
            refine xl_sld C dL_law_94 (i + 2) (rfl) (by omega) (rfl) ?_
            refine xw_aload_n B dL_law_95 rfl ?_
            refine xw_iload_n B dL_law_96 rfl ?_
            refine xw_iconst (v := nI 3) B dL_law_97 (by decide) ?_
            refine xw_iadd B dL_law_98 (nI_add i 3) ?_
            refine xl_sld C dL_law_99 (i + 3) (rfl) (by omega) (rfl) ?_
            refine xw_aload_n B dL_law_100 rfl ?_
            refine xw_iload_n B dL_law_101 rfl ?_
            refine xw_iconst (v := nI 4) B dL_law_102 (by decide) ?_
            refine xw_iadd B dL_law_103 (nI_add i 4) ?_
            refine xl_sld C dL_law_104 (i + 4) (rfl) (by omega) (rfl) ?_
            refine xl_calliA C (lw_V q109 q110 q111 q32 q112) hdX0_add (by decide) (by decide) rfl (Nat.le_of_ble_eq_true rfl) dL_law_105 (c_add σ g I.1 (xs (i + 1)) (xs (i + 2)) (xs (i + 3)) (xs (i + 4))) rfl (fun r σ1 u => ?_)
            refine xw_aload_n B dL_law_108 rfl ?_
            refine xw_aload_n B dL_law_109 rfl ?_
            refine xw_iload_n B dL_law_110 rfl ?_
            refine xw_iconst (v := nI 1) B dL_law_111 (by decide) ?_
            refine xw_iadd B dL_law_112 (nI_add i 1) ?_
            refine xl_sld C dL_law_113 (i + 1) (rfl) (by omega) (rfl) ?_
            refine xw_aload_n B dL_law_114 rfl ?_
            refine xw_iload_n B dL_law_115 rfl ?_
            refine xw_iconst (v := nI 2) B dL_law_116 (by decide) ?_
            refine xw_iadd B dL_law_117 (nI_add i 2) ?_
            refine xl_sld C dL_law_118 (i + 2) (rfl) (by omega) (rfl) ?_
            refine xw_aload_n B dL_law_119 rfl ?_
            refine xw_iload_n B dL_law_120 rfl ?_
            refine xw_iconst (v := nI 3) B dL_law_121 (by decide) ?_
            refine xw_iadd B dL_law_122 (nI_add i 3) ?_
            refine xl_sld C dL_law_123 (i + 3) (rfl) (by omega) (rfl) ?_
            refine xw_aload_n B dL_law_124 rfl ?_
            refine xw_iload_n B dL_law_125 rfl ?_
            refine xw_iconst (v := nI 4) B dL_law_126 (by decide) ?_
            refine xw_iadd B dL_law_127 (nI_add i 4) ?_
            refine xl_sld C dL_law_128 (i + 4) (rfl) (by omega) (rfl) ?_
            refine xl_calliB C (lw_V q268 q269 q270 q33 q271) hdX1_add (by decide) (by decide) rfl (Nat.le_of_ble_eq_true rfl) dL_law_129 (b_add τ g I.2.1 (xs (i + 1)) (xs (i + 2)) (xs (i + 3)) (xs (i + 4))) rfl (fun r' τ1 u' => ?_)
            obtain ⟨er, hI⟩ := li_add I u u'
            refine xw_icmp_eq (tgt := 279) B dL_law_132 (by decide) (fun _ => ?_) (fun q => absurd (er) q)
            exact J279 σ1 τ1 hI
          · refine xl_tabIn (tgt := 137) (off := 105) C dL_law_32 (by decide) (by decide) (by decide) (by decide) ?_
            refine xw_aload_n B dL_law_137 rfl ?_
            refine xl_calliA C (lw_V q113 q114 q115 q32 q116) hdX0_retract (by decide) (by decide) rfl (Nat.le_of_ble_eq_true rfl) dL_law_138 (c_retract σ (pN g) I.1.1.1 I.1.2.1) rfl (fun r σ1 u => ?_)
            refine xw_aload_n B dL_law_141 rfl ?_
            refine xl_calliB C (lw_V q280 q281 q282 q33 q283) hdX1_retract (by decide) (by decide) rfl (Nat.le_of_ble_eq_true rfl) dL_law_142 (b_retract τ (pN g) I.2.1.1.1 I.2.1.2.1) rfl (fun r' τ1 u' => ?_)
            obtain ⟨er, hI⟩ := li_retract I u u'
            refine xw_icmp_eq (tgt := 279) B dL_law_145 (by decide) (fun _ => ?_) (fun q => absurd (er) q)
            exact J279 σ1 τ1 hI
          · refine xl_tabIn (tgt := 150) (off := 118) C dL_law_32 (by decide) (by decide) (by decide) (by decide) ?_
            refine xw_aload_n B dL_law_150 rfl ?_
            refine xl_calliA C (lw_V q117 q118 q119 q32 q120) hdX0_sound (by decide) (by decide) rfl (Nat.le_of_ble_eq_true rfl) dL_law_151 (c_sound σ (PCq σ g) (snd g) (x_compile I) (fun υ P => P.2.1)) rfl (fun r σ1 u => ?_)
            refine xw_aload_n B dL_law_154 rfl ?_
            refine xl_calliB C (lw_V q284 q285 q286 q33 q287) hdX1_sound (by decide) (by decide) rfl (Nat.le_of_ble_eq_true rfl) dL_law_155 (b_sound τ g I.2.1) rfl (fun r' τ1 u' => ?_)
            obtain ⟨er, hI⟩ := li_sound I u u'
            refine xw_icmp_eq (tgt := 279) B dL_law_158 (by decide) (fun _ => ?_) (fun q => absurd (er) q)
            exact J279 σ1 τ1 hI
          · refine xl_tabIn (tgt := 163) (off := 131) C dL_law_32 (by decide) (by decide) (by decide) (by decide) ?_
            refine xw_aload_n B dL_law_163 rfl ?_
            refine xw_aload_n B dL_law_164 rfl ?_
            refine xw_iload_n B dL_law_165 rfl ?_
            refine xw_iconst (v := nI 1) B dL_law_166 (by decide) ?_
            refine xw_iadd B dL_law_167 (nI_add i 1) ?_
            refine xl_sld C dL_law_168 (i + 1) (rfl) (by omega) (rfl) ?_
            refine xw_aload_n B dL_law_169 rfl ?_
            refine xw_iload_n B dL_law_170 rfl ?_
            refine xw_iconst (v := nI 2) B dL_law_171 (by decide) ?_
            refine xw_iadd B dL_law_172 (nI_add i 2) ?_
            refine xl_sld C dL_law_173 (i + 2) (rfl) (by omega) (rfl) ?_
            refine xl_calliA C (lw_V q193 q194 q195 q32 q196) hdX0_put (by decide) (by decide) rfl (Nat.le_of_ble_eq_true rfl) dL_law_174 (c_put σ (xs (i + 1)) (xs (i + 2))) rfl (fun r σ1 u => ?_)
            refine xw_aload_n B dL_law_177 rfl ?_
            refine xw_aload_n B dL_law_178 rfl ?_
            refine xw_iload_n B dL_law_179 rfl ?_
            refine xw_iconst (v := nI 1) B dL_law_180 (by decide) ?_
            refine xw_iadd B dL_law_181 (nI_add i 1) ?_
            refine xl_sld C dL_law_182 (i + 1) (rfl) (by omega) (rfl) ?_
            refine xw_aload_n B dL_law_183 rfl ?_
            refine xw_iload_n B dL_law_184 rfl ?_
            refine xw_iconst (v := nI 2) B dL_law_185 (by decide) ?_
            refine xw_iadd B dL_law_186 (nI_add i 2) ?_
            refine xl_sld C dL_law_187 (i + 2) (rfl) (by omega) (rfl) ?_
            refine xl_calliB C (lw_V q300 q301 q302 q33 q303) hdX1_put (by decide) (by decide) rfl (Nat.le_of_ble_eq_true rfl) dL_law_188 (b_put τ (xs (i + 1)) (xs (i + 2))) rfl (fun r' τ1 u' => ?_)
            obtain ⟨er, hI⟩ := li_put I u u'
            refine xw_icmp_eq (tgt := 279) B dL_law_191 (by decide) (fun _ => ?_) (fun q => absurd (er) q)
            exact J279 σ1 τ1 hI
          · refine xl_tabIn (tgt := 196) (off := 164) C dL_law_32 (by decide) (by decide) (by decide) (by decide) ?_
            refine xw_aload_n B dL_law_196 rfl ?_
            by_cases hs : snd g = true
            · obtain ⟨tt, z, nn, t1, t2, t3, t4, t5⟩ := both I.1.1 hs (τ 5) (τ 8) (τ 6)
              have hz : z.2.2.2.1 < 2 ^ 30 := by
                have := Mn.k t3
                simp only at this
                omega
              refine xl_calliA C (lw_V q197 q198 q199 q32 q200) hdX0_run (by decide) (by decide) rfl (Nat.le_of_ble_eq_true rfl) dL_law_197 (c_run σ (PCq σ g) (x_compile I) z.2.1 (τ 5) z.2.2.2.1 z.2.2.2.2 (τ 6) (cmF g) (fun υ P => by rw [P.2.1, hs]; rfl) (fun υ P => P.2.2.2 hs) (fun υ P v hv => by rw [P.2.2.1.1 5 v (by decide) (by decide) (by decide) (by decide) (by decide) (by decide)]; exact I.2.2.1 v (by omega)) (fun υ P j => by rw [P.2.2.1.1 20 j (by decide) (by decide) (by decide) (by decide) (by decide) (by decide)]; exact I.2.2.2.2.1 j) nn t4 t5) rfl (fun r σ1 u => ?_)
              refine xw_aload_n B dL_law_200 rfl ?_
              refine xl_calliB C (lw_V q304 q305 q306 q33 q307) hdX1_run (by decide) (by decide) rfl (Nat.le_of_ble_eq_true rfl) dL_law_201 (b_run τ g I.2.1 hs tt t1 z t2 t3) rfl (fun r' τ1 u' => ?_)
              obtain ⟨er, hI⟩ := li_run I z hz u u'
              refine xw_icmp_eq (tgt := 279) B dL_law_204 (by decide) (fun _ => ?_) (fun q => absurd (er) q)
              exact J279 σ1 τ1 hI
            · have hs : snd g = false := by simpa using hs
              refine xl_calliA C (lw_V q197 q198 q199 q32 q200) hdX0_run (by decide) (by decide) rfl (Nat.le_of_ble_eq_true rfl) dL_law_197 (c_run_no σ (PCq σ g) (x_compile I) (fun υ P => by rw [P.2.1, hs]; rfl)) rfl (fun r σ1 u => ?_)
              refine xw_aload_n B dL_law_200 rfl ?_
              refine xl_calliB C (lw_V q304 q305 q306 q33 q307) hdX1_run (by decide) (by decide) rfl (Nat.le_of_ble_eq_true rfl) dL_law_201 (b_run_no τ g I.2.1 hs) rfl (fun r' τ1 u' => ?_)
              obtain ⟨er, hI⟩ := li_run_no I u u'
              refine xw_icmp_eq (tgt := 279) B dL_law_204 (by decide) (fun _ => ?_) (fun q => absurd (er) q)
              exact J279 σ1 τ1 hI
          · refine xl_tabIn (tgt := 209) (off := 177) C dL_law_32 (by decide) (by decide) (by decide) (by decide) ?_
            refine xw_aload_n B dL_law_209 rfl ?_
            refine xw_aload_n B dL_law_210 rfl ?_
            refine xw_iload_n B dL_law_211 rfl ?_
            refine xw_iconst (v := nI 1) B dL_law_212 (by decide) ?_
            refine xw_iadd B dL_law_213 (nI_add i 1) ?_
            refine xl_sld C dL_law_214 (i + 1) (rfl) (by omega) (rfl) ?_
            refine xl_calliA C (lw_V q218 q219 q220 q32 q221) hdX0_variable (by decide) (by decide) rfl (Nat.le_of_ble_eq_true rfl) dL_law_215 (c_variable σ (xs (i + 1))) rfl (fun r σ1 u => ?_)
            refine xw_aload_n B dL_law_218 rfl ?_
            refine xw_aload_n B dL_law_219 rfl ?_
            refine xw_iload_n B dL_law_220 rfl ?_
            refine xw_iconst (v := nI 1) B dL_law_221 (by decide) ?_
            refine xw_iadd B dL_law_222 (nI_add i 1) ?_
            refine xl_sld C dL_law_223 (i + 1) (rfl) (by omega) (rfl) ?_
            refine xl_calliB C (lw_V q325 q326 q327 q33 q328) hdX1_variable (by decide) (by decide) rfl (Nat.le_of_ble_eq_true rfl) dL_law_224 (b_variable τ (xs (i + 1))) rfl (fun r' τ1 u' => ?_)
            obtain ⟨er, hI⟩ := li_variable I u u'
            refine xw_icmp_eq (tgt := 279) B dL_law_227 (by decide) (fun _ => ?_) (fun q => absurd (er) q)
            exact J279 σ1 τ1 hI
          · refine xl_tabIn (tgt := 232) (off := 200) C dL_law_32 (by decide) (by decide) (by decide) (by decide) ?_
            refine xw_aload_n B dL_law_232 rfl ?_
            refine xl_calliA C (lw_V q222 q223 q224 q32 q225) hdX0_printed (by decide) (by decide) rfl (Nat.le_of_ble_eq_true rfl) dL_law_233 (c_printed σ) rfl (fun r σ1 u => ?_)
            refine xw_aload_n B dL_law_236 rfl ?_
            refine xl_calliB C (lw_V q329 q330 q331 q33 q332) hdX1_printed (by decide) (by decide) rfl (Nat.le_of_ble_eq_true rfl) dL_law_237 (b_printed τ) rfl (fun r' τ1 u' => ?_)
            obtain ⟨er, hI⟩ := li_printed I u u'
            refine xw_icmp_eq (tgt := 279) B dL_law_240 (by decide) (fun _ => ?_) (fun q => absurd (er) q)
            exact J279 σ1 τ1 hI
          · refine xl_tabIn (tgt := 245) (off := 213) C dL_law_32 (by decide) (by decide) (by decide) (by decide) ?_
            refine xw_aload_n B dL_law_245 rfl ?_
            refine xw_aload_n B dL_law_246 rfl ?_
            refine xw_iload_n B dL_law_247 rfl ?_
            refine xw_iconst (v := nI 1) B dL_law_248 (by decide) ?_
            refine xw_iadd B dL_law_249 (nI_add i 1) ?_
            refine xl_sld C dL_law_250 (i + 1) (rfl) (by omega) (rfl) ?_
            refine xl_calliA C (lw_V q226 q227 q228 q32 q229) hdX0_output (by decide) (by decide) rfl (Nat.le_of_ble_eq_true rfl) dL_law_251 (c_output σ (xs (i + 1)) k I.2.2.2.1.2.2 I.2.2.2.1.1) rfl (fun r σ1 u => ?_)
            refine xw_aload_n B dL_law_254 rfl ?_
            refine xw_aload_n B dL_law_255 rfl ?_
            refine xw_iload_n B dL_law_256 rfl ?_
            refine xw_iconst (v := nI 1) B dL_law_257 (by decide) ?_
            refine xw_iadd B dL_law_258 (nI_add i 1) ?_
            refine xl_sld C dL_law_259 (i + 1) (rfl) (by omega) (rfl) ?_
            refine xl_calliB C (lw_V q333 q334 q335 q33 q336) hdX1_output (by decide) (by decide) rfl (Nat.le_of_ble_eq_true rfl) dL_law_260 (b_output τ (xs (i + 1)) k I.2.2.2.1.2.2 I.2.2.2.1.2.1) rfl (fun r' τ1 u' => ?_)
            obtain ⟨er, hI⟩ := li_output I u u'
            refine xw_icmp_eq (tgt := 279) B dL_law_263 (by decide) (fun _ => ?_) (fun q => absurd (er) q)
            exact J279 σ1 τ1 hI
          · refine xl_tabIn (tgt := 268) (off := 236) C dL_law_32 (by decide) (by decide) (by decide) (by decide) ?_
            refine xw_aload_n B dL_law_268 rfl ?_
            refine xl_callvA C (lw_V q230 q231 q232 q32 q233) hdX0_clear (by decide) (by decide) rfl (Nat.le_of_ble_eq_true rfl) dL_law_269 (c_clear σ) rfl (fun σ1 u => ?_)
            refine xw_aload_n B dL_law_272 rfl ?_
            refine xl_callvB C (lw_V q337 q338 q339 q33 q340) hdX1_clear (by decide) (by decide) rfl (Nat.le_of_ble_eq_true rfl) dL_law_273 (b_clear τ) rfl (fun τ1 u' => ?_)
            have hI := li_clear I u.2 u'.2
            refine xw_goto (tgt := 279) B dL_law_276 (by decide) ?_
            exact J279 σ1 τ1 hI
        · refine xl_tabOut (tgt := 279) C dL_law_32 (Or.inr ?_) (by decide) ?_
          · rw [Int32.le_iff_toInt_le] at t8
            have : (nI 8).toInt = 8 := by decide
            omega
          · exact J279 σ τ ⟨g, k, I⟩
    · have hlt : nI L - nI 5 < nI i := by
        by_cases l5 : 5 ≤ L
        · rw [show nI L - nI 5 = nI (L - 5) from zsub l5, zlt (by omega) (by omega)]
          omega
        · have h0 : ∀ L, L < 5 → nI L - nI 5 < 0 := by decide
          exact Int32.lt_of_lt_of_le (h0 L (by omega)) (nI_pos' (by omega))
      refine xw_iload_n B dL_law_18 rfl ?_
      refine xw_aload_n B dL_law_19 rfl ?_
      refine xl_slen C dL_law_20 ?_
      refine xw_iconst (v := nI 5) B dL_law_21 (by decide) ?_
      refine xw_isub B dL_law_22 (rfl) ?_
      refine xw_icmp_gt (tgt := 285) B dL_law_23 (by decide) (fun _ => ?_) (fun q => absurd (hlt) q)
      refine xw_iconst (v := nI 1) B dL_law_285 (by decide) ?_
      exact xl_ret C dL_law_286
end
section
theorem xaZ_ok : ∀ j, j < 21 → defaultValue (tyX0 j) = vp_V xaZ j := by
  intro j hj
  rcases (show j = 0 ∨ j = 1 ∨ j = 2 ∨ j = 3 ∨ j = 4 ∨ j = 5 ∨ j = 6 ∨ j = 7 ∨ j = 8 ∨ j = 9 ∨ j = 10 ∨ j = 11 ∨ j = 12 ∨ j = 13 ∨ j = 14 ∨ j = 15 ∨ j = 16 ∨ j = 17 ∨ j = 18 ∨ j = 19 ∨ j = 20 by omega) with rfl | rfl | rfl | rfl | rfl | rfl | rfl | rfl | rfl | rfl | rfl | rfl | rfl | rfl | rfl | rfl | rfl | rfl | rfl | rfl | rfl <;> rfl
theorem xbZ_ok : ∀ j, j < 9 → defaultValue (tyX1 j) = vp_V xbZ j := by
  intro j hj
  rcases (show j = 0 ∨ j = 1 ∨ j = 2 ∨ j = 3 ∨ j = 4 ∨ j = 5 ∨ j = 6 ∨ j = 7 ∨ j = 8 by omega) with rfl | rfl | rfl | rfl | rfl | rfl | rfl | rfl | rfl <;> rfl
set_option maxHeartbeats 4000000 in
set_option maxRecDepth 100000 in
theorem whole_start {p : Program} {e : Env} {s : State} {m : MethodId} {below : List Frame} {meth : Method} {c : Code} (l : Launch) {b L : Nat} {xs : Nat → Int32} (hL : L ≤ 320) (C0 : lw_At p s m meth c b L xs) : W p l e room_1 s m #[Value.ref b] below meth c s.heap [] 0 0 (lw_Z below #[Value.ref b] s) (entryFrame m ([Value.ref b] : List Value).toArray 4) := by
  obtain ⟨hx, hb, hr, hml, hown, hts0, hX, hbl, hlocks, hgv⟩ := C0
  have hb : c.code = cL_law := hb
  have hts : ∀ w ∈ lw_all, w.before #[Value.ref b] s = true := fun w h => hts0 w (lw_all_tbl h)
  have hA : ∀ q : Nat, s.heap.size ≤ q → (fun q : Nat => s.heap.size ≤ q) q := fun _ h => h
  have hbA : ¬ (fun q : Nat => s.heap.size ≤ q) b := Nat.not_le.mpr hbl
  obtain ⟨c0_, iS0, hKn0⟩ := u_known (C := RX0) (T := TX0) (N := 21) (n := 21) hts in_X0 (hts _ q35)
  obtain ⟨c1_, iS1, hKn1⟩ := u_known (C := RX1) (T := TX1) (N := 9) (n := 9) hts in_X1 (hts _ q235)
  obtain ⟨dC, dI, hKk⟩ : ∃ (dC : Nat → ClassId) (dI : Nat → Nat → Nat), ∀ (k : Nat) (q : vw_C), vwCl[k]? = some q → u_Kn s q.1 q.2.1 q.2.2 (dC k) (dI k) := by
    refine ⟨fun k => if k = 0 then c0_ else c1_, fun k => if k = 0 then iS0 else iS1, ?_⟩
    intro k q hq
    match k, hq with
    | 0, hq => cases hq; exact hKn0
    | 1, hq => cases hq; exact hKn1
    | k + 2, hq => simp [vwCl] at hq
  have hS : va_S (fun q : Nat => s.heap.size ≤ q) s.heap s.heap [] := va_S.rf
  have hK : va_K (dC, dI) vwCl [] s := ⟨hKk, fun k q h => by simp at h⟩
  have hP : va_P (dC, dI) vwCl [] s.heap := fun k q h => by simp at h
  have hD : va_D (fun q : Nat => s.heap.size ≤ q) [] := ⟨fun i j p q h => by simp at h, fun k q h => by simp at h⟩
  have hl := lv_entry ([.ref b]) (n := 4) (Nat.le_of_ble_eq_true rfl)
  rw [lg_entry_eq]
  generalize (lg_sl ([.ref b]) ++ List.replicate (4 - (lg_sl ([.ref b])).length) Slot.unset).toArray = ls at hl ⊢
  have hl : lv_has ls 4 [(0, .ref b)] := hl
  refine va_new (ci := 0) (fs := xaZ) (C := RX0) (T := TX0) (N := 21) hx hb hts in_X0 tyX0 tyX0_ok hown (hts _ q34) (hts _ q35) (hts _ q32) hK hP hD hS hA rfl xaZ_ok (Nat.le_of_ble_eq_true rfl) (Nat.le_of_ble_eq_true rfl) dL_law_0 (fun qx H hP hD hS => ?_)
  have hP : va_P (dC, dI) vwCl [(qx, .inr (0, xaZ))] H := hP
  have hD : va_D (fun q : Nat => s.heap.size ≤ q) [(qx, .inr (0, xaZ))] := hD
  refine W.widen (k := 1) (n := 21) (by omega) (by omega) ?_
  refine lv_dup hx hb dL_law_3 rfl ?_
  have hPc := hP.sub (ws' := [(qx, .inr (0, xaZ))]) [0] rfl
  have hDc := hD.sub (ws' := [(qx, .inr (0, xaZ))]) [0] (by decide) rfl
  have hKc := hK.sub (tys' := []) [] rfl
  have hFc := va_free (wc := [(qx, .inr (0, xaZ))]) hD hS hA [0] rfl
  refine va_callv (va_runI (As := []) (rest := [.ref qx]) ⟨hx, hb, hml, hown, hts⟩ (xa_init l dC dI qx H.size) (cwI 0 hts (lw_meth q38) rfl rfl rfl (hts _ q32) (hts _ q36) (hts _ q37) rfl (by decide +kernel) ⟨Nat.le_of_ble_eq_true rfl, Nat.le_of_ble_eq_true rfl⟩) ⟨fun a U g mk q => by obtain ⟨q0, q1, qP, qK, qD⟩ := q; exact ⟨q0, q1, qP, va_K.moved (u := U) (U := U.calling g mk a) (Vm.Alike.refl U.vm) qK, qD⟩, fun U hU hW => ⟨rfl, by rw [hU], by rw [hU]; exact hPc, va_K.moved hW.alike hKc, hDc.weaken (fun _ _ _ _ => trivial)⟩⟩ rfl rfl hl.1 rfl (lv_room (Nat.le_of_ble_eq_true rfl)) dL_law_4 ⟨Nat.le_of_ble_eq_true rfl, Nat.le_of_ble_eq_true rfl⟩) hS (fun q _ h => hFc q h) hFc (fun u t H1 locs ht hvm hw hB hz1 hk1 hS => ?_)
  obtain ⟨h0, d0⟩ := u
  obtain ⟨hP1, hK1, hD1⟩ := hB
  rw [ht] at hP1
  have hK1 := va_K.moved hvm.symm hK1
  have hw : h0 0 = qx := hw
  obtain ⟨hPn, hDn⟩ := va_join (wr := []) (w1 := xaW h0 d0 zs) hP hD [0] [] rfl rfl (by decide) (by decide) hk1 hFc hP1 hD1
  subst hw
  have hP := hPn
  have hD := hDn
  generalize H1 = H at hP hS ⊢
  refine W.widen (k := 13) (n := 1411) (Nat.le_of_ble_eq_true rfl) (Nat.le_of_ble_eq_true rfl) ?_
  have hP : va_P (dC, dI) vwCl (xaW h0 d0 zs) H := hP
  have hD : va_D (fun q : Nat => s.heap.size ≤ q) (xaW h0 d0 zs) := hD
  have hK : va_K (dC, dI) vwCl (xaT d0) s := hK1
  refine lv_astore_n (lv' := [(1, .ref (h0 0)), (0, .ref b)]) hx hb dL_law_7 rfl hl (by decide) rfl (fun ls hl => ?_)
  refine va_new (ci := 1) (fs := xbZ) (C := RX1) (T := TX1) (N := 9) hx hb hts in_X1 tyX1 tyX1_ok hown (hts _ q234) (hts _ q235) (hts _ q33) hK hP hD hS hA rfl xbZ_ok (Nat.le_of_ble_eq_true rfl) (Nat.le_of_ble_eq_true rfl) dL_law_8 (fun qm H hP hD hS => ?_)
  refine W.widen (k := 14) (n := 1420) (by omega) (by omega) ?_
  refine lv_dup hx hb dL_law_11 rfl ?_
  have hPc := hP.sub (ws' := [(qm, .inr (1, xbZ))]) [13] rfl
  have hDc := hD.sub (ws' := [(qm, .inr (1, xbZ))]) [13] (by decide) rfl
  have hKc := hK.sub (tys' := []) [] rfl
  have hFc := va_free (wc := [(qm, .inr (1, xbZ))]) hD hS hA [13] rfl
  refine va_callv (va_runI (As := []) (rest := [.ref qm]) ⟨hx, hb, hml, hown, hts⟩ (xb_init l dC dI qm H.size) (cwI 0 hts (lw_meth q238) rfl rfl rfl (hts _ q33) (hts _ q236) (hts _ q237) rfl (by decide +kernel) ⟨Nat.le_of_ble_eq_true rfl, Nat.le_of_ble_eq_true rfl⟩) ⟨fun a U g mk q => by obtain ⟨q0, q1, qP, qK, qD⟩ := q; exact ⟨q0, q1, qP, va_K.moved (u := U) (U := U.calling g mk a) (Vm.Alike.refl U.vm) qK, qD⟩, fun U hU hW => ⟨rfl, by rw [hU], by rw [hU]; exact hPc, va_K.moved hW.alike hKc, hDc.weaken (fun _ _ _ _ => trivial)⟩⟩ rfl rfl hl.1 rfl (lv_room (Nat.le_of_ble_eq_true rfl)) dL_law_12 ⟨Nat.le_of_ble_eq_true rfl, Nat.le_of_ble_eq_true rfl⟩) hS (fun q _ h => hFc q h) hFc (fun u t H1 locs ht hvm hw hB hz1 hk1 hS => ?_)
  obtain ⟨h1, d1⟩ := u
  obtain ⟨hP1, hK1, hD1⟩ := hB
  rw [ht] at hP1
  have hK1 := va_K.moved hvm.symm hK1
  have hw : h1 0 = qm := hw
  obtain ⟨hPn, hDn⟩ := va_join (wr := xaW h0 d0 zs) (w1 := xbW h1 d1 zs) hP hD [13] [0, 1, 2, 3, 4, 5, 6, 7, 8, 9, 10, 11, 12] rfl rfl (by decide) (by decide) hk1 hFc hP1 hD1
  subst hw
  have hP := hPn
  have hD := hDn
  generalize H1 = H at hP hS ⊢
  refine W.widen (k := 21) (n := 1690) (Nat.le_of_ble_eq_true rfl) (Nat.le_of_ble_eq_true rfl) ?_
  have hK := hK.app hK1
  refine lv_astore_n (lv' := [(2, .ref (h1 0)), (1, .ref (h0 0)), (0, .ref b)]) hx hb dL_law_15 rfl hl (by decide) rfl (fun ls hl => ?_)
  refine lv_iconst (v := nI 0) hx hb dL_law_16 (by decide) ?_
  refine lv_istore_n (lv' := [(3, .int (nI 0)), (2, .ref (h1 0)), (1, .ref (h0 0)), (0, .ref b)]) hx hb dL_law_17 rfl hl (by decide) rfl (fun ls hl => ?_)
  have CC : zCL ((p, l, e, room_1, s), (m, #[Value.ref b], below, meth, c), (4, (fun q : Nat => s.heap.size ≤ q), lw_Z below #[Value.ref b] s, 21, 1690)) (dC, dI) h0 d0 h1 d1 b L xs := by
    refine ⟨⟨hx, hb, rfl⟩, hml, hown, hts, hK, fun σ τ => xd_map (ws := xaW h0 d0 zs ++ xbW h1 d1 zs) rfl hD, hA, rfl, ⟨Nat.le_of_ble_eq_true rfl, Nat.le_of_ble_eq_true rfl⟩, ⟨hX, hbl, hbA, hL⟩, ?_⟩
    intro σ τ pc LL dd H locs ls hP hS hl
    refine va_forget (fun q hq => hS.2.2 q hq) ?_
    refine W.widen (k := 600000) (n := 7290000) (Nat.le_of_ble_eq_true rfl) (Nat.le_of_ble_eq_true rfl) ?_
    exact lw_ret hx hb hr hlocks dd
  exact law_loop CC (L + 1) 0 zs zs _ 0 (Nat.zero_le _) (by omega) li_0 H _ ls hP hS (lh_of hl (by
    intro q hq
    simp only [List.mem_cons, List.not_mem_nil, or_false] at hq
    rcases hq with rfl | rfl | rfl | rfl <;> rfl))
end
section
-- ===== YOUR PART ENDS =====
set_option maxHeartbeats 4000000 in
theorem lw_walk (l : Launch) (b : Addr) (xs : List Int32) : MetFree l x (headSpec (Jvm.Cond.code x code maxLocals ret :: tables_1) room_1) (lw_P b xs) (fun _ _ _ _ _ => True) lw_Q := by
  refine MetFree.of_bodyS (code := code) (maxLocals := maxLocals) (ret := ret) (by decide) ?_ ?_
  · intro args s m h hn
    obtain ⟨meth, c, h1, h2, h3, h4, h5, h6, -, -⟩ := Cond.code_spec hn (atoms_spec (ws := Jvm.Cond.code x code maxLocals ret :: tables_1) h _ List.mem_cons_self)
    exact ⟨meth, c, h1, h2, h3, h4, h5, h6⟩
  · intro p e s m args below meth c s₁ B hml0 hP _
    obtain ⟨rfl, hx, hbd, hgv⟩ := hP
    obtain ⟨scr, harrAt, hlist, hof, hsmall⟩ := hx
    obtain ⟨hcb, hkn, -, -⟩ := State.arrayAt?_spec harrAt
    have hown : s.vm.findClass R_law = some m.cls := findClass_of_methodNamed B.named
    have hts0 : ∀ c ∈ (Jvm.Cond.code x code maxLocals ret :: tables_1), c.before #[Value.ref b] s = true := atoms_spec (ws := Jvm.Cond.code x code maxLocals ret :: tables_1) B.pre
    have hts : ∀ w ∈ lw_tbl, w.before #[Value.ref b] s = true := k2_hts_sels lw_privs (fun w hw => hts0 w (List.mem_cons_of_mem _ hw)) lw_privs_ok
    have hml : c.maxLocals = 4 := B.maxLocals_eq (hts0 _ List.mem_cons_self)
    have X₀ : Stand p l e room_1 s m #[Value.ref b] below meth c s₁ [] 0 0 := Stand.of_body B
    have hh0 : s₁.heap = s.heap := by rw [B.state]; rfl
    have hsz : scr.slots.size = xs.length := by rw [← Array.length_toList, hlist, List.length_map]
    have hval : ∀ j : Nat, j < xs.length → scr.slots[j]? = some (.int (xs.getD j 0)) := fun j hj => by
      rw [← Array.getElem?_toList, hlist]
      simp [hj]
    have hbl : b < s.heap.size := (Array.getElem?_eq_some_iff.mp hcb).1
    have hX : va_X b xs.length (fun j => xs.getD j 0) s s.heap := ⟨scr, hcb, hof, hkn, hsz, hval⟩
    have K : W p l e room_1 s m #[Value.ref b] below meth c s₁.heap [] 0 0 (lw_Z below #[Value.ref b] s) (entryFrame m ([Value.ref b] : List Value).toArray 4) := by
      rw [hh0]
      exact whole_start l hbd ⟨B.exec, B.bytes, B.returns, hml, hown, hts, hX, hbl, B.notSynchronized, hgv⟩
    obtain ⟨t, a1, o, b1, b2, b3⟩ := K s₁ rfl X₀
    exact ⟨t, o, a1, b1, b2, b3⟩
theorem lw_pre_spec {args : Array Value} {s : State} (h : (Jvm.Cond.and given_1 narrow_1).before args s = true) (hr : rest_1_c.before args s = true) : ∃ (b : Addr) (xs : List Int32), lw_P b xs args s := by
  have hs := flat_of_before _ h
  have hq := flat_of_before _ hr
  have hc : (Cond.count 1).before args s = true := hs _ (by decide +kernel)
  have harr : (Cond.arrayOf (.arg 0) .int).before args s = true := hs _ (by decide +kernel)
  have hle : (Cond.le (.length (.arg 0)) (.int 320)).before args s = true := hs _ (by decide +kernel)
  have hlen : (Cond.isInt (.length (.arg 0))).before args s = true := hq _ (by decide +kernel)
  have hall : (Cond.all (.arg 0) (.isInt (.elem (.arg 0) (.index 0)))).before args s = true := hq _ (by decide +kernel)
  obtain ⟨b, xs, hb, hx⟩ := State.ints_of_pre rfl harr hlen hall
  have hsm : xs.length < 2 ^ 31 := hx.choose_spec.2.2.2
  have hev : (Term.length (.arg 0)).eval args s none [] s = some (.int xs.length.toInt32) := hx.length_eval hb
  have hv := Cond.le_ints hev (show (Term.int 320).eval args s none [] s = some (.int 320) from rfl)
  have hd : xs.length.toInt32 ≤ 320 := by
    simpa [Cond.before, Cond.holds, hv] using hle
  have hN : xs.length ≤ 320 := (Int32.ofNat_le_ofNat hsm (by decide)).mp (show Int32.ofNat xs.length ≤ Int32.ofNat 320 from hd)
  exact ⟨b, xs, Cond.one_arg hc (show args[0]? = some (.ref b) from hb), hx, hN, h⟩
theorem lw_comes (l : Launch) : Comes l x (Jvm.Cond.code x code maxLocals ret :: tables_1) room_1 (fun tb e args s => Calls_1 tb e args s ∧ rest_1 tb e args s ∧ Pre_1 tb e args s)
    (fun _ _ args s o t => lw_Q args s o t) := by
  intro p e ha hc hk s m args below hf hfit hheap happ hpre
  obtain ⟨b, xs, hP⟩ := lw_pre_spec hpre.2.2 hpre.2.1
  obtain ⟨k, o, h1, h2, h3, hQ⟩ := lw_walk l b xs p e ha hc hk s m args below hf ((Spec.applies_iff_loose hf).mp happ).1 hP trivial
  exact ⟨k, o, h1, h2, h3, hQ⟩
theorem lw_frame {s t : State} {o : Outcome} {args : Array Value} (h : Framed s o t [] 600000 7290000) :
    Framed s o t (fieldLocs frame_1_writes args s ++ arrayLocs frame_1_arrays args s ++ staticLocs frame_1_statics s) 600000 7290000 := h
theorem lw_limb (L : Cond) (hL : ∀ (args : Array Value) (s t : State), L.after args s (.returned (some (.int 1))) t = true) :
    ArmFor flags0 classFile x code maxLocals ret World_1 tables_1 room_1 Calls_1 rest_1 Pre_1
      (fun tb e a s o t => postC L tb e a s o t ∧ Framed s o t (fieldLocs frame_1_writes a s ++ arrayLocs frame_1_arrays a s ++ staticLocs frame_1_statics s) 600000 7290000) := by
  intro l _ _ _ p e ha hc hk s m args below hf hfit hheap happ hpre
  obtain ⟨k, o, h1, h2, h3, rfl, hF⟩ := lw_comes l p e ha hc hk s m args below hf hfit hheap happ hpre
  exact ⟨k, _, h1, h2, h3, hL args s _, lw_frame hF⟩
theorem i_vc : Claimed_1_1 ∧ Claimed_1_2 := ⟨lw_limb limb_1_1 (fun args s t => by simp [limb_1_1, Cond.after, Cond.holds, Cond.value]), lw_limb limb_1_2 (fun args s t => Cond.after_iff.mpr (by
  first | (rw [show limb_1_2 = Cond.eq .result (.int 1) from rfl, Cond.eq_ints (x := 1) (y := 1) rfl rfl]; simp; done) | (simp [limb_1_2, Cond.value, Term.eval]; done)))⟩
end
