section
/-- a private method of a class that the tables say can be made, by its rows of tables_1 -/
def lw_okq (q : MethodName × Nat) : Prop := (q.1.cls ≠ "java/lang/invoke/MethodHandle" ∧ q.1.cls ≠ "java/lang/invoke/VarHandle") ∧ Cond.instantiable q.1.cls q.2 ∈ tables_1 ∧ Cond.privateMethod q.1 ∈ tables_1 ∧ Cond.instanceMethod q.1 ∈ tables_1
set_option maxRecDepth 100000
theorem lw_t1 {w : Cond} (h : w ∈ tables_1_1) : w ∈ tables_1 := List.mem_append_left _ h
theorem lw_t2 {w : Cond} (h : w ∈ tables_1_2) : w ∈ tables_1 := List.mem_append_right _ h
theorem lw_p0 : lw_okq (⟨"KernelDesk", "find", "(II)I"⟩, 9) := ⟨⟨by decide +kernel, by decide +kernel⟩, lw_t1 (List.mem_of_getElem? (i := 4) rfl), lw_t1 (List.mem_of_getElem? (i := 53) rfl), lw_t1 (List.mem_of_getElem? (i := 54) rfl)⟩
theorem lw_p1 : lw_okq (⟨"KernelDesk", "quotientBy", "(II)V"⟩, 9) := ⟨⟨by decide +kernel, by decide +kernel⟩, lw_t1 (List.mem_of_getElem? (i := 4) rfl), lw_t1 (List.mem_of_getElem? (i := 77) rfl), lw_t1 (List.mem_of_getElem? (i := 78) rfl)⟩
theorem lw_p2 : lw_okq (⟨"KernelDesk", "store", "(I)I"⟩, 9) := ⟨⟨by decide +kernel, by decide +kernel⟩, lw_t1 (List.mem_of_getElem? (i := 4) rfl), lw_t1 (List.mem_of_getElem? (i := 81) rfl), lw_t1 (List.mem_of_getElem? (i := 82) rfl)⟩
theorem lw_p3 : lw_okq (⟨"KernelDesk", "canDivide", "(II)Z"⟩, 9) := ⟨⟨by decide +kernel, by decide +kernel⟩, lw_t1 (List.mem_of_getElem? (i := 4) rfl), lw_t1 (List.mem_of_getElem? (i := 90) rfl), lw_t1 (List.mem_of_getElem? (i := 91) rfl)⟩
theorem lw_p4 : lw_okq (⟨"KernelDesk", "quotient", "(II)V"⟩, 9) := ⟨⟨by decide +kernel, by decide +kernel⟩, lw_t1 (List.mem_of_getElem? (i := 4) rfl), lw_t1 (List.mem_of_getElem? (i := 94) rfl), lw_t1 (List.mem_of_getElem? (i := 95) rfl)⟩
theorem lw_p5 : lw_okq (⟨"KernelDesk", "remainder", "(II)V"⟩, 9) := ⟨⟨by decide +kernel, by decide +kernel⟩, lw_t1 (List.mem_of_getElem? (i := 4) rfl), lw_t1 (List.mem_of_getElem? (i := 102) rfl), lw_t1 (List.mem_of_getElem? (i := 103) rfl)⟩
theorem lw_p6 : lw_okq (⟨"KernelDesk", "isProduct", "(II)Z"⟩, 9) := ⟨⟨by decide +kernel, by decide +kernel⟩, lw_t1 (List.mem_of_getElem? (i := 4) rfl), lw_t1 (List.mem_of_getElem? (i := 106) rfl), lw_t1 (List.mem_of_getElem? (i := 107) rfl)⟩
theorem lw_p7 : lw_okq (⟨"KernelDesk", "isMade", "(I)Z"⟩, 9) := ⟨⟨by decide +kernel, by decide +kernel⟩, lw_t1 (List.mem_of_getElem? (i := 4) rfl), lw_t1 (List.mem_of_getElem? (i := 110) rfl), lw_t1 (List.mem_of_getElem? (i := 111) rfl)⟩
theorem lw_p8 : lw_okq (⟨"KernelDesk", "commonAt", "(II)I"⟩, 9) := ⟨⟨by decide +kernel, by decide +kernel⟩, lw_t1 (List.mem_of_getElem? (i := 4) rfl), lw_t1 (List.mem_of_getElem? (i := 121) rfl), lw_t1 (List.mem_of_getElem? (i := 122) rfl)⟩
theorem lw_p9 : lw_okq (⟨"KernelDesk", "explore", "(I)V"⟩, 9) := ⟨⟨by decide +kernel, by decide +kernel⟩, lw_t1 (List.mem_of_getElem? (i := 4) rfl), lw_t1 (List.mem_of_getElem? (i := 133) rfl), lw_t1 (List.mem_of_getElem? (i := 134) rfl)⟩
theorem lw_p10 : lw_okq (⟨"KernelDesk", "defer", "(II)V"⟩, 9) := ⟨⟨by decide +kernel, by decide +kernel⟩, lw_t1 (List.mem_of_getElem? (i := 4) rfl), lw_t1 (List.mem_of_getElem? (i := 137) rfl), lw_t1 (List.mem_of_getElem? (i := 138) rfl)⟩
theorem lw_p11 : lw_okq (⟨"KernelDesk", "placesOf", "(II)I"⟩, 9) := ⟨⟨by decide +kernel, by decide +kernel⟩, lw_t1 (List.mem_of_getElem? (i := 4) rfl), lw_t1 (List.mem_of_getElem? (i := 141) rfl), lw_t1 (List.mem_of_getElem? (i := 142) rfl)⟩
theorem lw_p12 : lw_okq (⟨"KernelDesk", "goOn", "(IIII)V"⟩, 9) := ⟨⟨by decide +kernel, by decide +kernel⟩, lw_t1 (List.mem_of_getElem? (i := 4) rfl), lw_t1 (List.mem_of_getElem? (i := 145) rfl), lw_t1 (List.mem_of_getElem? (i := 146) rfl)⟩
theorem lw_p13 : lw_okq (⟨"KernelDesk", "isFirst", "(II)Z"⟩, 9) := ⟨⟨by decide +kernel, by decide +kernel⟩, lw_t1 (List.mem_of_getElem? (i := 4) rfl), lw_t1 (List.mem_of_getElem? (i := 152) rfl), lw_t1 (List.mem_of_getElem? (i := 153) rfl)⟩
theorem lw_p14 : lw_okq (⟨"KernelDesk", "sameKernel", "(III)Z"⟩, 9) := ⟨⟨by decide +kernel, by decide +kernel⟩, lw_t1 (List.mem_of_getElem? (i := 4) rfl), lw_t1 (List.mem_of_getElem? (i := 156) rfl), lw_t1 (List.mem_of_getElem? (i := 157) rfl)⟩
theorem lw_p15 : lw_okq (⟨"KernelDesk", "madeLetters", "()I"⟩, 9) := ⟨⟨by decide +kernel, by decide +kernel⟩, lw_t1 (List.mem_of_getElem? (i := 4) rfl), lw_t1 (List.mem_of_getElem? (i := 176) rfl), lw_t1 (List.mem_of_getElem? (i := 177) rfl)⟩
def lw_privs_1 : List (MethodName × Nat) := [(⟨"KernelDesk", "find", "(II)I"⟩, 9), (⟨"KernelDesk", "quotientBy", "(II)V"⟩, 9), (⟨"KernelDesk", "store", "(I)I"⟩, 9), (⟨"KernelDesk", "canDivide", "(II)Z"⟩, 9), (⟨"KernelDesk", "quotient", "(II)V"⟩, 9), (⟨"KernelDesk", "remainder", "(II)V"⟩, 9), (⟨"KernelDesk", "isProduct", "(II)Z"⟩, 9), (⟨"KernelDesk", "isMade", "(I)Z"⟩, 9), (⟨"KernelDesk", "commonAt", "(II)I"⟩, 9), (⟨"KernelDesk", "explore", "(I)V"⟩, 9), (⟨"KernelDesk", "defer", "(II)V"⟩, 9), (⟨"KernelDesk", "placesOf", "(II)I"⟩, 9), (⟨"KernelDesk", "goOn", "(IIII)V"⟩, 9), (⟨"KernelDesk", "isFirst", "(II)Z"⟩, 9), (⟨"KernelDesk", "sameKernel", "(III)Z"⟩, 9), (⟨"KernelDesk", "madeLetters", "()I"⟩, 9)]
theorem lw_r1 : ∀ q ∈ lw_privs_1, lw_okq q := List.forall_mem_cons.mpr ⟨lw_p0, List.forall_mem_cons.mpr ⟨lw_p1, List.forall_mem_cons.mpr ⟨lw_p2, List.forall_mem_cons.mpr ⟨lw_p3, List.forall_mem_cons.mpr ⟨lw_p4, List.forall_mem_cons.mpr ⟨lw_p5, List.forall_mem_cons.mpr ⟨lw_p6, List.forall_mem_cons.mpr ⟨lw_p7, List.forall_mem_cons.mpr ⟨lw_p8, List.forall_mem_cons.mpr ⟨lw_p9, List.forall_mem_cons.mpr ⟨lw_p10, List.forall_mem_cons.mpr ⟨lw_p11, List.forall_mem_cons.mpr ⟨lw_p12, List.forall_mem_cons.mpr ⟨lw_p13, List.forall_mem_cons.mpr ⟨lw_p14, List.forall_mem_cons.mpr ⟨lw_p15, fun _ h => absurd h List.not_mem_nil⟩⟩⟩⟩⟩⟩⟩⟩⟩⟩⟩⟩⟩⟩⟩⟩
theorem lw_p16 : lw_okq (⟨"KernelDesk", "lettersOf", "(I)I"⟩, 9) := ⟨⟨by decide +kernel, by decide +kernel⟩, lw_t1 (List.mem_of_getElem? (i := 4) rfl), lw_t1 (List.mem_of_getElem? (i := 180) rfl), lw_t1 (List.mem_of_getElem? (i := 181) rfl)⟩
theorem lw_p17 : lw_okq (⟨"KernelDeskModel", "expression", "(I)Z"⟩, 3) := ⟨⟨by decide +kernel, by decide +kernel⟩, lw_t1 (List.mem_of_getElem? (i := 184) rfl), lw_t1 (List.mem_of_getElem? (i := 204) rfl), lw_t1 (List.mem_of_getElem? (i := 205) rfl)⟩
theorem lw_p18 : lw_okq (⟨"KernelDeskModel", "isCube", "(I)Z"⟩, 3) := ⟨⟨by decide +kernel, by decide +kernel⟩, lw_t1 (List.mem_of_getElem? (i := 184) rfl), lw_t1 (List.mem_of_getElem? (i := 208) rfl), lw_t1 (List.mem_of_getElem? (i := 209) rfl)⟩
theorem lw_p19 : lw_okq (⟨"KernelDeskModel", "many", "(I)I"⟩, 3) := ⟨⟨by decide +kernel, by decide +kernel⟩, lw_t1 (List.mem_of_getElem? (i := 184) rfl), lw_t1 (List.mem_of_getElem? (i := 212) rfl), lw_t1 (List.mem_of_getElem? (i := 213) rfl)⟩
theorem lw_p20 : lw_okq (⟨"KernelDeskModel", "quotientHas", "(III)Z"⟩, 3) := ⟨⟨by decide +kernel, by decide +kernel⟩, lw_t1 (List.mem_of_getElem? (i := 184) rfl), lw_t1 (List.mem_of_getElem? (i := 236) rfl), lw_t1 (List.mem_of_getElem? (i := 237) rfl)⟩
theorem lw_p21 : lw_okq (⟨"KernelDeskModel", "store", "(IZ)V"⟩, 3) := ⟨⟨by decide +kernel, by decide +kernel⟩, lw_t1 (List.mem_of_getElem? (i := 184) rfl), lw_t2 (List.mem_of_getElem? (i := 0) rfl), lw_t2 (List.mem_of_getElem? (i := 1) rfl)⟩
theorem lw_p22 : lw_okq (⟨"KernelDeskModel", "divides", "(II)Z"⟩, 3) := ⟨⟨by decide +kernel, by decide +kernel⟩, lw_t1 (List.mem_of_getElem? (i := 184) rfl), lw_t2 (List.mem_of_getElem? (i := 8) rfl), lw_t2 (List.mem_of_getElem? (i := 9) rfl)⟩
theorem lw_p23 : lw_okq (⟨"KernelDeskModel", "work", "(II)V"⟩, 3) := ⟨⟨by decide +kernel, by decide +kernel⟩, lw_t1 (List.mem_of_getElem? (i := 184) rfl), lw_t2 (List.mem_of_getElem? (i := 12) rfl), lw_t2 (List.mem_of_getElem? (i := 13) rfl)⟩
theorem lw_p24 : lw_okq (⟨"KernelDeskModel", "freeBy", "(II)Z"⟩, 3) := ⟨⟨by decide +kernel, by decide +kernel⟩, lw_t1 (List.mem_of_getElem? (i := 184) rfl), lw_t2 (List.mem_of_getElem? (i := 28) rfl), lw_t2 (List.mem_of_getElem? (i := 29) rfl)⟩
theorem lw_p25 : lw_okq (⟨"KernelDeskModel", "same", "(III)Z"⟩, 3) := ⟨⟨by decide +kernel, by decide +kernel⟩, lw_t1 (List.mem_of_getElem? (i := 184) rfl), lw_t2 (List.mem_of_getElem? (i := 36) rfl), lw_t2 (List.mem_of_getElem? (i := 37) rfl)⟩
theorem lw_p26 : lw_okq (⟨"KernelDeskModel", "letters", "(I)I"⟩, 3) := ⟨⟨by decide +kernel, by decide +kernel⟩, lw_t1 (List.mem_of_getElem? (i := 184) rfl), lw_t2 (List.mem_of_getElem? (i := 56) rfl), lw_t2 (List.mem_of_getElem? (i := 57) rfl)⟩
def lw_privs_2 : List (MethodName × Nat) := [(⟨"KernelDesk", "lettersOf", "(I)I"⟩, 9), (⟨"KernelDeskModel", "expression", "(I)Z"⟩, 3), (⟨"KernelDeskModel", "isCube", "(I)Z"⟩, 3), (⟨"KernelDeskModel", "many", "(I)I"⟩, 3), (⟨"KernelDeskModel", "quotientHas", "(III)Z"⟩, 3), (⟨"KernelDeskModel", "store", "(IZ)V"⟩, 3), (⟨"KernelDeskModel", "divides", "(II)Z"⟩, 3), (⟨"KernelDeskModel", "work", "(II)V"⟩, 3), (⟨"KernelDeskModel", "freeBy", "(II)Z"⟩, 3), (⟨"KernelDeskModel", "same", "(III)Z"⟩, 3), (⟨"KernelDeskModel", "letters", "(I)I"⟩, 3)]
theorem lw_r2 : ∀ q ∈ lw_privs_2, lw_okq q := List.forall_mem_cons.mpr ⟨lw_p16, List.forall_mem_cons.mpr ⟨lw_p17, List.forall_mem_cons.mpr ⟨lw_p18, List.forall_mem_cons.mpr ⟨lw_p19, List.forall_mem_cons.mpr ⟨lw_p20, List.forall_mem_cons.mpr ⟨lw_p21, List.forall_mem_cons.mpr ⟨lw_p22, List.forall_mem_cons.mpr ⟨lw_p23, List.forall_mem_cons.mpr ⟨lw_p24, List.forall_mem_cons.mpr ⟨lw_p25, List.forall_mem_cons.mpr ⟨lw_p26, fun _ h => absurd h List.not_mem_nil⟩⟩⟩⟩⟩⟩⟩⟩⟩⟩⟩
def lw_privs : List (MethodName × Nat) := lw_privs_1 ++ (lw_privs_2)
def lw_tbl : List Cond := k2_sels lw_privs ++ tables_1
theorem lw_privs_ok : ∀ q ∈ lw_privs, lw_okq q := by
  show ∀ q ∈ lw_privs_1 ++ (lw_privs_2), lw_okq q
  exact List.forall_mem_append.mpr ⟨lw_r1, lw_r2⟩
-- ===== ONE list of words for every method: the tables' words that hold all through a run =====
def lw_all : List Cond := lw_tbl.filter goodWord
/-- a word of the tables by its place: claim/WORDS.tsv -/
theorem lw_w {w : Cond} (i : Nat) (h : lw_tbl[i]? = some w) (g : goodWord w = true) : w ∈ lw_all := List.mem_filter.mpr ⟨List.mem_of_getElem? h, g⟩
theorem lw_all_tbl {w : Cond} (h : w ∈ lw_all) : w ∈ lw_tbl := (List.mem_filter.mp h).1
theorem lw_self : GoodIn lw_all lw_all := fun w h => ⟨h, good_of_word (List.mem_filter.mp h).2⟩
/-- a class's field words, by their places -/
theorem lw_in (ws : List Cond) (ps : List Nat) (hp : ws = ps.filterMap (fun i => lw_tbl[i]?)) (hg : ws.all goodWord = true) : ∀ w ∈ ws, w ∈ lw_all := by
  intro w h
  have h1 := List.all_eq_true.mp hg w h
  rw [hp] at h
  obtain ⟨i, -, hi⟩ := List.mem_filterMap.mp h
  exact lw_w i hi h1
/-- the words of a contract for the method y with code b, L locals, answer r -/
abbrev ws_ (y : MethodName) (b : ByteArray) (L : Nat) (r : Option FieldType) : List Cond := Cond.code y b L r :: lw_all
theorem lw_meth {y : MethodName} {b : ByteArray} {L : Nat} {r : Option FieldType} (h : Cond.code y b L r ∈ lw_all) : GoodIn lw_all (ws_ y b L r) := by
  intro w hw
  rcases List.mem_cons.mp hw with e | e
  · rw [e]
    exact lw_self _ h
  · exact lw_self _ e
theorem lw_app {a c : List Cond} (ha : ∀ w ∈ a, w ∈ lw_all) (hc : GoodIn lw_all c) : GoodIn lw_all (a ++ c) := by
  intro w hw
  rcases List.mem_append.mp hw with e | e
  · exact lw_self w (ha w e)
  · exact hc w e
/-- what a call through an object asks: cwV n hts (lw_V ..) -/
theorem lw_V {own : String} {idx : Nat} {C : String} {y : MethodName} {b : ByteArray} {L : Nat} {r : Option FieldType} (h1 : Cond.methodLink own idx y ∈ lw_all) (h2 : Cond.instanceMethod y ∈ lw_all) (h3 : Cond.selects C y y ∈ lw_all) (h4 : Cond.initialized C ∈ lw_all) (h5 : Cond.code y b L r ∈ lw_all) : GoodIn lw_all (wsV own idx C y (ws_ y b L r)) := by
  refine lw_app ?_ (lw_meth h5)
  intro w hw
  simp only [List.mem_cons, List.not_mem_nil, or_false] at hw
  rcases hw with e | e | e | e
  · rw [e]; exact h1
  · rw [e]; exact h2
  · rw [e]; exact h3
  · rw [e]; exact h4
/-- what a static call asks: va_cwS n hts (lw_S ..) -/
theorem lw_S {own : String} {idx : Nat} {y : MethodName} {b : ByteArray} {L : Nat} {r : Option FieldType} (h1 : Cond.methodLink own idx y ∈ lw_all) (h2 : Cond.static y ∈ lw_all) (h3 : Cond.initialized y.cls ∈ lw_all) (h4 : Cond.code y b L r ∈ lw_all) : GoodIn lw_all (va_wsS own idx y (ws_ y b L r)) := by
  refine lw_app ?_ (lw_meth h4)
  intro w hw
  simp only [List.mem_cons, List.not_mem_nil, or_false] at hw
  rcases hw with e | e | e
  · rw [e]; exact h1
  · rw [e]; exact h2
  · rw [e]; exact h3
/-- the words of a contract for a method WITH HANDLERS (hh: its table) -/
abbrev wsW_ (y : MethodName) (b : ByteArray) (L : Nat) (r : Option FieldType) (hh : List (Nat × Nat × Nat × Nat)) : List Cond := Cond.codeWith y b L r hh :: lw_all
theorem lw_methW {y : MethodName} {b : ByteArray} {L : Nat} {r : Option FieldType} {hh : List (Nat × Nat × Nat × Nat)} (h : Cond.codeWith y b L r hh ∈ lw_all) : GoodIn lw_all (wsW_ y b L r hh) := by
  intro w hw
  rcases List.mem_cons.mp hw with e | e
  · rw [e]
    exact lw_self _ h
  · exact lw_self _ e
/-- any list of words by their places (lw_in), good -/
theorem lw_good {ws : List Cond} (h : ∀ w ∈ ws, w ∈ lw_all) : GoodIn lw_all ws := fun w hw => lw_self w (h w hw)
/-- what a call of a method with handlers asks: vx_cwVW n hts (lw_VW ..), vx_cwSW n hts (lw_SW ..) -/
theorem lw_VW {own : String} {idx : Nat} {C : String} {y : MethodName} {b : ByteArray} {L : Nat} {r : Option FieldType} {hh : List (Nat × Nat × Nat × Nat)} (h1 : Cond.methodLink own idx y ∈ lw_all) (h2 : Cond.instanceMethod y ∈ lw_all) (h3 : Cond.selects C y y ∈ lw_all) (h4 : Cond.initialized C ∈ lw_all) (h5 : Cond.codeWith y b L r hh ∈ lw_all) : GoodIn lw_all (wsV own idx C y (wsW_ y b L r hh)) := by
  refine lw_app ?_ (lw_methW h5)
  intro w hw
  simp only [List.mem_cons, List.not_mem_nil, or_false] at hw
  rcases hw with e | e | e | e
  · rw [e]; exact h1
  · rw [e]; exact h2
  · rw [e]; exact h3
  · rw [e]; exact h4
theorem lw_SW {own : String} {idx : Nat} {y : MethodName} {b : ByteArray} {L : Nat} {r : Option FieldType} {hh : List (Nat × Nat × Nat × Nat)} (h1 : Cond.methodLink own idx y ∈ lw_all) (h2 : Cond.static y ∈ lw_all) (h3 : Cond.initialized y.cls ∈ lw_all) (h4 : Cond.codeWith y b L r hh ∈ lw_all) : GoodIn lw_all (va_wsS own idx y (wsW_ y b L r hh)) := by
  refine lw_app ?_ (lw_methW h4)
  intro w hw
  simp only [List.mem_cons, List.not_mem_nil, or_false] at hw
  rcases hw with e | e | e
  · rw [e]; exact h1
  · rw [e]; exact h2
  · rw [e]; exact h3
/-- a word by its place in its run of the tables -/
theorem lw_at {r : List Cond} (hr : ∀ w ∈ r, w ∈ lw_tbl) {w : Cond} (i : Nat) (h : r[i]? = some w) : w ∈ lw_tbl := hr w (List.mem_of_getElem? h)
theorem lw_g {w : Cond} (h : w ∈ lw_tbl) (g : goodWord w = true) : w ∈ lw_all := List.mem_filter.mpr ⟨h, g⟩
theorem lw_ms : ∀ w ∈ k2_sels lw_privs, w ∈ lw_tbl := fun w h => show w ∈ k2_sels lw_privs ++ tables_1 from List.mem_append_left _ h
theorem lw_m1 : ∀ w ∈ tables_1_1, w ∈ lw_tbl := fun w h => show w ∈ k2_sels lw_privs ++ tables_1 from List.mem_append_right (k2_sels lw_privs) (show w ∈ tables_1 from List.mem_append_left _ h)
theorem lw_m2 : ∀ w ∈ tables_1_2, w ∈ lw_tbl := fun w h => show w ∈ k2_sels lw_privs ++ tables_1 from List.mem_append_right (k2_sels lw_privs) (show w ∈ tables_1 from List.mem_append_right _ h)
theorem qs0 : (Cond.selects "KernelDesk" ⟨"KernelDesk", "find", "(II)I"⟩ ⟨"KernelDesk", "find", "(II)I"⟩) ∈ lw_all := lw_g (lw_at lw_ms 0 rfl) rfl
theorem qs1 : (Cond.selects "KernelDesk" ⟨"KernelDesk", "quotientBy", "(II)V"⟩ ⟨"KernelDesk", "quotientBy", "(II)V"⟩) ∈ lw_all := lw_g (lw_at lw_ms 1 rfl) rfl
theorem qs2 : (Cond.selects "KernelDesk" ⟨"KernelDesk", "store", "(I)I"⟩ ⟨"KernelDesk", "store", "(I)I"⟩) ∈ lw_all := lw_g (lw_at lw_ms 2 rfl) rfl
theorem qs3 : (Cond.selects "KernelDesk" ⟨"KernelDesk", "canDivide", "(II)Z"⟩ ⟨"KernelDesk", "canDivide", "(II)Z"⟩) ∈ lw_all := lw_g (lw_at lw_ms 3 rfl) rfl
theorem qs4 : (Cond.selects "KernelDesk" ⟨"KernelDesk", "quotient", "(II)V"⟩ ⟨"KernelDesk", "quotient", "(II)V"⟩) ∈ lw_all := lw_g (lw_at lw_ms 4 rfl) rfl
theorem qs5 : (Cond.selects "KernelDesk" ⟨"KernelDesk", "remainder", "(II)V"⟩ ⟨"KernelDesk", "remainder", "(II)V"⟩) ∈ lw_all := lw_g (lw_at lw_ms 5 rfl) rfl
theorem qs6 : (Cond.selects "KernelDesk" ⟨"KernelDesk", "isProduct", "(II)Z"⟩ ⟨"KernelDesk", "isProduct", "(II)Z"⟩) ∈ lw_all := lw_g (lw_at lw_ms 6 rfl) rfl
theorem qs7 : (Cond.selects "KernelDesk" ⟨"KernelDesk", "isMade", "(I)Z"⟩ ⟨"KernelDesk", "isMade", "(I)Z"⟩) ∈ lw_all := lw_g (lw_at lw_ms 7 rfl) rfl
theorem qs8 : (Cond.selects "KernelDesk" ⟨"KernelDesk", "commonAt", "(II)I"⟩ ⟨"KernelDesk", "commonAt", "(II)I"⟩) ∈ lw_all := lw_g (lw_at lw_ms 8 rfl) rfl
theorem qs9 : (Cond.selects "KernelDesk" ⟨"KernelDesk", "explore", "(I)V"⟩ ⟨"KernelDesk", "explore", "(I)V"⟩) ∈ lw_all := lw_g (lw_at lw_ms 9 rfl) rfl
theorem qs10 : (Cond.selects "KernelDesk" ⟨"KernelDesk", "defer", "(II)V"⟩ ⟨"KernelDesk", "defer", "(II)V"⟩) ∈ lw_all := lw_g (lw_at lw_ms 10 rfl) rfl
theorem qs11 : (Cond.selects "KernelDesk" ⟨"KernelDesk", "placesOf", "(II)I"⟩ ⟨"KernelDesk", "placesOf", "(II)I"⟩) ∈ lw_all := lw_g (lw_at lw_ms 11 rfl) rfl
theorem qs12 : (Cond.selects "KernelDesk" ⟨"KernelDesk", "goOn", "(IIII)V"⟩ ⟨"KernelDesk", "goOn", "(IIII)V"⟩) ∈ lw_all := lw_g (lw_at lw_ms 12 rfl) rfl
theorem qs13 : (Cond.selects "KernelDesk" ⟨"KernelDesk", "isFirst", "(II)Z"⟩ ⟨"KernelDesk", "isFirst", "(II)Z"⟩) ∈ lw_all := lw_g (lw_at lw_ms 13 rfl) rfl
theorem qs14 : (Cond.selects "KernelDesk" ⟨"KernelDesk", "sameKernel", "(III)Z"⟩ ⟨"KernelDesk", "sameKernel", "(III)Z"⟩) ∈ lw_all := lw_g (lw_at lw_ms 14 rfl) rfl
theorem qs15 : (Cond.selects "KernelDesk" ⟨"KernelDesk", "madeLetters", "()I"⟩ ⟨"KernelDesk", "madeLetters", "()I"⟩) ∈ lw_all := lw_g (lw_at lw_ms 15 rfl) rfl
theorem qs16 : (Cond.selects "KernelDesk" ⟨"KernelDesk", "lettersOf", "(I)I"⟩ ⟨"KernelDesk", "lettersOf", "(I)I"⟩) ∈ lw_all := lw_g (lw_at lw_ms 16 rfl) rfl
theorem qs17 : (Cond.selects "KernelDeskModel" ⟨"KernelDeskModel", "expression", "(I)Z"⟩ ⟨"KernelDeskModel", "expression", "(I)Z"⟩) ∈ lw_all := lw_g (lw_at lw_ms 17 rfl) rfl
theorem qs18 : (Cond.selects "KernelDeskModel" ⟨"KernelDeskModel", "isCube", "(I)Z"⟩ ⟨"KernelDeskModel", "isCube", "(I)Z"⟩) ∈ lw_all := lw_g (lw_at lw_ms 18 rfl) rfl
theorem qs19 : (Cond.selects "KernelDeskModel" ⟨"KernelDeskModel", "many", "(I)I"⟩ ⟨"KernelDeskModel", "many", "(I)I"⟩) ∈ lw_all := lw_g (lw_at lw_ms 19 rfl) rfl
theorem qs20 : (Cond.selects "KernelDeskModel" ⟨"KernelDeskModel", "quotientHas", "(III)Z"⟩ ⟨"KernelDeskModel", "quotientHas", "(III)Z"⟩) ∈ lw_all := lw_g (lw_at lw_ms 20 rfl) rfl
theorem qs21 : (Cond.selects "KernelDeskModel" ⟨"KernelDeskModel", "store", "(IZ)V"⟩ ⟨"KernelDeskModel", "store", "(IZ)V"⟩) ∈ lw_all := lw_g (lw_at lw_ms 21 rfl) rfl
theorem qs22 : (Cond.selects "KernelDeskModel" ⟨"KernelDeskModel", "divides", "(II)Z"⟩ ⟨"KernelDeskModel", "divides", "(II)Z"⟩) ∈ lw_all := lw_g (lw_at lw_ms 22 rfl) rfl
theorem qs23 : (Cond.selects "KernelDeskModel" ⟨"KernelDeskModel", "work", "(II)V"⟩ ⟨"KernelDeskModel", "work", "(II)V"⟩) ∈ lw_all := lw_g (lw_at lw_ms 23 rfl) rfl
theorem qs24 : (Cond.selects "KernelDeskModel" ⟨"KernelDeskModel", "freeBy", "(II)Z"⟩ ⟨"KernelDeskModel", "freeBy", "(II)Z"⟩) ∈ lw_all := lw_g (lw_at lw_ms 24 rfl) rfl
theorem qs25 : (Cond.selects "KernelDeskModel" ⟨"KernelDeskModel", "same", "(III)Z"⟩ ⟨"KernelDeskModel", "same", "(III)Z"⟩) ∈ lw_all := lw_g (lw_at lw_ms 25 rfl) rfl
theorem qs26 : (Cond.selects "KernelDeskModel" ⟨"KernelDeskModel", "letters", "(I)I"⟩ ⟨"KernelDeskModel", "letters", "(I)I"⟩) ∈ lw_all := lw_g (lw_at lw_ms 26 rfl) rfl
end
section
set_option maxRecDepth 100000
/-! KernelDesk -/
def RX0 : String := "KernelDesk"
def TX0 : u_T := fun k => match k with
  | 0 => ("KernelDesk", "sizes", "[B", true)
  | 1 => ("KernelDesk", "cubes", "[B", true)
  | 2 => ("KernelDesk", "madeSize", "I", false)
  | 3 => ("KernelDesk", "made", "[B", true)
  | 4 => ("KernelDesk", "isCokernel", "[Z", true)
  | 5 => ("KernelDesk", "holders", "[S", true)
  | 6 => ("KernelDesk", "waiting", "I", false)
  | 7 => ("KernelDesk", "waitCube", "[B", true)
  | _ => ("KernelDesk", "waitLetter", "[B", true)
def tyX0 : Nat → FieldType := fun k => match k with
  | 0 => .array .byte
  | 1 => .array .byte
  | 2 => .int
  | 3 => .array .byte
  | 4 => .array .boolean
  | 5 => .array .short
  | 6 => .int
  | 7 => .array .byte
  | _ => .array .byte
abbrev wsX00 : List Cond := u_ws RX0 TX0 9
theorem nmX0 : ∀ a, a < 9 → ∀ b, b < 9 → a ≠ b → (TX0 a).2.1 ≠ (TX0 b).2.1 := by decide +kernel
theorem tyX0_ok : ∀ k, k < 9 → parseFieldDescriptor (TX0 k).2.2.1 = some (tyX0 k) := by decide +kernel
abbrev cX0_init : ByteArray := prog_1_method_1_code
def yX0_init : MethodName := ⟨RX0, "<init>", "()V"⟩
abbrev cX0_put : ByteArray := prog_1_method_6_code
def yX0_put : MethodName := ⟨RX0, "put", "(II)Z"⟩
abbrev cX0_isExpression : ByteArray := prog_1_method_2_code
def yX0_isExpression : MethodName := ⟨RX0, "isExpression", "(I)Z"⟩
abbrev cX0_isCube : ByteArray := prog_1_method_3_code
def yX0_isCube : MethodName := ⟨RX0, "isCube", "(I)Z"⟩
abbrev cX0_find : ByteArray := prog_1_method_5_code
def yX0_find : MethodName := ⟨RX0, "find", "(II)I"⟩
abbrev cX0_take : ByteArray := prog_1_method_7_code
def yX0_take : MethodName := ⟨RX0, "take", "(II)Z"⟩
abbrev cX0_clear : ByteArray := prog_1_method_8_code
def yX0_clear : MethodName := ⟨RX0, "clear", "(I)Z"⟩
abbrev cX0_size : ByteArray := prog_1_method_9_code
def yX0_size : MethodName := ⟨RX0, "size", "(I)I"⟩
abbrev cX0_cube : ByteArray := prog_1_method_10_code
def yX0_cube : MethodName := ⟨RX0, "cube", "(II)I"⟩
abbrev cX0_divideBy : ByteArray := prog_1_method_14_code
def yX0_divideBy : MethodName := ⟨RX0, "divideBy", "(III)I"⟩
abbrev cX0_quotientBy : ByteArray := prog_1_method_13_code
def yX0_quotientBy : MethodName := ⟨RX0, "quotientBy", "(II)V"⟩
abbrev cX0_store : ByteArray := prog_1_method_12_code
def yX0_store : MethodName := ⟨RX0, "store", "(I)I"⟩
abbrev cX0_divide : ByteArray := prog_1_method_17_code
def yX0_divide : MethodName := ⟨RX0, "divide", "(III)I"⟩
abbrev cX0_canDivide : ByteArray := prog_1_method_16_code
def yX0_canDivide : MethodName := ⟨RX0, "canDivide", "(II)Z"⟩
abbrev cX0_quotient : ByteArray := prog_1_method_15_code
def yX0_quotient : MethodName := ⟨RX0, "quotient", "(II)V"⟩
abbrev cX0_rest : ByteArray := prog_1_method_20_code
def yX0_rest : MethodName := ⟨RX0, "rest", "(III)I"⟩
abbrev cX0_remainder : ByteArray := prog_1_method_19_code
def yX0_remainder : MethodName := ⟨RX0, "remainder", "(II)V"⟩
abbrev cX0_isProduct : ByteArray := prog_1_method_18_code
def yX0_isProduct : MethodName := ⟨RX0, "isProduct", "(II)Z"⟩
abbrev cX0_isMade : ByteArray := prog_1_method_11_code
def yX0_isMade : MethodName := ⟨RX0, "isMade", "(I)Z"⟩
abbrev cX0_in : ByteArray := prog_1_method_4_code
def yX0_in : MethodName := ⟨RX0, "in", "(II)Z"⟩
abbrev cX0_common : ByteArray := prog_1_method_22_code
def yX0_common : MethodName := ⟨RX0, "common", "(I)I"⟩
abbrev cX0_commonAt : ByteArray := prog_1_method_21_code
def yX0_commonAt : MethodName := ⟨RX0, "commonAt", "(II)I"⟩
abbrev cX0_free : ByteArray := prog_1_method_23_code
def yX0_free : MethodName := ⟨RX0, "free", "(I)Z"⟩
abbrev cX0_kernels : ByteArray := prog_1_method_25_code
def yX0_kernels : MethodName := ⟨RX0, "kernels", "(I)I"⟩
abbrev cX0_explore : ByteArray := prog_1_method_31_code
def yX0_explore : MethodName := ⟨RX0, "explore", "(I)V"⟩
abbrev cX0_defer : ByteArray := prog_1_method_30_code
def yX0_defer : MethodName := ⟨RX0, "defer", "(II)V"⟩
abbrev cX0_placesOf : ByteArray := prog_1_method_24_code
def yX0_placesOf : MethodName := ⟨RX0, "placesOf", "(II)I"⟩
abbrev cX0_goOn : ByteArray := prog_1_method_32_code
def yX0_goOn : MethodName := ⟨RX0, "goOn", "(IIII)V"⟩
abbrev cX0_ones : ByteArray := prog_1_method_26_code
def yX0_ones : MethodName := ⟨RX0, "ones", "(I)I"⟩
abbrev cX0_isFirst : ByteArray := prog_1_method_35_code
def yX0_isFirst : MethodName := ⟨RX0, "isFirst", "(II)Z"⟩
abbrev cX0_sameKernel : ByteArray := prog_1_method_33_code
def yX0_sameKernel : MethodName := ⟨RX0, "sameKernel", "(III)Z"⟩
abbrev cX0_cokernels : ByteArray := prog_1_method_29_code
def yX0_cokernels : MethodName := ⟨RX0, "cokernels", "(I)I"⟩
abbrev cX0_nextCokernel : ByteArray := prog_1_method_34_code
def yX0_nextCokernel : MethodName := ⟨RX0, "nextCokernel", "(II)I"⟩
abbrev cX0_holding : ByteArray := prog_1_method_36_code
def yX0_holding : MethodName := ⟨RX0, "holding", "(II)I"⟩
abbrev cX0_saving : ByteArray := prog_1_method_37_code
def yX0_saving : MethodName := ⟨RX0, "saving", "(II)I"⟩
abbrev cX0_madeLetters : ByteArray := prog_1_method_28_code
def yX0_madeLetters : MethodName := ⟨RX0, "madeLetters", "()I"⟩
abbrev cX0_lettersOf : ByteArray := prog_1_method_27_code
def yX0_lettersOf : MethodName := ⟨RX0, "lettersOf", "(I)I"⟩
theorem q28 : (Jvm.Cond.initialized "KernelDesk") ∈ lw_all := lw_g (lw_at lw_m1 1 rfl) rfl
theorem q31 : (Jvm.Cond.instantiable "KernelDesk" (9 : Nat)) ∈ lw_all := lw_g (lw_at lw_m1 4 rfl) rfl
theorem q33 : (Jvm.Cond.instanceMethod ({ cls := "KernelDesk", name := "<init>", desc := "()V" } : Jvm.MethodName)) ∈ lw_all := lw_g (lw_at lw_m1 6 rfl) rfl
theorem q34 : (Jvm.Cond.code ({ cls := "KernelDesk", name := "<init>", desc := "()V" } : Jvm.MethodName) prog_1_method_1_code (1 : Nat) (Option.none : Option Jvm.ClassFile.FieldType)) ∈ lw_all := lw_g (lw_at lw_m1 7 rfl) rfl
theorem q35 : (Jvm.Cond.methodLink "KernelDesk" (1 : Nat) ({ cls := "java/lang/Object", name := "<init>", desc := "()V" } : Jvm.MethodName)) ∈ lw_all := lw_g (lw_at lw_m1 8 rfl) rfl
theorem q38 : (Jvm.Cond.fieldLink "KernelDesk" (7 : Nat) "KernelDesk" "sizes" "[B") ∈ lw_all := lw_g (lw_at lw_m1 11 rfl) rfl
theorem q39 : (Jvm.Cond.fieldLink "KernelDesk" (13 : Nat) "KernelDesk" "cubes" "[B") ∈ lw_all := lw_g (lw_at lw_m1 12 rfl) rfl
theorem q40 : (Jvm.Cond.fieldLink "KernelDesk" (44 : Nat) "KernelDesk" "madeSize" "I") ∈ lw_all := lw_g (lw_at lw_m1 13 rfl) rfl
theorem q41 : (Jvm.Cond.fieldLink "KernelDesk" (16 : Nat) "KernelDesk" "made" "[B") ∈ lw_all := lw_g (lw_at lw_m1 14 rfl) rfl
theorem q42 : (Jvm.Cond.fieldLink "KernelDesk" (19 : Nat) "KernelDesk" "isCokernel" "[Z") ∈ lw_all := lw_g (lw_at lw_m1 15 rfl) rfl
theorem q43 : (Jvm.Cond.fieldLink "KernelDesk" (23 : Nat) "KernelDesk" "holders" "[S") ∈ lw_all := lw_g (lw_at lw_m1 16 rfl) rfl
theorem q44 : (Jvm.Cond.fieldLink "KernelDesk" (91 : Nat) "KernelDesk" "waiting" "I") ∈ lw_all := lw_g (lw_at lw_m1 17 rfl) rfl
theorem q45 : (Jvm.Cond.fieldLink "KernelDesk" (27 : Nat) "KernelDesk" "waitCube" "[B") ∈ lw_all := lw_g (lw_at lw_m1 18 rfl) rfl
theorem q46 : (Jvm.Cond.fieldLink "KernelDesk" (30 : Nat) "KernelDesk" "waitLetter" "[B") ∈ lw_all := lw_g (lw_at lw_m1 19 rfl) rfl
theorem q47 : (Jvm.Cond.laysFinal "KernelDesk" "KernelDesk" "sizes" "[B") ∈ lw_all := lw_g (lw_at lw_m1 20 rfl) rfl
theorem q48 : (Jvm.Cond.soleField "KernelDesk" "sizes") ∈ lw_all := lw_g (lw_at lw_m1 21 rfl) rfl
theorem q49 : (Jvm.Cond.laysFinal "KernelDesk" "KernelDesk" "cubes" "[B") ∈ lw_all := lw_g (lw_at lw_m1 22 rfl) rfl
theorem q50 : (Jvm.Cond.soleField "KernelDesk" "cubes") ∈ lw_all := lw_g (lw_at lw_m1 23 rfl) rfl
theorem q51 : (Jvm.Cond.lays "KernelDesk" "KernelDesk" "madeSize" "I") ∈ lw_all := lw_g (lw_at lw_m1 24 rfl) rfl
theorem q52 : (Jvm.Cond.soleField "KernelDesk" "madeSize") ∈ lw_all := lw_g (lw_at lw_m1 25 rfl) rfl
theorem q53 : (Jvm.Cond.laysFinal "KernelDesk" "KernelDesk" "made" "[B") ∈ lw_all := lw_g (lw_at lw_m1 26 rfl) rfl
theorem q54 : (Jvm.Cond.soleField "KernelDesk" "made") ∈ lw_all := lw_g (lw_at lw_m1 27 rfl) rfl
theorem q55 : (Jvm.Cond.laysFinal "KernelDesk" "KernelDesk" "isCokernel" "[Z") ∈ lw_all := lw_g (lw_at lw_m1 28 rfl) rfl
theorem q56 : (Jvm.Cond.soleField "KernelDesk" "isCokernel") ∈ lw_all := lw_g (lw_at lw_m1 29 rfl) rfl
theorem q57 : (Jvm.Cond.laysFinal "KernelDesk" "KernelDesk" "holders" "[S") ∈ lw_all := lw_g (lw_at lw_m1 30 rfl) rfl
theorem q58 : (Jvm.Cond.soleField "KernelDesk" "holders") ∈ lw_all := lw_g (lw_at lw_m1 31 rfl) rfl
theorem q59 : (Jvm.Cond.lays "KernelDesk" "KernelDesk" "waiting" "I") ∈ lw_all := lw_g (lw_at lw_m1 32 rfl) rfl
theorem q60 : (Jvm.Cond.soleField "KernelDesk" "waiting") ∈ lw_all := lw_g (lw_at lw_m1 33 rfl) rfl
theorem q61 : (Jvm.Cond.laysFinal "KernelDesk" "KernelDesk" "waitCube" "[B") ∈ lw_all := lw_g (lw_at lw_m1 34 rfl) rfl
theorem q62 : (Jvm.Cond.soleField "KernelDesk" "waitCube") ∈ lw_all := lw_g (lw_at lw_m1 35 rfl) rfl
theorem q63 : (Jvm.Cond.laysFinal "KernelDesk" "KernelDesk" "waitLetter" "[B") ∈ lw_all := lw_g (lw_at lw_m1 36 rfl) rfl
theorem q64 : (Jvm.Cond.soleField "KernelDesk" "waitLetter") ∈ lw_all := lw_g (lw_at lw_m1 37 rfl) rfl
theorem q65 : (Jvm.Cond.superclass "KernelDesk" "java/lang/Object") ∈ lw_all := lw_g (lw_at lw_m1 38 rfl) rfl
theorem q70 : (Jvm.Cond.instanceMethod ({ cls := "KernelDesk", name := "put", desc := "(II)Z" } : Jvm.MethodName)) ∈ lw_all := lw_g (lw_at lw_m1 43 rfl) rfl
theorem q71 : (Jvm.Cond.selects "KernelDesk" ({ cls := "KernelDesk", name := "put", desc := "(II)Z" } : Jvm.MethodName) ({ cls := "KernelDesk", name := "put", desc := "(II)Z" } : Jvm.MethodName)) ∈ lw_all := lw_g (lw_at lw_m1 44 rfl) rfl
theorem q72 : (Jvm.Cond.code ({ cls := "KernelDesk", name := "put", desc := "(II)Z" } : Jvm.MethodName) prog_1_method_6_code (4 : Nat) (Option.some Jvm.ClassFile.FieldType.boolean)) ∈ lw_all := lw_g (lw_at lw_m1 45 rfl) rfl
theorem q73 : (Jvm.Cond.methodLink "KernelDesk" (33 : Nat) ({ cls := "KernelDesk", name := "isExpression", desc := "(I)Z" } : Jvm.MethodName)) ∈ lw_all := lw_g (lw_at lw_m1 46 rfl) rfl
theorem q74 : (Jvm.Cond.static ({ cls := "KernelDesk", name := "isExpression", desc := "(I)Z" } : Jvm.MethodName)) ∈ lw_all := lw_g (lw_at lw_m1 47 rfl) rfl
theorem q75 : (Jvm.Cond.code ({ cls := "KernelDesk", name := "isExpression", desc := "(I)Z" } : Jvm.MethodName) prog_1_method_2_code (1 : Nat) (Option.some Jvm.ClassFile.FieldType.boolean)) ∈ lw_all := lw_g (lw_at lw_m1 48 rfl) rfl
theorem q76 : (Jvm.Cond.methodLink "KernelDesk" (37 : Nat) ({ cls := "KernelDesk", name := "isCube", desc := "(I)Z" } : Jvm.MethodName)) ∈ lw_all := lw_g (lw_at lw_m1 49 rfl) rfl
theorem q77 : (Jvm.Cond.static ({ cls := "KernelDesk", name := "isCube", desc := "(I)Z" } : Jvm.MethodName)) ∈ lw_all := lw_g (lw_at lw_m1 50 rfl) rfl
theorem q78 : (Jvm.Cond.code ({ cls := "KernelDesk", name := "isCube", desc := "(I)Z" } : Jvm.MethodName) prog_1_method_3_code (1 : Nat) (Option.some Jvm.ClassFile.FieldType.boolean)) ∈ lw_all := lw_g (lw_at lw_m1 51 rfl) rfl
theorem q79 : (Jvm.Cond.methodLink "KernelDesk" (40 : Nat) ({ cls := "KernelDesk", name := "find", desc := "(II)I" } : Jvm.MethodName)) ∈ lw_all := lw_g (lw_at lw_m1 52 rfl) rfl
theorem q80 : (Jvm.Cond.privateMethod ({ cls := "KernelDesk", name := "find", desc := "(II)I" } : Jvm.MethodName)) ∈ lw_tbl := lw_at lw_m1 53 rfl
theorem q81 : (Jvm.Cond.instanceMethod ({ cls := "KernelDesk", name := "find", desc := "(II)I" } : Jvm.MethodName)) ∈ lw_all := lw_g (lw_at lw_m1 54 rfl) rfl
theorem q82 : (Jvm.Cond.code ({ cls := "KernelDesk", name := "find", desc := "(II)I" } : Jvm.MethodName) prog_1_method_5_code (4 : Nat) (Option.some Jvm.ClassFile.FieldType.int)) ∈ lw_all := lw_g (lw_at lw_m1 55 rfl) rfl
theorem q84 : (Jvm.Cond.instanceMethod ({ cls := "KernelDesk", name := "take", desc := "(II)Z" } : Jvm.MethodName)) ∈ lw_all := lw_g (lw_at lw_m1 57 rfl) rfl
theorem q85 : (Jvm.Cond.selects "KernelDesk" ({ cls := "KernelDesk", name := "take", desc := "(II)Z" } : Jvm.MethodName) ({ cls := "KernelDesk", name := "take", desc := "(II)Z" } : Jvm.MethodName)) ∈ lw_all := lw_g (lw_at lw_m1 58 rfl) rfl
theorem q86 : (Jvm.Cond.code ({ cls := "KernelDesk", name := "take", desc := "(II)Z" } : Jvm.MethodName) prog_1_method_7_code (5 : Nat) (Option.some Jvm.ClassFile.FieldType.boolean)) ∈ lw_all := lw_g (lw_at lw_m1 59 rfl) rfl
theorem q88 : (Jvm.Cond.instanceMethod ({ cls := "KernelDesk", name := "clear", desc := "(I)Z" } : Jvm.MethodName)) ∈ lw_all := lw_g (lw_at lw_m1 61 rfl) rfl
theorem q89 : (Jvm.Cond.selects "KernelDesk" ({ cls := "KernelDesk", name := "clear", desc := "(I)Z" } : Jvm.MethodName) ({ cls := "KernelDesk", name := "clear", desc := "(I)Z" } : Jvm.MethodName)) ∈ lw_all := lw_g (lw_at lw_m1 62 rfl) rfl
theorem q90 : (Jvm.Cond.code ({ cls := "KernelDesk", name := "clear", desc := "(I)Z" } : Jvm.MethodName) prog_1_method_8_code (2 : Nat) (Option.some Jvm.ClassFile.FieldType.boolean)) ∈ lw_all := lw_g (lw_at lw_m1 63 rfl) rfl
theorem q92 : (Jvm.Cond.instanceMethod ({ cls := "KernelDesk", name := "size", desc := "(I)I" } : Jvm.MethodName)) ∈ lw_all := lw_g (lw_at lw_m1 65 rfl) rfl
theorem q93 : (Jvm.Cond.selects "KernelDesk" ({ cls := "KernelDesk", name := "size", desc := "(I)I" } : Jvm.MethodName) ({ cls := "KernelDesk", name := "size", desc := "(I)I" } : Jvm.MethodName)) ∈ lw_all := lw_g (lw_at lw_m1 66 rfl) rfl
theorem q94 : (Jvm.Cond.code ({ cls := "KernelDesk", name := "size", desc := "(I)I" } : Jvm.MethodName) prog_1_method_9_code (2 : Nat) (Option.some Jvm.ClassFile.FieldType.int)) ∈ lw_all := lw_g (lw_at lw_m1 67 rfl) rfl
theorem q96 : (Jvm.Cond.instanceMethod ({ cls := "KernelDesk", name := "cube", desc := "(II)I" } : Jvm.MethodName)) ∈ lw_all := lw_g (lw_at lw_m1 69 rfl) rfl
theorem q97 : (Jvm.Cond.selects "KernelDesk" ({ cls := "KernelDesk", name := "cube", desc := "(II)I" } : Jvm.MethodName) ({ cls := "KernelDesk", name := "cube", desc := "(II)I" } : Jvm.MethodName)) ∈ lw_all := lw_g (lw_at lw_m1 70 rfl) rfl
theorem q98 : (Jvm.Cond.code ({ cls := "KernelDesk", name := "cube", desc := "(II)I" } : Jvm.MethodName) prog_1_method_10_code (3 : Nat) (Option.some Jvm.ClassFile.FieldType.int)) ∈ lw_all := lw_g (lw_at lw_m1 71 rfl) rfl
theorem q100 : (Jvm.Cond.instanceMethod ({ cls := "KernelDesk", name := "divideBy", desc := "(III)I" } : Jvm.MethodName)) ∈ lw_all := lw_g (lw_at lw_m1 73 rfl) rfl
theorem q101 : (Jvm.Cond.selects "KernelDesk" ({ cls := "KernelDesk", name := "divideBy", desc := "(III)I" } : Jvm.MethodName) ({ cls := "KernelDesk", name := "divideBy", desc := "(III)I" } : Jvm.MethodName)) ∈ lw_all := lw_g (lw_at lw_m1 74 rfl) rfl
theorem q102 : (Jvm.Cond.code ({ cls := "KernelDesk", name := "divideBy", desc := "(III)I" } : Jvm.MethodName) prog_1_method_14_code (4 : Nat) (Option.some Jvm.ClassFile.FieldType.int)) ∈ lw_all := lw_g (lw_at lw_m1 75 rfl) rfl
theorem q103 : (Jvm.Cond.methodLink "KernelDesk" (52 : Nat) ({ cls := "KernelDesk", name := "quotientBy", desc := "(II)V" } : Jvm.MethodName)) ∈ lw_all := lw_g (lw_at lw_m1 76 rfl) rfl
theorem q104 : (Jvm.Cond.privateMethod ({ cls := "KernelDesk", name := "quotientBy", desc := "(II)V" } : Jvm.MethodName)) ∈ lw_tbl := lw_at lw_m1 77 rfl
theorem q105 : (Jvm.Cond.instanceMethod ({ cls := "KernelDesk", name := "quotientBy", desc := "(II)V" } : Jvm.MethodName)) ∈ lw_all := lw_g (lw_at lw_m1 78 rfl) rfl
theorem q106 : (Jvm.Cond.code ({ cls := "KernelDesk", name := "quotientBy", desc := "(II)V" } : Jvm.MethodName) prog_1_method_13_code (5 : Nat) (Option.none : Option Jvm.ClassFile.FieldType)) ∈ lw_all := lw_g (lw_at lw_m1 79 rfl) rfl
theorem q107 : (Jvm.Cond.methodLink "KernelDesk" (56 : Nat) ({ cls := "KernelDesk", name := "store", desc := "(I)I" } : Jvm.MethodName)) ∈ lw_all := lw_g (lw_at lw_m1 80 rfl) rfl
theorem q108 : (Jvm.Cond.privateMethod ({ cls := "KernelDesk", name := "store", desc := "(I)I" } : Jvm.MethodName)) ∈ lw_tbl := lw_at lw_m1 81 rfl
theorem q109 : (Jvm.Cond.instanceMethod ({ cls := "KernelDesk", name := "store", desc := "(I)I" } : Jvm.MethodName)) ∈ lw_all := lw_g (lw_at lw_m1 82 rfl) rfl
theorem q110 : (Jvm.Cond.code ({ cls := "KernelDesk", name := "store", desc := "(I)I" } : Jvm.MethodName) prog_1_method_12_code (3 : Nat) (Option.some Jvm.ClassFile.FieldType.int)) ∈ lw_all := lw_g (lw_at lw_m1 83 rfl) rfl
theorem q111 : (Jvm.Cond.methodLink "KernelDesk" (48 : Nat) ({ cls := "KernelDesk", name := "put", desc := "(II)Z" } : Jvm.MethodName)) ∈ lw_all := lw_g (lw_at lw_m1 84 rfl) rfl
theorem q113 : (Jvm.Cond.instanceMethod ({ cls := "KernelDesk", name := "divide", desc := "(III)I" } : Jvm.MethodName)) ∈ lw_all := lw_g (lw_at lw_m1 86 rfl) rfl
theorem q114 : (Jvm.Cond.selects "KernelDesk" ({ cls := "KernelDesk", name := "divide", desc := "(III)I" } : Jvm.MethodName) ({ cls := "KernelDesk", name := "divide", desc := "(III)I" } : Jvm.MethodName)) ∈ lw_all := lw_g (lw_at lw_m1 87 rfl) rfl
theorem q115 : (Jvm.Cond.code ({ cls := "KernelDesk", name := "divide", desc := "(III)I" } : Jvm.MethodName) prog_1_method_17_code (4 : Nat) (Option.some Jvm.ClassFile.FieldType.int)) ∈ lw_all := lw_g (lw_at lw_m1 88 rfl) rfl
theorem q116 : (Jvm.Cond.methodLink "KernelDesk" (60 : Nat) ({ cls := "KernelDesk", name := "canDivide", desc := "(II)Z" } : Jvm.MethodName)) ∈ lw_all := lw_g (lw_at lw_m1 89 rfl) rfl
theorem q117 : (Jvm.Cond.privateMethod ({ cls := "KernelDesk", name := "canDivide", desc := "(II)Z" } : Jvm.MethodName)) ∈ lw_tbl := lw_at lw_m1 90 rfl
theorem q118 : (Jvm.Cond.instanceMethod ({ cls := "KernelDesk", name := "canDivide", desc := "(II)Z" } : Jvm.MethodName)) ∈ lw_all := lw_g (lw_at lw_m1 91 rfl) rfl
theorem q119 : (Jvm.Cond.code ({ cls := "KernelDesk", name := "canDivide", desc := "(II)Z" } : Jvm.MethodName) prog_1_method_16_code (3 : Nat) (Option.some Jvm.ClassFile.FieldType.boolean)) ∈ lw_all := lw_g (lw_at lw_m1 92 rfl) rfl
theorem q120 : (Jvm.Cond.methodLink "KernelDesk" (63 : Nat) ({ cls := "KernelDesk", name := "quotient", desc := "(II)V" } : Jvm.MethodName)) ∈ lw_all := lw_g (lw_at lw_m1 93 rfl) rfl
theorem q121 : (Jvm.Cond.privateMethod ({ cls := "KernelDesk", name := "quotient", desc := "(II)V" } : Jvm.MethodName)) ∈ lw_tbl := lw_at lw_m1 94 rfl
theorem q122 : (Jvm.Cond.instanceMethod ({ cls := "KernelDesk", name := "quotient", desc := "(II)V" } : Jvm.MethodName)) ∈ lw_all := lw_g (lw_at lw_m1 95 rfl) rfl
theorem q123 : (Jvm.Cond.code ({ cls := "KernelDesk", name := "quotient", desc := "(II)V" } : Jvm.MethodName) prog_1_method_15_code (10 : Nat) (Option.none : Option Jvm.ClassFile.FieldType)) ∈ lw_all := lw_g (lw_at lw_m1 96 rfl) rfl
theorem q125 : (Jvm.Cond.instanceMethod ({ cls := "KernelDesk", name := "rest", desc := "(III)I" } : Jvm.MethodName)) ∈ lw_all := lw_g (lw_at lw_m1 98 rfl) rfl
theorem q126 : (Jvm.Cond.selects "KernelDesk" ({ cls := "KernelDesk", name := "rest", desc := "(III)I" } : Jvm.MethodName) ({ cls := "KernelDesk", name := "rest", desc := "(III)I" } : Jvm.MethodName)) ∈ lw_all := lw_g (lw_at lw_m1 99 rfl) rfl
theorem q127 : (Jvm.Cond.code ({ cls := "KernelDesk", name := "rest", desc := "(III)I" } : Jvm.MethodName) prog_1_method_20_code (4 : Nat) (Option.some Jvm.ClassFile.FieldType.int)) ∈ lw_all := lw_g (lw_at lw_m1 100 rfl) rfl
theorem q128 : (Jvm.Cond.methodLink "KernelDesk" (75 : Nat) ({ cls := "KernelDesk", name := "remainder", desc := "(II)V" } : Jvm.MethodName)) ∈ lw_all := lw_g (lw_at lw_m1 101 rfl) rfl
theorem q129 : (Jvm.Cond.privateMethod ({ cls := "KernelDesk", name := "remainder", desc := "(II)V" } : Jvm.MethodName)) ∈ lw_tbl := lw_at lw_m1 102 rfl
theorem q130 : (Jvm.Cond.instanceMethod ({ cls := "KernelDesk", name := "remainder", desc := "(II)V" } : Jvm.MethodName)) ∈ lw_all := lw_g (lw_at lw_m1 103 rfl) rfl
theorem q131 : (Jvm.Cond.code ({ cls := "KernelDesk", name := "remainder", desc := "(II)V" } : Jvm.MethodName) prog_1_method_19_code (5 : Nat) (Option.none : Option Jvm.ClassFile.FieldType)) ∈ lw_all := lw_g (lw_at lw_m1 104 rfl) rfl
theorem q132 : (Jvm.Cond.methodLink "KernelDesk" (69 : Nat) ({ cls := "KernelDesk", name := "isProduct", desc := "(II)Z" } : Jvm.MethodName)) ∈ lw_all := lw_g (lw_at lw_m1 105 rfl) rfl
theorem q133 : (Jvm.Cond.privateMethod ({ cls := "KernelDesk", name := "isProduct", desc := "(II)Z" } : Jvm.MethodName)) ∈ lw_tbl := lw_at lw_m1 106 rfl
theorem q134 : (Jvm.Cond.instanceMethod ({ cls := "KernelDesk", name := "isProduct", desc := "(II)Z" } : Jvm.MethodName)) ∈ lw_all := lw_g (lw_at lw_m1 107 rfl) rfl
theorem q135 : (Jvm.Cond.code ({ cls := "KernelDesk", name := "isProduct", desc := "(II)Z" } : Jvm.MethodName) prog_1_method_18_code (5 : Nat) (Option.some Jvm.ClassFile.FieldType.boolean)) ∈ lw_all := lw_g (lw_at lw_m1 108 rfl) rfl
theorem q136 : (Jvm.Cond.methodLink "KernelDesk" (66 : Nat) ({ cls := "KernelDesk", name := "isMade", desc := "(I)Z" } : Jvm.MethodName)) ∈ lw_all := lw_g (lw_at lw_m1 109 rfl) rfl
theorem q137 : (Jvm.Cond.privateMethod ({ cls := "KernelDesk", name := "isMade", desc := "(I)Z" } : Jvm.MethodName)) ∈ lw_tbl := lw_at lw_m1 110 rfl
theorem q138 : (Jvm.Cond.instanceMethod ({ cls := "KernelDesk", name := "isMade", desc := "(I)Z" } : Jvm.MethodName)) ∈ lw_all := lw_g (lw_at lw_m1 111 rfl) rfl
theorem q139 : (Jvm.Cond.code ({ cls := "KernelDesk", name := "isMade", desc := "(I)Z" } : Jvm.MethodName) prog_1_method_11_code (3 : Nat) (Option.some Jvm.ClassFile.FieldType.boolean)) ∈ lw_all := lw_g (lw_at lw_m1 112 rfl) rfl
theorem q140 : (Jvm.Cond.methodLink "KernelDesk" (72 : Nat) ({ cls := "KernelDesk", name := "in", desc := "(II)Z" } : Jvm.MethodName)) ∈ lw_all := lw_g (lw_at lw_m1 113 rfl) rfl
theorem q141 : (Jvm.Cond.static ({ cls := "KernelDesk", name := "in", desc := "(II)Z" } : Jvm.MethodName)) ∈ lw_all := lw_g (lw_at lw_m1 114 rfl) rfl
theorem q142 : (Jvm.Cond.code ({ cls := "KernelDesk", name := "in", desc := "(II)Z" } : Jvm.MethodName) prog_1_method_4_code (2 : Nat) (Option.some Jvm.ClassFile.FieldType.boolean)) ∈ lw_all := lw_g (lw_at lw_m1 115 rfl) rfl
theorem q144 : (Jvm.Cond.instanceMethod ({ cls := "KernelDesk", name := "common", desc := "(I)I" } : Jvm.MethodName)) ∈ lw_all := lw_g (lw_at lw_m1 117 rfl) rfl
theorem q145 : (Jvm.Cond.selects "KernelDesk" ({ cls := "KernelDesk", name := "common", desc := "(I)I" } : Jvm.MethodName) ({ cls := "KernelDesk", name := "common", desc := "(I)I" } : Jvm.MethodName)) ∈ lw_all := lw_g (lw_at lw_m1 118 rfl) rfl
theorem q146 : (Jvm.Cond.code ({ cls := "KernelDesk", name := "common", desc := "(I)I" } : Jvm.MethodName) prog_1_method_22_code (2 : Nat) (Option.some Jvm.ClassFile.FieldType.int)) ∈ lw_all := lw_g (lw_at lw_m1 119 rfl) rfl
theorem q147 : (Jvm.Cond.methodLink "KernelDesk" (78 : Nat) ({ cls := "KernelDesk", name := "commonAt", desc := "(II)I" } : Jvm.MethodName)) ∈ lw_all := lw_g (lw_at lw_m1 120 rfl) rfl
theorem q148 : (Jvm.Cond.privateMethod ({ cls := "KernelDesk", name := "commonAt", desc := "(II)I" } : Jvm.MethodName)) ∈ lw_tbl := lw_at lw_m1 121 rfl
theorem q149 : (Jvm.Cond.instanceMethod ({ cls := "KernelDesk", name := "commonAt", desc := "(II)I" } : Jvm.MethodName)) ∈ lw_all := lw_g (lw_at lw_m1 122 rfl) rfl
theorem q150 : (Jvm.Cond.code ({ cls := "KernelDesk", name := "commonAt", desc := "(II)I" } : Jvm.MethodName) prog_1_method_21_code (5 : Nat) (Option.some Jvm.ClassFile.FieldType.int)) ∈ lw_all := lw_g (lw_at lw_m1 123 rfl) rfl
theorem q152 : (Jvm.Cond.instanceMethod ({ cls := "KernelDesk", name := "free", desc := "(I)Z" } : Jvm.MethodName)) ∈ lw_all := lw_g (lw_at lw_m1 125 rfl) rfl
theorem q153 : (Jvm.Cond.selects "KernelDesk" ({ cls := "KernelDesk", name := "free", desc := "(I)Z" } : Jvm.MethodName) ({ cls := "KernelDesk", name := "free", desc := "(I)Z" } : Jvm.MethodName)) ∈ lw_all := lw_g (lw_at lw_m1 126 rfl) rfl
theorem q154 : (Jvm.Cond.code ({ cls := "KernelDesk", name := "free", desc := "(I)Z" } : Jvm.MethodName) prog_1_method_23_code (2 : Nat) (Option.some Jvm.ClassFile.FieldType.boolean)) ∈ lw_all := lw_g (lw_at lw_m1 127 rfl) rfl
theorem q156 : (Jvm.Cond.instanceMethod ({ cls := "KernelDesk", name := "kernels", desc := "(I)I" } : Jvm.MethodName)) ∈ lw_all := lw_g (lw_at lw_m1 129 rfl) rfl
theorem q157 : (Jvm.Cond.selects "KernelDesk" ({ cls := "KernelDesk", name := "kernels", desc := "(I)I" } : Jvm.MethodName) ({ cls := "KernelDesk", name := "kernels", desc := "(I)I" } : Jvm.MethodName)) ∈ lw_all := lw_g (lw_at lw_m1 130 rfl) rfl
theorem q158 : (Jvm.Cond.code ({ cls := "KernelDesk", name := "kernels", desc := "(I)I" } : Jvm.MethodName) prog_1_method_25_code (4 : Nat) (Option.some Jvm.ClassFile.FieldType.int)) ∈ lw_all := lw_g (lw_at lw_m1 131 rfl) rfl
theorem q159 : (Jvm.Cond.methodLink "KernelDesk" (81 : Nat) ({ cls := "KernelDesk", name := "explore", desc := "(I)V" } : Jvm.MethodName)) ∈ lw_all := lw_g (lw_at lw_m1 132 rfl) rfl
theorem q160 : (Jvm.Cond.privateMethod ({ cls := "KernelDesk", name := "explore", desc := "(I)V" } : Jvm.MethodName)) ∈ lw_tbl := lw_at lw_m1 133 rfl
theorem q161 : (Jvm.Cond.instanceMethod ({ cls := "KernelDesk", name := "explore", desc := "(I)V" } : Jvm.MethodName)) ∈ lw_all := lw_g (lw_at lw_m1 134 rfl) rfl
theorem q162 : (Jvm.Cond.code ({ cls := "KernelDesk", name := "explore", desc := "(I)V" } : Jvm.MethodName) prog_1_method_31_code (7 : Nat) (Option.none : Option Jvm.ClassFile.FieldType)) ∈ lw_all := lw_g (lw_at lw_m1 135 rfl) rfl
theorem q163 : (Jvm.Cond.methodLink "KernelDesk" (94 : Nat) ({ cls := "KernelDesk", name := "defer", desc := "(II)V" } : Jvm.MethodName)) ∈ lw_all := lw_g (lw_at lw_m1 136 rfl) rfl
theorem q164 : (Jvm.Cond.privateMethod ({ cls := "KernelDesk", name := "defer", desc := "(II)V" } : Jvm.MethodName)) ∈ lw_tbl := lw_at lw_m1 137 rfl
theorem q165 : (Jvm.Cond.instanceMethod ({ cls := "KernelDesk", name := "defer", desc := "(II)V" } : Jvm.MethodName)) ∈ lw_all := lw_g (lw_at lw_m1 138 rfl) rfl
theorem q166 : (Jvm.Cond.code ({ cls := "KernelDesk", name := "defer", desc := "(II)V" } : Jvm.MethodName) prog_1_method_30_code (3 : Nat) (Option.none : Option Jvm.ClassFile.FieldType)) ∈ lw_all := lw_g (lw_at lw_m1 139 rfl) rfl
theorem q167 : (Jvm.Cond.methodLink "KernelDesk" (97 : Nat) ({ cls := "KernelDesk", name := "placesOf", desc := "(II)I" } : Jvm.MethodName)) ∈ lw_all := lw_g (lw_at lw_m1 140 rfl) rfl
theorem q168 : (Jvm.Cond.privateMethod ({ cls := "KernelDesk", name := "placesOf", desc := "(II)I" } : Jvm.MethodName)) ∈ lw_tbl := lw_at lw_m1 141 rfl
theorem q169 : (Jvm.Cond.instanceMethod ({ cls := "KernelDesk", name := "placesOf", desc := "(II)I" } : Jvm.MethodName)) ∈ lw_all := lw_g (lw_at lw_m1 142 rfl) rfl
theorem q170 : (Jvm.Cond.code ({ cls := "KernelDesk", name := "placesOf", desc := "(II)I" } : Jvm.MethodName) prog_1_method_24_code (5 : Nat) (Option.some Jvm.ClassFile.FieldType.int)) ∈ lw_all := lw_g (lw_at lw_m1 143 rfl) rfl
theorem q171 : (Jvm.Cond.methodLink "KernelDesk" (100 : Nat) ({ cls := "KernelDesk", name := "goOn", desc := "(IIII)V" } : Jvm.MethodName)) ∈ lw_all := lw_g (lw_at lw_m1 144 rfl) rfl
theorem q172 : (Jvm.Cond.privateMethod ({ cls := "KernelDesk", name := "goOn", desc := "(IIII)V" } : Jvm.MethodName)) ∈ lw_tbl := lw_at lw_m1 145 rfl
theorem q173 : (Jvm.Cond.instanceMethod ({ cls := "KernelDesk", name := "goOn", desc := "(IIII)V" } : Jvm.MethodName)) ∈ lw_all := lw_g (lw_at lw_m1 146 rfl) rfl
theorem q174 : (Jvm.Cond.code ({ cls := "KernelDesk", name := "goOn", desc := "(IIII)V" } : Jvm.MethodName) prog_1_method_32_code (8 : Nat) (Option.none : Option Jvm.ClassFile.FieldType)) ∈ lw_all := lw_g (lw_at lw_m1 147 rfl) rfl
theorem q175 : (Jvm.Cond.methodLink "KernelDesk" (88 : Nat) ({ cls := "KernelDesk", name := "ones", desc := "(I)I" } : Jvm.MethodName)) ∈ lw_all := lw_g (lw_at lw_m1 148 rfl) rfl
theorem q176 : (Jvm.Cond.static ({ cls := "KernelDesk", name := "ones", desc := "(I)I" } : Jvm.MethodName)) ∈ lw_all := lw_g (lw_at lw_m1 149 rfl) rfl
theorem q177 : (Jvm.Cond.code ({ cls := "KernelDesk", name := "ones", desc := "(I)I" } : Jvm.MethodName) prog_1_method_26_code (3 : Nat) (Option.some Jvm.ClassFile.FieldType.int)) ∈ lw_all := lw_g (lw_at lw_m1 150 rfl) rfl
theorem q178 : (Jvm.Cond.methodLink "KernelDesk" (85 : Nat) ({ cls := "KernelDesk", name := "isFirst", desc := "(II)Z" } : Jvm.MethodName)) ∈ lw_all := lw_g (lw_at lw_m1 151 rfl) rfl
theorem q179 : (Jvm.Cond.privateMethod ({ cls := "KernelDesk", name := "isFirst", desc := "(II)Z" } : Jvm.MethodName)) ∈ lw_tbl := lw_at lw_m1 152 rfl
theorem q180 : (Jvm.Cond.instanceMethod ({ cls := "KernelDesk", name := "isFirst", desc := "(II)Z" } : Jvm.MethodName)) ∈ lw_all := lw_g (lw_at lw_m1 153 rfl) rfl
theorem q181 : (Jvm.Cond.code ({ cls := "KernelDesk", name := "isFirst", desc := "(II)Z" } : Jvm.MethodName) prog_1_method_35_code (4 : Nat) (Option.some Jvm.ClassFile.FieldType.boolean)) ∈ lw_all := lw_g (lw_at lw_m1 154 rfl) rfl
theorem q182 : (Jvm.Cond.methodLink "KernelDesk" (104 : Nat) ({ cls := "KernelDesk", name := "sameKernel", desc := "(III)Z" } : Jvm.MethodName)) ∈ lw_all := lw_g (lw_at lw_m1 155 rfl) rfl
theorem q183 : (Jvm.Cond.privateMethod ({ cls := "KernelDesk", name := "sameKernel", desc := "(III)Z" } : Jvm.MethodName)) ∈ lw_tbl := lw_at lw_m1 156 rfl
theorem q184 : (Jvm.Cond.instanceMethod ({ cls := "KernelDesk", name := "sameKernel", desc := "(III)Z" } : Jvm.MethodName)) ∈ lw_all := lw_g (lw_at lw_m1 157 rfl) rfl
theorem q185 : (Jvm.Cond.code ({ cls := "KernelDesk", name := "sameKernel", desc := "(III)Z" } : Jvm.MethodName) prog_1_method_33_code (9 : Nat) (Option.some Jvm.ClassFile.FieldType.boolean)) ∈ lw_all := lw_g (lw_at lw_m1 158 rfl) rfl
theorem q187 : (Jvm.Cond.instanceMethod ({ cls := "KernelDesk", name := "cokernels", desc := "(I)I" } : Jvm.MethodName)) ∈ lw_all := lw_g (lw_at lw_m1 160 rfl) rfl
theorem q188 : (Jvm.Cond.selects "KernelDesk" ({ cls := "KernelDesk", name := "cokernels", desc := "(I)I" } : Jvm.MethodName) ({ cls := "KernelDesk", name := "cokernels", desc := "(I)I" } : Jvm.MethodName)) ∈ lw_all := lw_g (lw_at lw_m1 161 rfl) rfl
theorem q189 : (Jvm.Cond.code ({ cls := "KernelDesk", name := "cokernels", desc := "(I)I" } : Jvm.MethodName) prog_1_method_29_code (4 : Nat) (Option.some Jvm.ClassFile.FieldType.int)) ∈ lw_all := lw_g (lw_at lw_m1 162 rfl) rfl
theorem q191 : (Jvm.Cond.instanceMethod ({ cls := "KernelDesk", name := "nextCokernel", desc := "(II)I" } : Jvm.MethodName)) ∈ lw_all := lw_g (lw_at lw_m1 164 rfl) rfl
theorem q192 : (Jvm.Cond.selects "KernelDesk" ({ cls := "KernelDesk", name := "nextCokernel", desc := "(II)I" } : Jvm.MethodName) ({ cls := "KernelDesk", name := "nextCokernel", desc := "(II)I" } : Jvm.MethodName)) ∈ lw_all := lw_g (lw_at lw_m1 165 rfl) rfl
theorem q193 : (Jvm.Cond.code ({ cls := "KernelDesk", name := "nextCokernel", desc := "(II)I" } : Jvm.MethodName) prog_1_method_34_code (4 : Nat) (Option.some Jvm.ClassFile.FieldType.int)) ∈ lw_all := lw_g (lw_at lw_m1 166 rfl) rfl
theorem q195 : (Jvm.Cond.instanceMethod ({ cls := "KernelDesk", name := "holding", desc := "(II)I" } : Jvm.MethodName)) ∈ lw_all := lw_g (lw_at lw_m1 168 rfl) rfl
theorem q196 : (Jvm.Cond.selects "KernelDesk" ({ cls := "KernelDesk", name := "holding", desc := "(II)I" } : Jvm.MethodName) ({ cls := "KernelDesk", name := "holding", desc := "(II)I" } : Jvm.MethodName)) ∈ lw_all := lw_g (lw_at lw_m1 169 rfl) rfl
theorem q197 : (Jvm.Cond.code ({ cls := "KernelDesk", name := "holding", desc := "(II)I" } : Jvm.MethodName) prog_1_method_36_code (3 : Nat) (Option.some Jvm.ClassFile.FieldType.int)) ∈ lw_all := lw_g (lw_at lw_m1 170 rfl) rfl
theorem q199 : (Jvm.Cond.instanceMethod ({ cls := "KernelDesk", name := "saving", desc := "(II)I" } : Jvm.MethodName)) ∈ lw_all := lw_g (lw_at lw_m1 172 rfl) rfl
theorem q200 : (Jvm.Cond.selects "KernelDesk" ({ cls := "KernelDesk", name := "saving", desc := "(II)I" } : Jvm.MethodName) ({ cls := "KernelDesk", name := "saving", desc := "(II)I" } : Jvm.MethodName)) ∈ lw_all := lw_g (lw_at lw_m1 173 rfl) rfl
theorem q201 : (Jvm.Cond.code ({ cls := "KernelDesk", name := "saving", desc := "(II)I" } : Jvm.MethodName) prog_1_method_37_code (4 : Nat) (Option.some Jvm.ClassFile.FieldType.int)) ∈ lw_all := lw_g (lw_at lw_m1 174 rfl) rfl
theorem q202 : (Jvm.Cond.methodLink "KernelDesk" (108 : Nat) ({ cls := "KernelDesk", name := "madeLetters", desc := "()I" } : Jvm.MethodName)) ∈ lw_all := lw_g (lw_at lw_m1 175 rfl) rfl
theorem q203 : (Jvm.Cond.privateMethod ({ cls := "KernelDesk", name := "madeLetters", desc := "()I" } : Jvm.MethodName)) ∈ lw_tbl := lw_at lw_m1 176 rfl
theorem q204 : (Jvm.Cond.instanceMethod ({ cls := "KernelDesk", name := "madeLetters", desc := "()I" } : Jvm.MethodName)) ∈ lw_all := lw_g (lw_at lw_m1 177 rfl) rfl
theorem q205 : (Jvm.Cond.code ({ cls := "KernelDesk", name := "madeLetters", desc := "()I" } : Jvm.MethodName) prog_1_method_28_code (3 : Nat) (Option.some Jvm.ClassFile.FieldType.int)) ∈ lw_all := lw_g (lw_at lw_m1 178 rfl) rfl
theorem q206 : (Jvm.Cond.methodLink "KernelDesk" (112 : Nat) ({ cls := "KernelDesk", name := "lettersOf", desc := "(I)I" } : Jvm.MethodName)) ∈ lw_all := lw_g (lw_at lw_m1 179 rfl) rfl
theorem q207 : (Jvm.Cond.privateMethod ({ cls := "KernelDesk", name := "lettersOf", desc := "(I)I" } : Jvm.MethodName)) ∈ lw_tbl := lw_at lw_m1 180 rfl
theorem q208 : (Jvm.Cond.instanceMethod ({ cls := "KernelDesk", name := "lettersOf", desc := "(I)I" } : Jvm.MethodName)) ∈ lw_all := lw_g (lw_at lw_m1 181 rfl) rfl
theorem q209 : (Jvm.Cond.code ({ cls := "KernelDesk", name := "lettersOf", desc := "(I)I" } : Jvm.MethodName) prog_1_method_27_code (4 : Nat) (Option.some Jvm.ClassFile.FieldType.int)) ∈ lw_all := lw_g (lw_at lw_m1 182 rfl) rfl
theorem in_X0 : ∀ w ∈ wsX00, w ∈ lw_all := lw_in wsX00 [47, 49, 51, 53, 55, 57, 59, 61, 63] (by decide +kernel) (by decide +kernel)

/-! KernelDeskModel -/
def RX1 : String := "KernelDeskModel"
def TX1 : u_T := fun k => match k with
  | 0 => ("KernelDeskModel", "in", "[Z", false)
  | 1 => ("KernelDeskModel", "quotient", "[Z", false)
  | _ => ("KernelDeskModel", "left", "[Z", false)
def tyX1 : Nat → FieldType := fun k => match k with
  | 0 => .array .boolean
  | 1 => .array .boolean
  | _ => .array .boolean
abbrev wsX10 : List Cond := u_ws RX1 TX1 3
theorem nmX1 : ∀ a, a < 3 → ∀ b, b < 3 → a ≠ b → (TX1 a).2.1 ≠ (TX1 b).2.1 := by decide +kernel
theorem tyX1_ok : ∀ k, k < 3 → parseFieldDescriptor (TX1 k).2.2.1 = some (tyX1 k) := by decide +kernel
abbrev cX1_init : ByteArray := prog_3_method_1_code
def yX1_init : MethodName := ⟨RX1, "<init>", "()V"⟩
abbrev cX1_put : ByteArray := prog_3_method_5_code
def yX1_put : MethodName := ⟨RX1, "put", "(II)Z"⟩
abbrev cX1_expression : ByteArray := prog_3_method_2_code
def yX1_expression : MethodName := ⟨RX1, "expression", "(I)Z"⟩
abbrev cX1_isCube : ByteArray := prog_3_method_3_code
def yX1_isCube : MethodName := ⟨RX1, "isCube", "(I)Z"⟩
abbrev cX1_many : ByteArray := prog_3_method_4_code
def yX1_many : MethodName := ⟨RX1, "many", "(I)I"⟩
abbrev cX1_take : ByteArray := prog_3_method_6_code
def yX1_take : MethodName := ⟨RX1, "take", "(II)Z"⟩
abbrev cX1_clear : ByteArray := prog_3_method_7_code
def yX1_clear : MethodName := ⟨RX1, "clear", "(I)Z"⟩
abbrev cX1_size : ByteArray := prog_3_method_8_code
def yX1_size : MethodName := ⟨RX1, "size", "(I)I"⟩
abbrev cX1_cube : ByteArray := prog_3_method_9_code
def yX1_cube : MethodName := ⟨RX1, "cube", "(II)I"⟩
abbrev cX1_divideBy : ByteArray := prog_3_method_12_code
def yX1_divideBy : MethodName := ⟨RX1, "divideBy", "(III)I"⟩
abbrev cX1_quotientHas : ByteArray := prog_3_method_10_code
def yX1_quotientHas : MethodName := ⟨RX1, "quotientHas", "(III)Z"⟩
abbrev cX1_store : ByteArray := prog_3_method_11_code
def yX1_store : MethodName := ⟨RX1, "store", "(IZ)V"⟩
abbrev cX1_divide : ByteArray := prog_3_method_15_code
def yX1_divide : MethodName := ⟨RX1, "divide", "(III)I"⟩
abbrev cX1_divides : ByteArray := prog_3_method_14_code
def yX1_divides : MethodName := ⟨RX1, "divides", "(II)Z"⟩
abbrev cX1_work : ByteArray := prog_3_method_13_code
def yX1_work : MethodName := ⟨RX1, "work", "(II)V"⟩
abbrev cX1_rest : ByteArray := prog_3_method_16_code
def yX1_rest : MethodName := ⟨RX1, "rest", "(III)I"⟩
abbrev cX1_common : ByteArray := prog_3_method_17_code
def yX1_common : MethodName := ⟨RX1, "common", "(I)I"⟩
abbrev cX1_free : ByteArray := prog_3_method_18_code
def yX1_free : MethodName := ⟨RX1, "free", "(I)Z"⟩
abbrev cX1_freeBy : ByteArray := prog_3_method_19_code
def yX1_freeBy : MethodName := ⟨RX1, "freeBy", "(II)Z"⟩
abbrev cX1_kernels : ByteArray := prog_3_method_21_code
def yX1_kernels : MethodName := ⟨RX1, "kernels", "(I)I"⟩
abbrev cX1_same : ByteArray := prog_3_method_20_code
def yX1_same : MethodName := ⟨RX1, "same", "(III)Z"⟩
abbrev cX1_cokernels : ByteArray := prog_3_method_22_code
def yX1_cokernels : MethodName := ⟨RX1, "cokernels", "(I)I"⟩
abbrev cX1_nextCokernel : ByteArray := prog_3_method_23_code
def yX1_nextCokernel : MethodName := ⟨RX1, "nextCokernel", "(II)I"⟩
abbrev cX1_holding : ByteArray := prog_3_method_24_code
def yX1_holding : MethodName := ⟨RX1, "holding", "(II)I"⟩
abbrev cX1_saving : ByteArray := prog_3_method_26_code
def yX1_saving : MethodName := ⟨RX1, "saving", "(II)I"⟩
abbrev cX1_letters : ByteArray := prog_3_method_25_code
def yX1_letters : MethodName := ⟨RX1, "letters", "(I)I"⟩
theorem q29 : (Jvm.Cond.initialized "KernelDeskModel") ∈ lw_all := lw_g (lw_at lw_m1 2 rfl) rfl
theorem q211 : (Jvm.Cond.instantiable "KernelDeskModel" (3 : Nat)) ∈ lw_all := lw_g (lw_at lw_m1 184 rfl) rfl
theorem q213 : (Jvm.Cond.instanceMethod ({ cls := "KernelDeskModel", name := "<init>", desc := "()V" } : Jvm.MethodName)) ∈ lw_all := lw_g (lw_at lw_m1 186 rfl) rfl
theorem q214 : (Jvm.Cond.code ({ cls := "KernelDeskModel", name := "<init>", desc := "()V" } : Jvm.MethodName) prog_3_method_1_code (1 : Nat) (Option.none : Option Jvm.ClassFile.FieldType)) ∈ lw_all := lw_g (lw_at lw_m1 187 rfl) rfl
theorem q215 : (Jvm.Cond.methodLink "KernelDeskModel" (1 : Nat) ({ cls := "java/lang/Object", name := "<init>", desc := "()V" } : Jvm.MethodName)) ∈ lw_all := lw_g (lw_at lw_m1 188 rfl) rfl
theorem q216 : (Jvm.Cond.fieldLink "KernelDeskModel" (7 : Nat) "KernelDeskModel" "in" "[Z") ∈ lw_all := lw_g (lw_at lw_m1 189 rfl) rfl
theorem q217 : (Jvm.Cond.fieldLink "KernelDeskModel" (13 : Nat) "KernelDeskModel" "quotient" "[Z") ∈ lw_all := lw_g (lw_at lw_m1 190 rfl) rfl
theorem q218 : (Jvm.Cond.fieldLink "KernelDeskModel" (16 : Nat) "KernelDeskModel" "left" "[Z") ∈ lw_all := lw_g (lw_at lw_m1 191 rfl) rfl
theorem q219 : (Jvm.Cond.lays "KernelDeskModel" "KernelDeskModel" "in" "[Z") ∈ lw_all := lw_g (lw_at lw_m1 192 rfl) rfl
theorem q220 : (Jvm.Cond.soleField "KernelDeskModel" "in") ∈ lw_all := lw_g (lw_at lw_m1 193 rfl) rfl
theorem q221 : (Jvm.Cond.lays "KernelDeskModel" "KernelDeskModel" "quotient" "[Z") ∈ lw_all := lw_g (lw_at lw_m1 194 rfl) rfl
theorem q222 : (Jvm.Cond.soleField "KernelDeskModel" "quotient") ∈ lw_all := lw_g (lw_at lw_m1 195 rfl) rfl
theorem q223 : (Jvm.Cond.lays "KernelDeskModel" "KernelDeskModel" "left" "[Z") ∈ lw_all := lw_g (lw_at lw_m1 196 rfl) rfl
theorem q224 : (Jvm.Cond.soleField "KernelDeskModel" "left") ∈ lw_all := lw_g (lw_at lw_m1 197 rfl) rfl
theorem q225 : (Jvm.Cond.superclass "KernelDeskModel" "java/lang/Object") ∈ lw_all := lw_g (lw_at lw_m1 198 rfl) rfl
theorem q227 : (Jvm.Cond.instanceMethod ({ cls := "KernelDeskModel", name := "put", desc := "(II)Z" } : Jvm.MethodName)) ∈ lw_all := lw_g (lw_at lw_m1 200 rfl) rfl
theorem q228 : (Jvm.Cond.selects "KernelDeskModel" ({ cls := "KernelDeskModel", name := "put", desc := "(II)Z" } : Jvm.MethodName) ({ cls := "KernelDeskModel", name := "put", desc := "(II)Z" } : Jvm.MethodName)) ∈ lw_all := lw_g (lw_at lw_m1 201 rfl) rfl
theorem q229 : (Jvm.Cond.code ({ cls := "KernelDeskModel", name := "put", desc := "(II)Z" } : Jvm.MethodName) prog_3_method_5_code (3 : Nat) (Option.some Jvm.ClassFile.FieldType.boolean)) ∈ lw_all := lw_g (lw_at lw_m1 202 rfl) rfl
theorem q230 : (Jvm.Cond.methodLink "KernelDeskModel" (19 : Nat) ({ cls := "KernelDeskModel", name := "expression", desc := "(I)Z" } : Jvm.MethodName)) ∈ lw_all := lw_g (lw_at lw_m1 203 rfl) rfl
theorem q231 : (Jvm.Cond.privateMethod ({ cls := "KernelDeskModel", name := "expression", desc := "(I)Z" } : Jvm.MethodName)) ∈ lw_tbl := lw_at lw_m1 204 rfl
theorem q232 : (Jvm.Cond.instanceMethod ({ cls := "KernelDeskModel", name := "expression", desc := "(I)Z" } : Jvm.MethodName)) ∈ lw_all := lw_g (lw_at lw_m1 205 rfl) rfl
theorem q233 : (Jvm.Cond.code ({ cls := "KernelDeskModel", name := "expression", desc := "(I)Z" } : Jvm.MethodName) prog_3_method_2_code (2 : Nat) (Option.some Jvm.ClassFile.FieldType.boolean)) ∈ lw_all := lw_g (lw_at lw_m1 206 rfl) rfl
theorem q234 : (Jvm.Cond.methodLink "KernelDeskModel" (23 : Nat) ({ cls := "KernelDeskModel", name := "isCube", desc := "(I)Z" } : Jvm.MethodName)) ∈ lw_all := lw_g (lw_at lw_m1 207 rfl) rfl
theorem q235 : (Jvm.Cond.privateMethod ({ cls := "KernelDeskModel", name := "isCube", desc := "(I)Z" } : Jvm.MethodName)) ∈ lw_tbl := lw_at lw_m1 208 rfl
theorem q236 : (Jvm.Cond.instanceMethod ({ cls := "KernelDeskModel", name := "isCube", desc := "(I)Z" } : Jvm.MethodName)) ∈ lw_all := lw_g (lw_at lw_m1 209 rfl) rfl
theorem q237 : (Jvm.Cond.code ({ cls := "KernelDeskModel", name := "isCube", desc := "(I)Z" } : Jvm.MethodName) prog_3_method_3_code (2 : Nat) (Option.some Jvm.ClassFile.FieldType.boolean)) ∈ lw_all := lw_g (lw_at lw_m1 210 rfl) rfl
theorem q238 : (Jvm.Cond.methodLink "KernelDeskModel" (26 : Nat) ({ cls := "KernelDeskModel", name := "many", desc := "(I)I" } : Jvm.MethodName)) ∈ lw_all := lw_g (lw_at lw_m1 211 rfl) rfl
theorem q239 : (Jvm.Cond.privateMethod ({ cls := "KernelDeskModel", name := "many", desc := "(I)I" } : Jvm.MethodName)) ∈ lw_tbl := lw_at lw_m1 212 rfl
theorem q240 : (Jvm.Cond.instanceMethod ({ cls := "KernelDeskModel", name := "many", desc := "(I)I" } : Jvm.MethodName)) ∈ lw_all := lw_g (lw_at lw_m1 213 rfl) rfl
theorem q241 : (Jvm.Cond.code ({ cls := "KernelDeskModel", name := "many", desc := "(I)I" } : Jvm.MethodName) prog_3_method_4_code (4 : Nat) (Option.some Jvm.ClassFile.FieldType.int)) ∈ lw_all := lw_g (lw_at lw_m1 214 rfl) rfl
theorem q243 : (Jvm.Cond.instanceMethod ({ cls := "KernelDeskModel", name := "take", desc := "(II)Z" } : Jvm.MethodName)) ∈ lw_all := lw_g (lw_at lw_m1 216 rfl) rfl
theorem q244 : (Jvm.Cond.selects "KernelDeskModel" ({ cls := "KernelDeskModel", name := "take", desc := "(II)Z" } : Jvm.MethodName) ({ cls := "KernelDeskModel", name := "take", desc := "(II)Z" } : Jvm.MethodName)) ∈ lw_all := lw_g (lw_at lw_m1 217 rfl) rfl
theorem q245 : (Jvm.Cond.code ({ cls := "KernelDeskModel", name := "take", desc := "(II)Z" } : Jvm.MethodName) prog_3_method_6_code (3 : Nat) (Option.some Jvm.ClassFile.FieldType.boolean)) ∈ lw_all := lw_g (lw_at lw_m1 218 rfl) rfl
theorem q247 : (Jvm.Cond.instanceMethod ({ cls := "KernelDeskModel", name := "clear", desc := "(I)Z" } : Jvm.MethodName)) ∈ lw_all := lw_g (lw_at lw_m1 220 rfl) rfl
theorem q248 : (Jvm.Cond.selects "KernelDeskModel" ({ cls := "KernelDeskModel", name := "clear", desc := "(I)Z" } : Jvm.MethodName) ({ cls := "KernelDeskModel", name := "clear", desc := "(I)Z" } : Jvm.MethodName)) ∈ lw_all := lw_g (lw_at lw_m1 221 rfl) rfl
theorem q249 : (Jvm.Cond.code ({ cls := "KernelDeskModel", name := "clear", desc := "(I)Z" } : Jvm.MethodName) prog_3_method_7_code (3 : Nat) (Option.some Jvm.ClassFile.FieldType.boolean)) ∈ lw_all := lw_g (lw_at lw_m1 222 rfl) rfl
theorem q251 : (Jvm.Cond.instanceMethod ({ cls := "KernelDeskModel", name := "size", desc := "(I)I" } : Jvm.MethodName)) ∈ lw_all := lw_g (lw_at lw_m1 224 rfl) rfl
theorem q252 : (Jvm.Cond.selects "KernelDeskModel" ({ cls := "KernelDeskModel", name := "size", desc := "(I)I" } : Jvm.MethodName) ({ cls := "KernelDeskModel", name := "size", desc := "(I)I" } : Jvm.MethodName)) ∈ lw_all := lw_g (lw_at lw_m1 225 rfl) rfl
theorem q253 : (Jvm.Cond.code ({ cls := "KernelDeskModel", name := "size", desc := "(I)I" } : Jvm.MethodName) prog_3_method_8_code (2 : Nat) (Option.some Jvm.ClassFile.FieldType.int)) ∈ lw_all := lw_g (lw_at lw_m1 226 rfl) rfl
theorem q255 : (Jvm.Cond.instanceMethod ({ cls := "KernelDeskModel", name := "cube", desc := "(II)I" } : Jvm.MethodName)) ∈ lw_all := lw_g (lw_at lw_m1 228 rfl) rfl
theorem q256 : (Jvm.Cond.selects "KernelDeskModel" ({ cls := "KernelDeskModel", name := "cube", desc := "(II)I" } : Jvm.MethodName) ({ cls := "KernelDeskModel", name := "cube", desc := "(II)I" } : Jvm.MethodName)) ∈ lw_all := lw_g (lw_at lw_m1 229 rfl) rfl
theorem q257 : (Jvm.Cond.code ({ cls := "KernelDeskModel", name := "cube", desc := "(II)I" } : Jvm.MethodName) prog_3_method_9_code (5 : Nat) (Option.some Jvm.ClassFile.FieldType.int)) ∈ lw_all := lw_g (lw_at lw_m1 230 rfl) rfl
theorem q259 : (Jvm.Cond.instanceMethod ({ cls := "KernelDeskModel", name := "divideBy", desc := "(III)I" } : Jvm.MethodName)) ∈ lw_all := lw_g (lw_at lw_m1 232 rfl) rfl
theorem q260 : (Jvm.Cond.selects "KernelDeskModel" ({ cls := "KernelDeskModel", name := "divideBy", desc := "(III)I" } : Jvm.MethodName) ({ cls := "KernelDeskModel", name := "divideBy", desc := "(III)I" } : Jvm.MethodName)) ∈ lw_all := lw_g (lw_at lw_m1 233 rfl) rfl
theorem q261 : (Jvm.Cond.code ({ cls := "KernelDeskModel", name := "divideBy", desc := "(III)I" } : Jvm.MethodName) prog_3_method_12_code (5 : Nat) (Option.some Jvm.ClassFile.FieldType.int)) ∈ lw_all := lw_g (lw_at lw_m1 234 rfl) rfl
theorem q262 : (Jvm.Cond.methodLink "KernelDeskModel" (30 : Nat) ({ cls := "KernelDeskModel", name := "quotientHas", desc := "(III)Z" } : Jvm.MethodName)) ∈ lw_all := lw_g (lw_at lw_m1 235 rfl) rfl
theorem q263 : (Jvm.Cond.privateMethod ({ cls := "KernelDeskModel", name := "quotientHas", desc := "(III)Z" } : Jvm.MethodName)) ∈ lw_tbl := lw_at lw_m1 236 rfl
theorem q264 : (Jvm.Cond.instanceMethod ({ cls := "KernelDeskModel", name := "quotientHas", desc := "(III)Z" } : Jvm.MethodName)) ∈ lw_all := lw_g (lw_at lw_m1 237 rfl) rfl
theorem q265 : (Jvm.Cond.code ({ cls := "KernelDeskModel", name := "quotientHas", desc := "(III)Z" } : Jvm.MethodName) prog_3_method_10_code (4 : Nat) (Option.some Jvm.ClassFile.FieldType.boolean)) ∈ lw_all := lw_g (lw_at lw_m1 238 rfl) rfl
theorem q266 : (Jvm.Cond.methodLink "KernelDeskModel" (34 : Nat) ({ cls := "KernelDeskModel", name := "store", desc := "(IZ)V" } : Jvm.MethodName)) ∈ lw_all := lw_g (lw_at lw_m1 239 rfl) rfl
theorem q267 : (Jvm.Cond.privateMethod ({ cls := "KernelDeskModel", name := "store", desc := "(IZ)V" } : Jvm.MethodName)) ∈ lw_tbl := lw_at lw_m2 0 rfl
theorem q268 : (Jvm.Cond.instanceMethod ({ cls := "KernelDeskModel", name := "store", desc := "(IZ)V" } : Jvm.MethodName)) ∈ lw_all := lw_g (lw_at lw_m2 1 rfl) rfl
theorem q269 : (Jvm.Cond.code ({ cls := "KernelDeskModel", name := "store", desc := "(IZ)V" } : Jvm.MethodName) prog_3_method_11_code (4 : Nat) (Option.none : Option Jvm.ClassFile.FieldType)) ∈ lw_all := lw_g (lw_at lw_m2 2 rfl) rfl
theorem q271 : (Jvm.Cond.instanceMethod ({ cls := "KernelDeskModel", name := "divide", desc := "(III)I" } : Jvm.MethodName)) ∈ lw_all := lw_g (lw_at lw_m2 4 rfl) rfl
theorem q272 : (Jvm.Cond.selects "KernelDeskModel" ({ cls := "KernelDeskModel", name := "divide", desc := "(III)I" } : Jvm.MethodName) ({ cls := "KernelDeskModel", name := "divide", desc := "(III)I" } : Jvm.MethodName)) ∈ lw_all := lw_g (lw_at lw_m2 5 rfl) rfl
theorem q273 : (Jvm.Cond.code ({ cls := "KernelDeskModel", name := "divide", desc := "(III)I" } : Jvm.MethodName) prog_3_method_15_code (4 : Nat) (Option.some Jvm.ClassFile.FieldType.int)) ∈ lw_all := lw_g (lw_at lw_m2 6 rfl) rfl
theorem q274 : (Jvm.Cond.methodLink "KernelDeskModel" (38 : Nat) ({ cls := "KernelDeskModel", name := "divides", desc := "(II)Z" } : Jvm.MethodName)) ∈ lw_all := lw_g (lw_at lw_m2 7 rfl) rfl
theorem q275 : (Jvm.Cond.privateMethod ({ cls := "KernelDeskModel", name := "divides", desc := "(II)Z" } : Jvm.MethodName)) ∈ lw_tbl := lw_at lw_m2 8 rfl
theorem q276 : (Jvm.Cond.instanceMethod ({ cls := "KernelDeskModel", name := "divides", desc := "(II)Z" } : Jvm.MethodName)) ∈ lw_all := lw_g (lw_at lw_m2 9 rfl) rfl
theorem q277 : (Jvm.Cond.code ({ cls := "KernelDeskModel", name := "divides", desc := "(II)Z" } : Jvm.MethodName) prog_3_method_14_code (3 : Nat) (Option.some Jvm.ClassFile.FieldType.boolean)) ∈ lw_all := lw_g (lw_at lw_m2 10 rfl) rfl
theorem q278 : (Jvm.Cond.methodLink "KernelDeskModel" (42 : Nat) ({ cls := "KernelDeskModel", name := "work", desc := "(II)V" } : Jvm.MethodName)) ∈ lw_all := lw_g (lw_at lw_m2 11 rfl) rfl
theorem q279 : (Jvm.Cond.privateMethod ({ cls := "KernelDeskModel", name := "work", desc := "(II)V" } : Jvm.MethodName)) ∈ lw_tbl := lw_at lw_m2 12 rfl
theorem q280 : (Jvm.Cond.instanceMethod ({ cls := "KernelDeskModel", name := "work", desc := "(II)V" } : Jvm.MethodName)) ∈ lw_all := lw_g (lw_at lw_m2 13 rfl) rfl
theorem q281 : (Jvm.Cond.code ({ cls := "KernelDeskModel", name := "work", desc := "(II)V" } : Jvm.MethodName) prog_3_method_13_code (5 : Nat) (Option.none : Option Jvm.ClassFile.FieldType)) ∈ lw_all := lw_g (lw_at lw_m2 14 rfl) rfl
theorem q283 : (Jvm.Cond.instanceMethod ({ cls := "KernelDeskModel", name := "rest", desc := "(III)I" } : Jvm.MethodName)) ∈ lw_all := lw_g (lw_at lw_m2 16 rfl) rfl
theorem q284 : (Jvm.Cond.selects "KernelDeskModel" ({ cls := "KernelDeskModel", name := "rest", desc := "(III)I" } : Jvm.MethodName) ({ cls := "KernelDeskModel", name := "rest", desc := "(III)I" } : Jvm.MethodName)) ∈ lw_all := lw_g (lw_at lw_m2 17 rfl) rfl
theorem q285 : (Jvm.Cond.code ({ cls := "KernelDeskModel", name := "rest", desc := "(III)I" } : Jvm.MethodName) prog_3_method_16_code (4 : Nat) (Option.some Jvm.ClassFile.FieldType.int)) ∈ lw_all := lw_g (lw_at lw_m2 18 rfl) rfl
theorem q287 : (Jvm.Cond.instanceMethod ({ cls := "KernelDeskModel", name := "common", desc := "(I)I" } : Jvm.MethodName)) ∈ lw_all := lw_g (lw_at lw_m2 20 rfl) rfl
theorem q288 : (Jvm.Cond.selects "KernelDeskModel" ({ cls := "KernelDeskModel", name := "common", desc := "(I)I" } : Jvm.MethodName) ({ cls := "KernelDeskModel", name := "common", desc := "(I)I" } : Jvm.MethodName)) ∈ lw_all := lw_g (lw_at lw_m2 21 rfl) rfl
theorem q289 : (Jvm.Cond.code ({ cls := "KernelDeskModel", name := "common", desc := "(I)I" } : Jvm.MethodName) prog_3_method_17_code (4 : Nat) (Option.some Jvm.ClassFile.FieldType.int)) ∈ lw_all := lw_g (lw_at lw_m2 22 rfl) rfl
theorem q291 : (Jvm.Cond.instanceMethod ({ cls := "KernelDeskModel", name := "free", desc := "(I)Z" } : Jvm.MethodName)) ∈ lw_all := lw_g (lw_at lw_m2 24 rfl) rfl
theorem q292 : (Jvm.Cond.selects "KernelDeskModel" ({ cls := "KernelDeskModel", name := "free", desc := "(I)Z" } : Jvm.MethodName) ({ cls := "KernelDeskModel", name := "free", desc := "(I)Z" } : Jvm.MethodName)) ∈ lw_all := lw_g (lw_at lw_m2 25 rfl) rfl
theorem q293 : (Jvm.Cond.code ({ cls := "KernelDeskModel", name := "free", desc := "(I)Z" } : Jvm.MethodName) prog_3_method_18_code (2 : Nat) (Option.some Jvm.ClassFile.FieldType.boolean)) ∈ lw_all := lw_g (lw_at lw_m2 26 rfl) rfl
theorem q294 : (Jvm.Cond.methodLink "KernelDeskModel" (46 : Nat) ({ cls := "KernelDeskModel", name := "freeBy", desc := "(II)Z" } : Jvm.MethodName)) ∈ lw_all := lw_g (lw_at lw_m2 27 rfl) rfl
theorem q295 : (Jvm.Cond.privateMethod ({ cls := "KernelDeskModel", name := "freeBy", desc := "(II)Z" } : Jvm.MethodName)) ∈ lw_tbl := lw_at lw_m2 28 rfl
theorem q296 : (Jvm.Cond.instanceMethod ({ cls := "KernelDeskModel", name := "freeBy", desc := "(II)Z" } : Jvm.MethodName)) ∈ lw_all := lw_g (lw_at lw_m2 29 rfl) rfl
theorem q297 : (Jvm.Cond.code ({ cls := "KernelDeskModel", name := "freeBy", desc := "(II)Z" } : Jvm.MethodName) prog_3_method_19_code (7 : Nat) (Option.some Jvm.ClassFile.FieldType.boolean)) ∈ lw_all := lw_g (lw_at lw_m2 30 rfl) rfl
theorem q299 : (Jvm.Cond.instanceMethod ({ cls := "KernelDeskModel", name := "kernels", desc := "(I)I" } : Jvm.MethodName)) ∈ lw_all := lw_g (lw_at lw_m2 32 rfl) rfl
theorem q300 : (Jvm.Cond.selects "KernelDeskModel" ({ cls := "KernelDeskModel", name := "kernels", desc := "(I)I" } : Jvm.MethodName) ({ cls := "KernelDeskModel", name := "kernels", desc := "(I)I" } : Jvm.MethodName)) ∈ lw_all := lw_g (lw_at lw_m2 33 rfl) rfl
theorem q301 : (Jvm.Cond.code ({ cls := "KernelDeskModel", name := "kernels", desc := "(I)I" } : Jvm.MethodName) prog_3_method_21_code (6 : Nat) (Option.some Jvm.ClassFile.FieldType.int)) ∈ lw_all := lw_g (lw_at lw_m2 34 rfl) rfl
theorem q302 : (Jvm.Cond.methodLink "KernelDeskModel" (49 : Nat) ({ cls := "KernelDeskModel", name := "same", desc := "(III)Z" } : Jvm.MethodName)) ∈ lw_all := lw_g (lw_at lw_m2 35 rfl) rfl
theorem q303 : (Jvm.Cond.privateMethod ({ cls := "KernelDeskModel", name := "same", desc := "(III)Z" } : Jvm.MethodName)) ∈ lw_tbl := lw_at lw_m2 36 rfl
theorem q304 : (Jvm.Cond.instanceMethod ({ cls := "KernelDeskModel", name := "same", desc := "(III)Z" } : Jvm.MethodName)) ∈ lw_all := lw_g (lw_at lw_m2 37 rfl) rfl
theorem q305 : (Jvm.Cond.code ({ cls := "KernelDeskModel", name := "same", desc := "(III)Z" } : Jvm.MethodName) prog_3_method_20_code (6 : Nat) (Option.some Jvm.ClassFile.FieldType.boolean)) ∈ lw_all := lw_g (lw_at lw_m2 38 rfl) rfl
theorem q307 : (Jvm.Cond.instanceMethod ({ cls := "KernelDeskModel", name := "cokernels", desc := "(I)I" } : Jvm.MethodName)) ∈ lw_all := lw_g (lw_at lw_m2 40 rfl) rfl
theorem q308 : (Jvm.Cond.selects "KernelDeskModel" ({ cls := "KernelDeskModel", name := "cokernels", desc := "(I)I" } : Jvm.MethodName) ({ cls := "KernelDeskModel", name := "cokernels", desc := "(I)I" } : Jvm.MethodName)) ∈ lw_all := lw_g (lw_at lw_m2 41 rfl) rfl
theorem q309 : (Jvm.Cond.code ({ cls := "KernelDeskModel", name := "cokernels", desc := "(I)I" } : Jvm.MethodName) prog_3_method_22_code (4 : Nat) (Option.some Jvm.ClassFile.FieldType.int)) ∈ lw_all := lw_g (lw_at lw_m2 42 rfl) rfl
theorem q311 : (Jvm.Cond.instanceMethod ({ cls := "KernelDeskModel", name := "nextCokernel", desc := "(II)I" } : Jvm.MethodName)) ∈ lw_all := lw_g (lw_at lw_m2 44 rfl) rfl
theorem q312 : (Jvm.Cond.selects "KernelDeskModel" ({ cls := "KernelDeskModel", name := "nextCokernel", desc := "(II)I" } : Jvm.MethodName) ({ cls := "KernelDeskModel", name := "nextCokernel", desc := "(II)I" } : Jvm.MethodName)) ∈ lw_all := lw_g (lw_at lw_m2 45 rfl) rfl
theorem q313 : (Jvm.Cond.code ({ cls := "KernelDeskModel", name := "nextCokernel", desc := "(II)I" } : Jvm.MethodName) prog_3_method_23_code (4 : Nat) (Option.some Jvm.ClassFile.FieldType.int)) ∈ lw_all := lw_g (lw_at lw_m2 46 rfl) rfl
theorem q315 : (Jvm.Cond.instanceMethod ({ cls := "KernelDeskModel", name := "holding", desc := "(II)I" } : Jvm.MethodName)) ∈ lw_all := lw_g (lw_at lw_m2 48 rfl) rfl
theorem q316 : (Jvm.Cond.selects "KernelDeskModel" ({ cls := "KernelDeskModel", name := "holding", desc := "(II)I" } : Jvm.MethodName) ({ cls := "KernelDeskModel", name := "holding", desc := "(II)I" } : Jvm.MethodName)) ∈ lw_all := lw_g (lw_at lw_m2 49 rfl) rfl
theorem q317 : (Jvm.Cond.code ({ cls := "KernelDeskModel", name := "holding", desc := "(II)I" } : Jvm.MethodName) prog_3_method_24_code (6 : Nat) (Option.some Jvm.ClassFile.FieldType.int)) ∈ lw_all := lw_g (lw_at lw_m2 50 rfl) rfl
theorem q319 : (Jvm.Cond.instanceMethod ({ cls := "KernelDeskModel", name := "saving", desc := "(II)I" } : Jvm.MethodName)) ∈ lw_all := lw_g (lw_at lw_m2 52 rfl) rfl
theorem q320 : (Jvm.Cond.selects "KernelDeskModel" ({ cls := "KernelDeskModel", name := "saving", desc := "(II)I" } : Jvm.MethodName) ({ cls := "KernelDeskModel", name := "saving", desc := "(II)I" } : Jvm.MethodName)) ∈ lw_all := lw_g (lw_at lw_m2 53 rfl) rfl
theorem q321 : (Jvm.Cond.code ({ cls := "KernelDeskModel", name := "saving", desc := "(II)I" } : Jvm.MethodName) prog_3_method_26_code (6 : Nat) (Option.some Jvm.ClassFile.FieldType.int)) ∈ lw_all := lw_g (lw_at lw_m2 54 rfl) rfl
theorem q322 : (Jvm.Cond.methodLink "KernelDeskModel" (52 : Nat) ({ cls := "KernelDeskModel", name := "letters", desc := "(I)I" } : Jvm.MethodName)) ∈ lw_all := lw_g (lw_at lw_m2 55 rfl) rfl
theorem q323 : (Jvm.Cond.privateMethod ({ cls := "KernelDeskModel", name := "letters", desc := "(I)I" } : Jvm.MethodName)) ∈ lw_tbl := lw_at lw_m2 56 rfl
theorem q324 : (Jvm.Cond.instanceMethod ({ cls := "KernelDeskModel", name := "letters", desc := "(I)I" } : Jvm.MethodName)) ∈ lw_all := lw_g (lw_at lw_m2 57 rfl) rfl
theorem q325 : (Jvm.Cond.code ({ cls := "KernelDeskModel", name := "letters", desc := "(I)I" } : Jvm.MethodName) prog_3_method_25_code (4 : Nat) (Option.some Jvm.ClassFile.FieldType.int)) ∈ lw_all := lw_g (lw_at lw_m2 58 rfl) rfl
theorem in_X1 : ∀ w ∈ wsX10, w ∈ lw_all := lw_in wsX10 [219, 221, 223] (by decide +kernel) (by decide +kernel)

/-! java/lang/Object -/
def RJ0 : String := "java/lang/Object"
abbrev cJ0_init : ByteArray := object_method_1_code
def yJ0_init : MethodName := ⟨RJ0, "<init>", "()V"⟩
theorem q36 : (Jvm.Cond.instanceMethod ({ cls := "java/lang/Object", name := "<init>", desc := "()V" } : Jvm.MethodName)) ∈ lw_all := lw_g (lw_at lw_m1 9 rfl) rfl
theorem q37 : (Jvm.Cond.code ({ cls := "java/lang/Object", name := "<init>", desc := "()V" } : Jvm.MethodName) object_method_1_code (1 : Nat) (Option.none : Option Jvm.ClassFile.FieldType)) ∈ lw_all := lw_g (lw_at lw_m1 10 rfl) rfl

theorem q66 : (Jvm.Cond.arrayClass Jvm.ClassFile.FieldType.byte) ∈ lw_all := lw_g (lw_at lw_m1 39 rfl) rfl
theorem q67 : (Jvm.Cond.arrayClass Jvm.ClassFile.FieldType.boolean) ∈ lw_all := lw_g (lw_at lw_m1 40 rfl) rfl
theorem q68 : (Jvm.Cond.arrayClass Jvm.ClassFile.FieldType.short) ∈ lw_all := lw_g (lw_at lw_m1 41 rfl) rfl

theorem q27 : (Jvm.Cond.initialized "KernelDeskLaw") ∈ lw_all := lw_g (lw_at lw_m1 0 rfl) rfl
theorem q30 : (Jvm.Cond.classLink "KernelDeskLaw" (7 : Nat) "KernelDesk") ∈ lw_all := lw_g (lw_at lw_m1 3 rfl) rfl
theorem q32 : (Jvm.Cond.methodLink "KernelDeskLaw" (9 : Nat) ({ cls := "KernelDesk", name := "<init>", desc := "()V" } : Jvm.MethodName)) ∈ lw_all := lw_g (lw_at lw_m1 5 rfl) rfl
theorem q69 : (Jvm.Cond.methodLink "KernelDeskLaw" (13 : Nat) ({ cls := "KernelDesk", name := "put", desc := "(II)Z" } : Jvm.MethodName)) ∈ lw_all := lw_g (lw_at lw_m1 42 rfl) rfl
theorem q83 : (Jvm.Cond.methodLink "KernelDeskLaw" (18 : Nat) ({ cls := "KernelDesk", name := "take", desc := "(II)Z" } : Jvm.MethodName)) ∈ lw_all := lw_g (lw_at lw_m1 56 rfl) rfl
theorem q87 : (Jvm.Cond.methodLink "KernelDeskLaw" (22 : Nat) ({ cls := "KernelDesk", name := "clear", desc := "(I)Z" } : Jvm.MethodName)) ∈ lw_all := lw_g (lw_at lw_m1 60 rfl) rfl
theorem q91 : (Jvm.Cond.methodLink "KernelDeskLaw" (27 : Nat) ({ cls := "KernelDesk", name := "size", desc := "(I)I" } : Jvm.MethodName)) ∈ lw_all := lw_g (lw_at lw_m1 64 rfl) rfl
theorem q95 : (Jvm.Cond.methodLink "KernelDeskLaw" (32 : Nat) ({ cls := "KernelDesk", name := "cube", desc := "(II)I" } : Jvm.MethodName)) ∈ lw_all := lw_g (lw_at lw_m1 68 rfl) rfl
theorem q99 : (Jvm.Cond.methodLink "KernelDeskLaw" (37 : Nat) ({ cls := "KernelDesk", name := "divideBy", desc := "(III)I" } : Jvm.MethodName)) ∈ lw_all := lw_g (lw_at lw_m1 72 rfl) rfl
theorem q112 : (Jvm.Cond.methodLink "KernelDeskLaw" (42 : Nat) ({ cls := "KernelDesk", name := "divide", desc := "(III)I" } : Jvm.MethodName)) ∈ lw_all := lw_g (lw_at lw_m1 85 rfl) rfl
theorem q124 : (Jvm.Cond.methodLink "KernelDeskLaw" (46 : Nat) ({ cls := "KernelDesk", name := "rest", desc := "(III)I" } : Jvm.MethodName)) ∈ lw_all := lw_g (lw_at lw_m1 97 rfl) rfl
theorem q143 : (Jvm.Cond.methodLink "KernelDeskLaw" (50 : Nat) ({ cls := "KernelDesk", name := "common", desc := "(I)I" } : Jvm.MethodName)) ∈ lw_all := lw_g (lw_at lw_m1 116 rfl) rfl
theorem q151 : (Jvm.Cond.methodLink "KernelDeskLaw" (54 : Nat) ({ cls := "KernelDesk", name := "free", desc := "(I)Z" } : Jvm.MethodName)) ∈ lw_all := lw_g (lw_at lw_m1 124 rfl) rfl
theorem q155 : (Jvm.Cond.methodLink "KernelDeskLaw" (58 : Nat) ({ cls := "KernelDesk", name := "kernels", desc := "(I)I" } : Jvm.MethodName)) ∈ lw_all := lw_g (lw_at lw_m1 128 rfl) rfl
theorem q186 : (Jvm.Cond.methodLink "KernelDeskLaw" (62 : Nat) ({ cls := "KernelDesk", name := "cokernels", desc := "(I)I" } : Jvm.MethodName)) ∈ lw_all := lw_g (lw_at lw_m1 159 rfl) rfl
theorem q190 : (Jvm.Cond.methodLink "KernelDeskLaw" (66 : Nat) ({ cls := "KernelDesk", name := "nextCokernel", desc := "(II)I" } : Jvm.MethodName)) ∈ lw_all := lw_g (lw_at lw_m1 163 rfl) rfl
theorem q194 : (Jvm.Cond.methodLink "KernelDeskLaw" (70 : Nat) ({ cls := "KernelDesk", name := "holding", desc := "(II)I" } : Jvm.MethodName)) ∈ lw_all := lw_g (lw_at lw_m1 167 rfl) rfl
theorem q198 : (Jvm.Cond.methodLink "KernelDeskLaw" (74 : Nat) ({ cls := "KernelDesk", name := "saving", desc := "(II)I" } : Jvm.MethodName)) ∈ lw_all := lw_g (lw_at lw_m1 171 rfl) rfl
theorem q210 : (Jvm.Cond.classLink "KernelDeskLaw" (10 : Nat) "KernelDeskModel") ∈ lw_all := lw_g (lw_at lw_m1 183 rfl) rfl
theorem q212 : (Jvm.Cond.methodLink "KernelDeskLaw" (12 : Nat) ({ cls := "KernelDeskModel", name := "<init>", desc := "()V" } : Jvm.MethodName)) ∈ lw_all := lw_g (lw_at lw_m1 185 rfl) rfl
theorem q226 : (Jvm.Cond.methodLink "KernelDeskLaw" (17 : Nat) ({ cls := "KernelDeskModel", name := "put", desc := "(II)Z" } : Jvm.MethodName)) ∈ lw_all := lw_g (lw_at lw_m1 199 rfl) rfl
theorem q242 : (Jvm.Cond.methodLink "KernelDeskLaw" (21 : Nat) ({ cls := "KernelDeskModel", name := "take", desc := "(II)Z" } : Jvm.MethodName)) ∈ lw_all := lw_g (lw_at lw_m1 215 rfl) rfl
theorem q246 : (Jvm.Cond.methodLink "KernelDeskLaw" (26 : Nat) ({ cls := "KernelDeskModel", name := "clear", desc := "(I)Z" } : Jvm.MethodName)) ∈ lw_all := lw_g (lw_at lw_m1 219 rfl) rfl
theorem q250 : (Jvm.Cond.methodLink "KernelDeskLaw" (31 : Nat) ({ cls := "KernelDeskModel", name := "size", desc := "(I)I" } : Jvm.MethodName)) ∈ lw_all := lw_g (lw_at lw_m1 223 rfl) rfl
theorem q254 : (Jvm.Cond.methodLink "KernelDeskLaw" (36 : Nat) ({ cls := "KernelDeskModel", name := "cube", desc := "(II)I" } : Jvm.MethodName)) ∈ lw_all := lw_g (lw_at lw_m1 227 rfl) rfl
theorem q258 : (Jvm.Cond.methodLink "KernelDeskLaw" (41 : Nat) ({ cls := "KernelDeskModel", name := "divideBy", desc := "(III)I" } : Jvm.MethodName)) ∈ lw_all := lw_g (lw_at lw_m1 231 rfl) rfl
theorem q270 : (Jvm.Cond.methodLink "KernelDeskLaw" (45 : Nat) ({ cls := "KernelDeskModel", name := "divide", desc := "(III)I" } : Jvm.MethodName)) ∈ lw_all := lw_g (lw_at lw_m2 3 rfl) rfl
theorem q282 : (Jvm.Cond.methodLink "KernelDeskLaw" (49 : Nat) ({ cls := "KernelDeskModel", name := "rest", desc := "(III)I" } : Jvm.MethodName)) ∈ lw_all := lw_g (lw_at lw_m2 15 rfl) rfl
theorem q286 : (Jvm.Cond.methodLink "KernelDeskLaw" (53 : Nat) ({ cls := "KernelDeskModel", name := "common", desc := "(I)I" } : Jvm.MethodName)) ∈ lw_all := lw_g (lw_at lw_m2 19 rfl) rfl
theorem q290 : (Jvm.Cond.methodLink "KernelDeskLaw" (57 : Nat) ({ cls := "KernelDeskModel", name := "free", desc := "(I)Z" } : Jvm.MethodName)) ∈ lw_all := lw_g (lw_at lw_m2 23 rfl) rfl
theorem q298 : (Jvm.Cond.methodLink "KernelDeskLaw" (61 : Nat) ({ cls := "KernelDeskModel", name := "kernels", desc := "(I)I" } : Jvm.MethodName)) ∈ lw_all := lw_g (lw_at lw_m2 31 rfl) rfl
theorem q306 : (Jvm.Cond.methodLink "KernelDeskLaw" (65 : Nat) ({ cls := "KernelDeskModel", name := "cokernels", desc := "(I)I" } : Jvm.MethodName)) ∈ lw_all := lw_g (lw_at lw_m2 39 rfl) rfl
theorem q310 : (Jvm.Cond.methodLink "KernelDeskLaw" (69 : Nat) ({ cls := "KernelDeskModel", name := "nextCokernel", desc := "(II)I" } : Jvm.MethodName)) ∈ lw_all := lw_g (lw_at lw_m2 43 rfl) rfl
theorem q314 : (Jvm.Cond.methodLink "KernelDeskLaw" (73 : Nat) ({ cls := "KernelDeskModel", name := "holding", desc := "(II)I" } : Jvm.MethodName)) ∈ lw_all := lw_g (lw_at lw_m2 47 rfl) rfl
theorem q318 : (Jvm.Cond.methodLink "KernelDeskLaw" (77 : Nat) ({ cls := "KernelDeskModel", name := "saving", desc := "(II)I" } : Jvm.MethodName)) ∈ lw_all := lw_g (lw_at lw_m2 51 rfl) rfl
end
section
/-! THE JUDGEMENT J: a walk without heap, locals' array and list of writes in sight. kCx: what is fixed all through one method's run. -/
abbrev kCx : Type := Program × Launch × Env × Room × State × MethodId × Array Value × List Frame × Method × Code × (State → Prop) × Nat × Nat
abbrev kp (G : kCx) : Program := G.1
abbrev kl (G : kCx) : Launch := G.2.1
abbrev ke (G : kCx) : Env := G.2.2.1
abbrev kR (G : kCx) : Room := G.2.2.2.1
abbrev ks (G : kCx) : State := G.2.2.2.2.1
abbrev km (G : kCx) : MethodId := G.2.2.2.2.2.1
abbrev ka (G : kCx) : Array Value := G.2.2.2.2.2.2.1
abbrev kb (G : kCx) : List Frame := G.2.2.2.2.2.2.2.1
abbrev kt (G : kCx) : Method := G.2.2.2.2.2.2.2.2.1
abbrev kc (G : kCx) : Code := G.2.2.2.2.2.2.2.2.2.1
abbrev kQ (G : kCx) : State → Prop := G.2.2.2.2.2.2.2.2.2.2.1
abbrev kn (G : kCx) : Nat := G.2.2.2.2.2.2.2.2.2.2.2.1
abbrev kz (G : kCx) : Nat := G.2.2.2.2.2.2.2.2.2.2.2.2
/-- the locals as a list: place i holds the i-th value, all of one slot -/
def lz : Nat → List Value → List (Nat × Value)
  | _, [] => []
  | k, v :: t => (k, v) :: lz (k + 1) t
def lcat (lv : List Value) : Prop := ∀ v ∈ lv, v.category = 1
def lh (ls : Array Slot) (nL : Nat) (lv : List Value) : Prop := lv_has ls nL (lz 0 lv) ∧ lcat lv
def lset : List Value → Nat → Value → List Value
  | [], _, v => [v]
  | _ :: t, 0, v => v :: t
  | a :: t, i + 1, v => a :: lset t i v
theorem lz_in : ∀ (lv : List Value) (k i : Nat) (v : Value), lv[i]? = some v → (k + i, v) ∈ lz k lv
  | [], k, i, v, h => by simp at h
  | a :: t, k, 0, v, h => by
    simp at h
    subst h
    exact List.mem_cons_self
  | a :: t, k, i + 1, v, h => by
    have h1 := lz_in t (k + 1) i v (by simpa using h)
    rw [show k + 1 + i = k + (i + 1) by omega] at h1
    exact List.mem_cons_of_mem _ h1
theorem lz_of : ∀ (lv : List Value) (k : Nat) (q : Nat × Value), q ∈ lz k lv → ∃ i, q.1 = k + i ∧ lv[i]? = some q.2
  | [], k, q, h => by cases h
  | a :: t, k, q, h => by
    rcases List.mem_cons.mp h with e | h
    · exact ⟨0, by rw [e]; rfl, by rw [e]; rfl⟩
    · obtain ⟨i, h1, h2⟩ := lz_of t (k + 1) q h
      exact ⟨i + 1, by omega, by simpa using h2⟩
theorem lz_args : ∀ (lv : List Value) (k : Nat), lcat lv → lv_args k lv = lz k lv
  | [], k, _ => rfl
  | a :: t, k, h => by
    have hc : a.category = 1 := h a List.mem_cons_self
    have h2 : ¬ a.category = 2 := by omega
    show (k, a) :: lv_args (if a.category = 2 then k + 2 else k + 1) t = (k, a) :: lz (k + 1) t
    rw [if_neg h2, lz_args t (k + 1) (fun v hv => h v (List.mem_cons_of_mem _ hv))]
theorem lset_get : ∀ (lv : List Value) (i : Nat) (v : Value) (j : Nat) (w : Value), i ≤ lv.length → (lset lv i v)[j]? = some w → (j = i ∧ w = v) ∨ (j ≠ i ∧ lv[j]? = some w)
  | [], i, v, j, w, hi, h => by
    have h0 : i = 0 := by simpa using hi
    subst h0
    cases j with
    | zero => simp [lset] at h; exact Or.inl ⟨rfl, h.symm⟩
    | succ j => simp [lset] at h
  | a :: t, 0, v, j, w, hi, h => by
    cases j with
    | zero => simp [lset] at h; exact Or.inl ⟨rfl, h.symm⟩
    | succ j => exact Or.inr ⟨by omega, by simpa [lset] using h⟩
  | a :: t, i + 1, v, j, w, hi, h => by
    cases j with
    | zero => exact Or.inr ⟨by omega, by simpa [lset] using h⟩
    | succ j =>
      rcases lset_get t i v j w (by simpa using hi) (by simpa [lset] using h) with ⟨h1, h2⟩ | ⟨h1, h2⟩
      · exact Or.inl ⟨by omega, h2⟩
      · exact Or.inr ⟨by omega, by simpa using h2⟩
theorem lset_cat {lv : List Value} {i : Nat} {v : Value} (hi : i ≤ lv.length) (h : lcat lv) (hv : v.category = 1) : lcat (lset lv i v) := by
  intro w hw
  obtain ⟨j, hj⟩ := List.getElem?_of_mem hw
  rcases lset_get lv i v j w hi hj with ⟨_, h2⟩ | ⟨_, h2⟩
  · rw [h2]; exact hv
  · exact h w (List.mem_of_getElem? h2)
theorem lh_get {ls : Array Slot} {nL : Nat} {lv : List Value} (h : lh ls nL lv) {i : Nat} {v : Value} (hv : lv[i]? = some v) : ls[i]? = some (.val v) := by
  have h1 := h.1.2.2 (0 + i, v) (lz_in lv 0 i v hv)
  simpa using h1
theorem lh_set {ls : Array Slot} {nL : Nat} {lv : List Value} {i : Nat} {v : Value} (hc : lcat lv) (hi : i ≤ lv.length) (hv : v.category = 1) (h : lv_has ls nL ((i, v) :: (lz 0 lv).filter (fun q => !(q.1 == i) && !(q.1 + 1 == i && q.2.category == 2)))) : lh ls nL (lset lv i v) := by
  refine ⟨⟨h.1, h.2.1, fun q hq => ?_⟩, lset_cat hi hc hv⟩
  obtain ⟨j, h1, h2⟩ := lz_of _ _ _ hq
  rcases lset_get lv i v j q.2 hi h2 with ⟨e1, e2⟩ | ⟨e1, e2⟩
  · exact h.2.2 q (by rw [show q = (i, v) from Prod.ext (by omega) e2]; exact List.mem_cons_self)
  · refine h.2.2 q (List.mem_cons_of_mem _ (List.mem_filter.mpr ⟨?_, ?_⟩))
    · have := lz_in lv 0 j q.2 e2
      rwa [show ((0 + j, q.2) : Nat × Value) = q from Prod.ext h1.symm rfl] at this
    · have hq2 : q.2.category = 1 := hc _ (List.mem_of_getElem? e2)
      have hq1 : ¬ q.1 = i := by omega
      simp [hq1, hq2]
/-- J: from any heap of the view V, with the locals lv, at pc with the stack st, the machine comes to its end -/
def J (cc : ByteArray) (nL : Nat) (own : String) (G : kCx) (V : Heap → List Loc → Prop) (pc : Nat) (lv st : List Value) : Prop :=
  CallFix (kp G) (km G) (kc G) cc nL (ks G) (ka G) lw_all own → ∀ (H : Heap) (locs : List Loc) (ls : Array Slot), V H locs → lh ls nL lv → W (kp G) (kl G) (ke G) (kR G) (ks G) (km G) (ka G) (kb G) (kt G) (kc G) H locs (kn G) (kz G) (kQ G) (F0 (km G) pc ls st)
section JR
variable {cc : ByteArray} {nL : Nat} {own : String} {G : kCx} {V : Heap → List Loc → Prop} {pc : Nat} {lv st : List Value}
theorem j_pc {pc' : Nat} (h : pc = pc') (k : J cc nL own G V pc' lv st) : J cc nL own G V pc lv st := h ▸ k
theorem j_top {x y : Int32} (h : x = y) (k : J cc nL own G V pc lv (.int y :: st)) : J cc nL own G V pc lv (.int x :: st) := h ▸ k
theorem j_iconst {n : Int} {v : Int32} (hd : decode cc pc = .ok (.iconst n, 1)) (hv : Int32.ofInt n = v) (k : J cc nL own G V (pc + 1) lv (.int v :: st)) : J cc nL own G V pc lv st :=
  fun C H locs ls hV hl => lv_iconst C.1 C.2.1 hd hv (k C H locs ls hV hl)
theorem j_bipush {n : Int} {v : Int32} (hd : decode cc pc = .ok (.bipush n, 2)) (hv : (Int8.ofInt n).toInt32 = v) (k : J cc nL own G V (pc + 2) lv (.int v :: st)) : J cc nL own G V pc lv st :=
  fun C H locs ls hV hl => lv_bipush C.1 C.2.1 hd hv (k C H locs ls hV hl)
theorem j_sipush {n : Int} {v : Int32} (hd : decode cc pc = .ok (.sipush n, 3)) (hv : (Int16.ofInt n).toInt32 = v) (k : J cc nL own G V (pc + 3) lv (.int v :: st)) : J cc nL own G V pc lv st :=
  fun C H locs ls hV hl => lv_sipush C.1 C.2.1 hd hv (k C H locs ls hV hl)
theorem j_iload_n {q : Fin 4} {i : Nat} {x : Int32} (hd : decode cc pc = .ok (.iload_n q, 1)) (hi : (q : Nat) = i) (hx : lv[i]? = some (.int x)) (k : J cc nL own G V (pc + 1) lv (.int x :: st)) : J cc nL own G V pc lv st :=
  fun C H locs ls hV hl => lv_iload_n C.1 C.2.1 hd hi (lh_get hl hx) (k C H locs ls hV hl)
theorem j_iload {i : Nat} {x : Int32} (hd : decode cc pc = .ok (.iload i, 2)) (hx : lv[i]? = some (.int x)) (k : J cc nL own G V (pc + 2) lv (.int x :: st)) : J cc nL own G V pc lv st :=
  fun C H locs ls hV hl => lv_iload C.1 C.2.1 hd (lh_get hl hx) (k C H locs ls hV hl)
theorem j_aload_n {q : Fin 4} {i : Nat} {x : Nat} (hd : decode cc pc = .ok (.aload_n q, 1)) (hi : (q : Nat) = i) (hx : lv[i]? = some (.ref x)) (k : J cc nL own G V (pc + 1) lv (.ref x :: st)) : J cc nL own G V pc lv st :=
  fun C H locs ls hV hl => lv_aload_n C.1 C.2.1 hd hi (lh_get hl hx) (k C H locs ls hV hl)
theorem j_istore_n {q : Fin 4} {i : Nat} {x : Int32} {lv' : List Value} (hd : decode cc pc = .ok (.istore_n q, 1)) (hi : (q : Nat) = i) (hs : lset lv i (.int x) = lv') (hb : i ≤ lv.length ∧ i < nL) (k : J cc nL own G V (pc + 1) lv' st) : J cc nL own G V pc lv (.int x :: st) :=
  fun C H locs ls hV hl => lv_istore_n C.1 C.2.1 hd hi hl.1 hb.2 rfl (fun ls' h => k C H locs ls' hV (hs ▸ lh_set hl.2 hb.1 rfl h))
theorem j_istore {i : Nat} {x : Int32} {lv' : List Value} (hd : decode cc pc = .ok (.istore i, 2)) (hs : lset lv i (.int x) = lv') (hb : i ≤ lv.length ∧ i < nL) (k : J cc nL own G V (pc + 2) lv' st) : J cc nL own G V pc lv (.int x :: st) :=
  fun C H locs ls hV hl => lv_istore C.1 C.2.1 hd hl.1 hb.2 rfl (fun ls' h => k C H locs ls' hV (hs ▸ lh_set hl.2 hb.1 rfl h))
theorem j_astore_n {q : Fin 4} {i : Nat} {x : Nat} {lv' : List Value} (hd : decode cc pc = .ok (.astore_n q, 1)) (hi : (q : Nat) = i) (hs : lset lv i (.ref x) = lv') (hb : i ≤ lv.length ∧ i < nL) (k : J cc nL own G V (pc + 1) lv' st) : J cc nL own G V pc lv (.ref x :: st) :=
  fun C H locs ls hV hl => lv_astore_n C.1 C.2.1 hd hi hl.1 hb.2 rfl (fun ls' h => k C H locs ls' hV (hs ▸ lh_set hl.2 hb.1 rfl h))
theorem j_iinc {i : Nat} {n : Int} {x v : Int32} {lv' : List Value} (hd : decode cc pc = .ok (.iinc i n, 3)) (hx : lv[i]? = some (.int x)) (hv : x + Int32.ofInt n = v) (hs : lset lv i (.int v) = lv') (hb : i < nL) (k : J cc nL own G V (pc + 3) lv' st) : J cc nL own G V pc lv st := by
  intro C H locs ls hV hl
  have hlt : i < lv.length := (List.getElem?_eq_some_iff.mp hx).1
  obtain ⟨j, hj⟩ := List.getElem?_of_mem (show (i, Value.int x) ∈ lz 0 lv by have := lz_in lv 0 i _ hx; simpa using this)
  exact lv_iinc C.1 C.2.1 hd hl.1 hj hv hb rfl (fun ls' h => k C H locs ls' hV (hs ▸ lh_set hl.2 (Nat.le_of_lt hlt) rfl h))
theorem j_iadd {x y : Int32} (hd : decode cc pc = .ok (.iadd, 1)) (k : J cc nL own G V (pc + 1) lv (.int (x + y) :: st)) : J cc nL own G V pc lv (.int y :: .int x :: st) :=
  fun C H locs ls hV hl => lv_iadd C.1 C.2.1 hd (k C H locs ls hV hl)
theorem j_isub {x y : Int32} (hd : decode cc pc = .ok (.isub, 1)) (k : J cc nL own G V (pc + 1) lv (.int (x - y) :: st)) : J cc nL own G V pc lv (.int y :: .int x :: st) :=
  fun C H locs ls hV hl => lv_isub C.1 C.2.1 hd (k C H locs ls hV hl)
theorem j_imul {x y : Int32} (hd : decode cc pc = .ok (.imul, 1)) (k : J cc nL own G V (pc + 1) lv (.int (x * y) :: st)) : J cc nL own G V pc lv (.int y :: .int x :: st) :=
  fun C H locs ls hV hl => lv_imul C.1 C.2.1 hd (k C H locs ls hV hl)
theorem j_iand {x y : Int32} (hd : decode cc pc = .ok (.iand, 1)) (k : J cc nL own G V (pc + 1) lv (.int (x &&& y) :: st)) : J cc nL own G V pc lv (.int y :: .int x :: st) :=
  fun C H locs ls hV hl => lv_iand C.1 C.2.1 hd (k C H locs ls hV hl)
theorem j_ior {x y : Int32} (hd : decode cc pc = .ok (.ior, 1)) (k : J cc nL own G V (pc + 1) lv (.int (x ||| y) :: st)) : J cc nL own G V pc lv (.int y :: .int x :: st) :=
  fun C H locs ls hV hl => lv_ior C.1 C.2.1 hd (k C H locs ls hV hl)
theorem j_ixor {x y : Int32} (hd : decode cc pc = .ok (.ixor, 1)) (k : J cc nL own G V (pc + 1) lv (.int (x ^^^ y) :: st)) : J cc nL own G V pc lv (.int y :: .int x :: st) :=
  fun C H locs ls hV hl => lv_ixor C.1 C.2.1 hd (k C H locs ls hV hl)
theorem j_ishl {x y : Int32} (hd : decode cc pc = .ok (.ishl, 1)) (k : J cc nL own G V (pc + 1) lv (.int (x <<< (y &&& 31)) :: st)) : J cc nL own G V pc lv (.int y :: .int x :: st) :=
  fun C H locs ls hV hl => lv_ishl C.1 C.2.1 hd (k C H locs ls hV hl)
theorem j_ishr {x y : Int32} (hd : decode cc pc = .ok (.ishr, 1)) (k : J cc nL own G V (pc + 1) lv (.int (x >>> (y &&& 31)) :: st)) : J cc nL own G V pc lv (.int y :: .int x :: st) :=
  fun C H locs ls hV hl => lv_ishr C.1 C.2.1 hd (k C H locs ls hV hl)
theorem j_i2b {x v : Int32} (hd : decode cc pc = .ok (.i2b, 1)) (hv : x.toInt8.toInt32 = v) (k : J cc nL own G V (pc + 1) lv (.int v :: st)) : J cc nL own G V pc lv (.int x :: st) :=
  fun C H locs ls hV hl => lv_i2b C.1 C.2.1 hd hv (k C H locs ls hV hl)
theorem j_i2s {x v : Int32} (hd : decode cc pc = .ok (.i2s, 1)) (hv : x.toInt16.toInt32 = v) (k : J cc nL own G V (pc + 1) lv (.int v :: st)) : J cc nL own G V pc lv (.int x :: st) :=
  fun C H locs ls hV hl => lv_i2s C.1 C.2.1 hd hv (k C H locs ls hV hl)
theorem j_dup {v : Value} (hd : decode cc pc = .ok (.dup, 1)) (hv : v.category = 1) (k : J cc nL own G V (pc + 1) lv (v :: v :: st)) : J cc nL own G V pc lv (v :: st) :=
  fun C H locs ls hV hl => lv_dup C.1 C.2.1 hd hv (k C H locs ls hV hl)
theorem j_dup2 {v w : Value} (hd : decode cc pc = .ok (.dup2, 1)) (hv : v.category = 1) (hw : w.category = 1) (k : J cc nL own G V (pc + 1) lv (v :: w :: v :: w :: st)) : J cc nL own G V pc lv (v :: w :: st) :=
  fun C H locs ls hV hl => lv_dup2_11 C.1 C.2.1 hd hv hw (k C H locs ls hV hl)
theorem j_pop {v : Value} (hd : decode cc pc = .ok (.pop, 1)) (hv : v.category = 1) (k : J cc nL own G V (pc + 1) lv st) : J cc nL own G V pc lv (v :: st) :=
  fun C H locs ls hV hl => lv_pop C.1 C.2.1 hd hv (k C H locs ls hV hl)
theorem j_goto {off : Int} {tgt : Nat} (hd : decode cc pc = .ok (.goto off, 3)) (ht : (pc : Int) + off = (tgt : Int)) (k : J cc nL own G V tgt lv st) : J cc nL own G V pc lv st :=
  fun C H locs ls hV hl => lv_goto C.1 C.2.1 hd ht (k C H locs ls hV hl)
theorem j_icmp_eq {x y : Int32} {off : Int} {tgt : Nat} (hd : decode cc pc = .ok (.if_icmp .eq off, 3)) (ht : (pc : Int) + off = (tgt : Int)) (kt : x = y → J cc nL own G V tgt lv st) (kf : ¬ x = y → J cc nL own G V (pc + 3) lv st) : J cc nL own G V pc lv (.int y :: .int x :: st) :=
  fun C H locs ls hV hl => lv_icmp_eq C.1 C.2.1 hd ht (fun q => kt q C H locs ls hV hl) (fun q => kf q C H locs ls hV hl)
theorem j_if_eq {x : Int32} {off : Int} {tgt : Nat} (hd : decode cc pc = .ok (.ifCond .eq off, 3)) (ht : (pc : Int) + off = (tgt : Int)) (kt : x = 0 → J cc nL own G V tgt lv st) (kf : ¬ x = 0 → J cc nL own G V (pc + 3) lv st) : J cc nL own G V pc lv (.int x :: st) :=
  fun C H locs ls hV hl => lv_if_eq C.1 C.2.1 hd ht (fun q => kt q C H locs ls hV hl) (fun q => kf q C H locs ls hV hl)
theorem j_icmp_ne {x y : Int32} {off : Int} {tgt : Nat} (hd : decode cc pc = .ok (.if_icmp .ne off, 3)) (ht : (pc : Int) + off = (tgt : Int)) (kt : ¬ x = y → J cc nL own G V tgt lv st) (kf : x = y → J cc nL own G V (pc + 3) lv st) : J cc nL own G V pc lv (.int y :: .int x :: st) :=
  fun C H locs ls hV hl => lv_icmp_ne C.1 C.2.1 hd ht (fun q => kt q C H locs ls hV hl) (fun q => kf q C H locs ls hV hl)
theorem j_if_ne {x : Int32} {off : Int} {tgt : Nat} (hd : decode cc pc = .ok (.ifCond .ne off, 3)) (ht : (pc : Int) + off = (tgt : Int)) (kt : ¬ x = 0 → J cc nL own G V tgt lv st) (kf : x = 0 → J cc nL own G V (pc + 3) lv st) : J cc nL own G V pc lv (.int x :: st) :=
  fun C H locs ls hV hl => lv_if_ne C.1 C.2.1 hd ht (fun q => kt q C H locs ls hV hl) (fun q => kf q C H locs ls hV hl)
theorem j_icmp_lt {x y : Int32} {off : Int} {tgt : Nat} (hd : decode cc pc = .ok (.if_icmp .lt off, 3)) (ht : (pc : Int) + off = (tgt : Int)) (kt : x < y → J cc nL own G V tgt lv st) (kf : ¬ x < y → J cc nL own G V (pc + 3) lv st) : J cc nL own G V pc lv (.int y :: .int x :: st) :=
  fun C H locs ls hV hl => lv_icmp_lt C.1 C.2.1 hd ht (fun q => kt q C H locs ls hV hl) (fun q => kf q C H locs ls hV hl)
theorem j_if_lt {x : Int32} {off : Int} {tgt : Nat} (hd : decode cc pc = .ok (.ifCond .lt off, 3)) (ht : (pc : Int) + off = (tgt : Int)) (kt : x < 0 → J cc nL own G V tgt lv st) (kf : ¬ x < 0 → J cc nL own G V (pc + 3) lv st) : J cc nL own G V pc lv (.int x :: st) :=
  fun C H locs ls hV hl => lv_if_lt C.1 C.2.1 hd ht (fun q => kt q C H locs ls hV hl) (fun q => kf q C H locs ls hV hl)
theorem j_icmp_ge {x y : Int32} {off : Int} {tgt : Nat} (hd : decode cc pc = .ok (.if_icmp .ge off, 3)) (ht : (pc : Int) + off = (tgt : Int)) (kt : y ≤ x → J cc nL own G V tgt lv st) (kf : ¬ y ≤ x → J cc nL own G V (pc + 3) lv st) : J cc nL own G V pc lv (.int y :: .int x :: st) :=
  fun C H locs ls hV hl => lv_icmp_ge C.1 C.2.1 hd ht (fun q => kt q C H locs ls hV hl) (fun q => kf q C H locs ls hV hl)
theorem j_if_ge {x : Int32} {off : Int} {tgt : Nat} (hd : decode cc pc = .ok (.ifCond .ge off, 3)) (ht : (pc : Int) + off = (tgt : Int)) (kt : 0 ≤ x → J cc nL own G V tgt lv st) (kf : ¬ 0 ≤ x → J cc nL own G V (pc + 3) lv st) : J cc nL own G V pc lv (.int x :: st) :=
  fun C H locs ls hV hl => lv_if_ge C.1 C.2.1 hd ht (fun q => kt q C H locs ls hV hl) (fun q => kf q C H locs ls hV hl)
theorem j_icmp_gt {x y : Int32} {off : Int} {tgt : Nat} (hd : decode cc pc = .ok (.if_icmp .gt off, 3)) (ht : (pc : Int) + off = (tgt : Int)) (kt : y < x → J cc nL own G V tgt lv st) (kf : ¬ y < x → J cc nL own G V (pc + 3) lv st) : J cc nL own G V pc lv (.int y :: .int x :: st) :=
  fun C H locs ls hV hl => lv_icmp_gt C.1 C.2.1 hd ht (fun q => kt q C H locs ls hV hl) (fun q => kf q C H locs ls hV hl)
theorem j_if_gt {x : Int32} {off : Int} {tgt : Nat} (hd : decode cc pc = .ok (.ifCond .gt off, 3)) (ht : (pc : Int) + off = (tgt : Int)) (kt : 0 < x → J cc nL own G V tgt lv st) (kf : ¬ 0 < x → J cc nL own G V (pc + 3) lv st) : J cc nL own G V pc lv (.int x :: st) :=
  fun C H locs ls hV hl => lv_if_gt C.1 C.2.1 hd ht (fun q => kt q C H locs ls hV hl) (fun q => kf q C H locs ls hV hl)
theorem j_icmp_le {x y : Int32} {off : Int} {tgt : Nat} (hd : decode cc pc = .ok (.if_icmp .le off, 3)) (ht : (pc : Int) + off = (tgt : Int)) (kt : x ≤ y → J cc nL own G V tgt lv st) (kf : ¬ x ≤ y → J cc nL own G V (pc + 3) lv st) : J cc nL own G V pc lv (.int y :: .int x :: st) :=
  fun C H locs ls hV hl => lv_icmp_le C.1 C.2.1 hd ht (fun q => kt q C H locs ls hV hl) (fun q => kf q C H locs ls hV hl)
theorem j_if_le {x : Int32} {off : Int} {tgt : Nat} (hd : decode cc pc = .ok (.ifCond .le off, 3)) (ht : (pc : Int) + off = (tgt : Int)) (kt : x ≤ 0 → J cc nL own G V tgt lv st) (kf : ¬ x ≤ 0 → J cc nL own G V (pc + 3) lv st) : J cc nL own G V pc lv (.int x :: st) :=
  fun C H locs ls hV hl => lv_if_le C.1 C.2.1 hd ht (fun q => kt q C H locs ls hV hl) (fun q => kf q C H locs ls hV hl)
end JR
end
section
/-! numbers behind ints: nI a; and-not; rows of J over them -/
/-- c without the bits of d -/
def nd (c d : Nat) : Nat := c &&& (c ^^^ d)
theorem nd_testBit (c d i : Nat) : (nd c d).testBit i = (c.testBit i && !d.testBit i) := by
  unfold nd
  rw [Nat.testBit_and, Nat.testBit_xor]
  cases c.testBit i <;> cases d.testBit i <;> rfl
theorem nn_and (a b : Nat) : nI a &&& nI b = nI (a &&& b) := by
  apply Int32.toBitVec_inj.1
  show BitVec.ofNat 32 a &&& BitVec.ofNat 32 b = BitVec.ofNat 32 (a &&& b)
  apply BitVec.eq_of_getLsbD_eq
  intro i hi
  simp [hi]
theorem nn_or (a b : Nat) : nI a ||| nI b = nI (a ||| b) := by
  apply Int32.toBitVec_inj.1
  show BitVec.ofNat 32 a ||| BitVec.ofNat 32 b = BitVec.ofNat 32 (a ||| b)
  apply BitVec.eq_of_getLsbD_eq
  intro i hi
  simp [hi]
theorem nn_andn (a b : Nat) : nI a &&& (nI b ^^^ (-1)) = nI (nd a b) := by
  apply Int32.toBitVec_inj.1
  show BitVec.ofNat 32 a &&& (BitVec.ofNat 32 b ^^^ BitVec.allOnes 32) = BitVec.ofNat 32 (nd a b)
  apply BitVec.eq_of_getLsbD_eq
  intro i hi
  simp only [BitVec.getLsbD_and, BitVec.getLsbD_xor, BitVec.getLsbD_ofNat, BitVec.getLsbD_allOnes, hi, decide_true, Bool.true_and, nd_testBit, Bool.xor_true]
theorem nn_s : ∀ n, n < 32 → ((nI n &&& 31).toBitVec.smod 32).toNat = n := by decide +kernel
theorem nn_shl1 : ∀ i, i < 31 → nI 1 <<< (nI i &&& 31) = nI (2 ^ i) := by decide +kernel
theorem nn_shr {a i : Nat} (ha : a < 2147483648) (hi : i < 32) : nI a >>> (nI i &&& 31) = nI (a / 2 ^ i) := pk_shrN ha _ i (nn_s i hi)
theorem nn_b : ∀ v, v < 128 → (nI v).toInt8.toInt32 = nI v := by decide +kernel
theorem nn_z : ∀ v, v < 2 → (nI v) &&& 1 = nI v := by decide +kernel
theorem nn_s16 : ∀ v, v < 256 → (nI v).toInt16.toInt32 = nI v := by decide +kernel
theorem nn_bit (a i : Nat) : a / 2 ^ i % 2 = (a.testBit i).toNat := by
  rw [Nat.testBit_eq_decide_div_mod_eq]
  have := Nat.mod_lt (a / 2 ^ i) (show 0 < 2 by omega)
  generalize a / 2 ^ i % 2 = z at *
  have h : z = 0 ∨ z = 1 := by omega
  rcases h with h | h <;> subst h <;> rfl
section NR
variable {cc : ByteArray} {nL : Nat} {own : String} {G : kCx} {V : Heap → List Loc → Prop} {pc : Nat} {lv st : List Value}
theorem n_iadd {a b : Nat} (hd : decode cc pc = .ok (.iadd, 1)) (k : J cc nL own G V (pc + 1) lv (.int (nI (a + b)) :: st)) : J cc nL own G V pc lv (.int (nI b) :: .int (nI a) :: st) := j_iadd hd (j_top (nI_add a b) k)
theorem n_isub {a b : Nat} (hd : decode cc pc = .ok (.isub, 1)) (h : b ≤ a) (k : J cc nL own G V (pc + 1) lv (.int (nI (a - b)) :: st)) : J cc nL own G V pc lv (.int (nI b) :: .int (nI a) :: st) := j_isub hd (j_top (pk_sub h) k)
theorem n_imul {a b : Nat} (hd : decode cc pc = .ok (.imul, 1)) (k : J cc nL own G V (pc + 1) lv (.int (nI (a * b)) :: st)) : J cc nL own G V pc lv (.int (nI b) :: .int (nI a) :: st) := j_imul hd (j_top (pk_mul a b) k)
theorem n_iand {a b : Nat} (hd : decode cc pc = .ok (.iand, 1)) (k : J cc nL own G V (pc + 1) lv (.int (nI (a &&& b)) :: st)) : J cc nL own G V pc lv (.int (nI b) :: .int (nI a) :: st) := j_iand hd (j_top (nn_and a b) k)
theorem n_ior {a b : Nat} (hd : decode cc pc = .ok (.ior, 1)) (k : J cc nL own G V (pc + 1) lv (.int (nI (a ||| b)) :: st)) : J cc nL own G V pc lv (.int (nI b) :: .int (nI a) :: st) := j_ior hd (j_top (nn_or a b) k)
theorem n_shl1 {i : Nat} (hd : decode cc pc = .ok (.ishl, 1)) (hi : i < 31) (k : J cc nL own G V (pc + 1) lv (.int (nI (2 ^ i)) :: st)) : J cc nL own G V pc lv (.int (nI i) :: .int (nI 1) :: st) := j_ishl hd (j_top (nn_shl1 i hi) k)
theorem n_ishr {a i : Nat} (hd : decode cc pc = .ok (.ishr, 1)) (hi : a < 2147483648 ∧ i < 32) (k : J cc nL own G V (pc + 1) lv (.int (nI (a / 2 ^ i)) :: st)) : J cc nL own G V pc lv (.int (nI i) :: .int (nI a) :: st) := j_ishr hd (j_top (nn_shr hi.1 hi.2) k)
/-- '& ~': iconst_m1, ixor, iand -/
theorem n_andn {a b : Nat} (h1 : decode cc pc = .ok (.iconst (-1), 1)) (h2 : decode cc (pc + 1) = .ok (.ixor, 1)) (h3 : decode cc (pc + 2) = .ok (.iand, 1)) (k : J cc nL own G V (pc + 3) lv (.int (nI (nd a b)) :: st)) : J cc nL own G V pc lv (.int (nI b) :: .int (nI a) :: st) :=
  j_iconst h1 (v := -1) rfl (j_ixor h2 (j_iand h3 (j_top (nn_andn a b) k)))
theorem n_i2b {v : Nat} (hd : decode cc pc = .ok (.i2b, 1)) (hv : v < 128) (k : J cc nL own G V (pc + 1) lv (.int (nI v) :: st)) : J cc nL own G V pc lv (.int (nI v) :: st) := j_i2b hd (nn_b v hv) k
theorem n_i2s {v : Nat} (hd : decode cc pc = .ok (.i2s, 1)) (hv : v < 256) (k : J cc nL own G V (pc + 1) lv (.int (nI v) :: st)) : J cc nL own G V pc lv (.int (nI v) :: st) := j_i2s hd (nn_s16 v hv) k
theorem n_icmp_eq {a b : Nat} {off : Int} {tgt : Nat} (hd : decode cc pc = .ok (.if_icmp .eq off, 3)) (ht : (pc : Int) + off = (tgt : Int)) (h : a < 2147483648 ∧ b < 2147483648) (kt : a = b → J cc nL own G V tgt lv st) (kf : a ≠ b → J cc nL own G V (pc + 3) lv st) : J cc nL own G V pc lv (.int (nI b) :: .int (nI a) :: st) :=
  j_icmp_eq hd ht (fun q => kt ((nI_eq h.1 h.2).mp q)) (fun q => kf (fun z => q ((nI_eq h.1 h.2).mpr z)))
theorem n_icmp_ne {a b : Nat} {off : Int} {tgt : Nat} (hd : decode cc pc = .ok (.if_icmp .ne off, 3)) (ht : (pc : Int) + off = (tgt : Int)) (h : a < 2147483648 ∧ b < 2147483648) (kt : a ≠ b → J cc nL own G V tgt lv st) (kf : a = b → J cc nL own G V (pc + 3) lv st) : J cc nL own G V pc lv (.int (nI b) :: .int (nI a) :: st) :=
  j_icmp_ne hd ht (fun q => kt (fun z => q ((nI_eq h.1 h.2).mpr z))) (fun q => kf ((nI_eq h.1 h.2).mp q))
theorem n_icmp_lt {a b : Nat} {off : Int} {tgt : Nat} (hd : decode cc pc = .ok (.if_icmp .lt off, 3)) (ht : (pc : Int) + off = (tgt : Int)) (h : a < 2147483648 ∧ b < 2147483648) (kt : a < b → J cc nL own G V tgt lv st) (kf : b ≤ a → J cc nL own G V (pc + 3) lv st) : J cc nL own G V pc lv (.int (nI b) :: .int (nI a) :: st) :=
  j_icmp_lt hd ht (fun q => kt ((nI_ltI h.1 h.2).mp q)) (fun q => kf (Nat.not_lt.mp (fun z => q ((nI_ltI h.1 h.2).mpr z))))
theorem n_icmp_ge {a b : Nat} {off : Int} {tgt : Nat} (hd : decode cc pc = .ok (.if_icmp .ge off, 3)) (ht : (pc : Int) + off = (tgt : Int)) (h : a < 2147483648 ∧ b < 2147483648) (kt : b ≤ a → J cc nL own G V tgt lv st) (kf : a < b → J cc nL own G V (pc + 3) lv st) : J cc nL own G V pc lv (.int (nI b) :: .int (nI a) :: st) :=
  j_icmp_ge hd ht (fun q => kt ((nI_leI h.2 h.1).mp q)) (fun q => kf (Nat.not_le.mp (fun z => q ((nI_leI h.2 h.1).mpr z))))
theorem n_icmp_gt {a b : Nat} {off : Int} {tgt : Nat} (hd : decode cc pc = .ok (.if_icmp .gt off, 3)) (ht : (pc : Int) + off = (tgt : Int)) (h : a < 2147483648 ∧ b < 2147483648) (kt : b < a → J cc nL own G V tgt lv st) (kf : a ≤ b → J cc nL own G V (pc + 3) lv st) : J cc nL own G V pc lv (.int (nI b) :: .int (nI a) :: st) :=
  j_icmp_gt hd ht (fun q => kt ((nI_ltI h.2 h.1).mp q)) (fun q => kf (Nat.not_lt.mp (fun z => q ((nI_ltI h.2 h.1).mpr z))))
theorem n_icmp_le {a b : Nat} {off : Int} {tgt : Nat} (hd : decode cc pc = .ok (.if_icmp .le off, 3)) (ht : (pc : Int) + off = (tgt : Int)) (h : a < 2147483648 ∧ b < 2147483648) (kt : a ≤ b → J cc nL own G V tgt lv st) (kf : b < a → J cc nL own G V (pc + 3) lv st) : J cc nL own G V pc lv (.int (nI b) :: .int (nI a) :: st) :=
  j_icmp_le hd ht (fun q => kt ((nI_leI h.1 h.2).mp q)) (fun q => kf (Nat.not_le.mp (fun z => q ((nI_leI h.1 h.2).mpr z))))
theorem n_if_eq {a : Nat} {off : Int} {tgt : Nat} (hd : decode cc pc = .ok (.ifCond .eq off, 3)) (ht : (pc : Int) + off = (tgt : Int)) (h : a < 2147483648) (kt : a = 0 → J cc nL own G V tgt lv st) (kf : a ≠ 0 → J cc nL own G V (pc + 3) lv st) : J cc nL own G V pc lv (.int (nI a) :: st) :=
  j_if_eq hd ht (fun q => kt (Decidable.byContradiction fun z => nI_ne0 (Nat.pos_of_ne_zero z) h q)) (fun q => kf (fun z => q (by rw [z]; exact nI_0)))
theorem n_if_ne {a : Nat} {off : Int} {tgt : Nat} (hd : decode cc pc = .ok (.ifCond .ne off, 3)) (ht : (pc : Int) + off = (tgt : Int)) (h : a < 2147483648) (kt : a ≠ 0 → J cc nL own G V tgt lv st) (kf : a = 0 → J cc nL own G V (pc + 3) lv st) : J cc nL own G V pc lv (.int (nI a) :: st) :=
  j_if_ne hd ht (fun q => kt (fun z => q (by rw [z]; exact nI_0))) (fun q => kf (Decidable.byContradiction fun z => nI_ne0 (Nat.pos_of_ne_zero z) h q))
theorem n_if_lt {a : Nat} {off : Int} {tgt : Nat} (hd : decode cc pc = .ok (.ifCond .lt off, 3)) (ht : (pc : Int) + off = (tgt : Int)) (h : a < 2147483648) (kf : J cc nL own G V (pc + 3) lv st) : J cc nL own G V pc lv (.int (nI a) :: st) :=
  j_if_lt hd ht (fun q => absurd q (nI_pos h)) (fun _ => kf)
theorem n_if_ge {a : Nat} {off : Int} {tgt : Nat} (hd : decode cc pc = .ok (.ifCond .ge off, 3)) (ht : (pc : Int) + off = (tgt : Int)) (h : a < 2147483648) (kt : J cc nL own G V tgt lv st) : J cc nL own G V pc lv (.int (nI a) :: st) :=
  j_if_ge hd ht (fun _ => kt) (fun q => absurd (nI_pos' h) q)
theorem n_if_le {a : Nat} {off : Int} {tgt : Nat} (hd : decode cc pc = .ok (.ifCond .le off, 3)) (ht : (pc : Int) + off = (tgt : Int)) (h : a < 2147483648) (kt : a = 0 → J cc nL own G V tgt lv st) (kf : 0 < a → J cc nL own G V (pc + 3) lv st) : J cc nL own G V pc lv (.int (nI a) :: st) :=
  j_if_le hd ht (fun q => kt (Decidable.byContradiction fun z => nI_nle (Nat.pos_of_ne_zero z) h q)) (fun q => kf (Nat.pos_of_ne_zero (fun z => q (by rw [z, nI_0]; decide))))
theorem b_if_eq {b : Bool} {off : Int} {tgt : Nat} (hd : decode cc pc = .ok (.ifCond .eq off, 3)) (ht : (pc : Int) + off = (tgt : Int)) (kt : b = false → J cc nL own G V tgt lv st) (kf : b = true → J cc nL own G V (pc + 3) lv st) : J cc nL own G V pc lv (.int (nI b.toNat) :: st) :=
  n_if_eq hd ht (by cases b <;> decide) (fun q => kt (by cases b <;> simp_all)) (fun q => kf (by cases b <;> simp_all))
theorem b_if_ne {b : Bool} {off : Int} {tgt : Nat} (hd : decode cc pc = .ok (.ifCond .ne off, 3)) (ht : (pc : Int) + off = (tgt : Int)) (kt : b = true → J cc nL own G V tgt lv st) (kf : b = false → J cc nL own G V (pc + 3) lv st) : J cc nL own G V pc lv (.int (nI b.toNat) :: st) :=
  n_if_ne hd ht (by cases b <;> decide) (fun q => kt (by cases b <;> simp_all)) (fun q => kf (by cases b <;> simp_all))
theorem n_iinc {i : Nat} {a n : Nat} {lv' : List Value} (hd : decode cc pc = .ok (.iinc i (n : Int), 3)) (hx : lv[i]? = some (.int (nI a))) (hs : lset lv i (.int (nI (a + n))) = lv') (hb : i < nL) (k : J cc nL own G V (pc + 3) lv' st) : J cc nL own G V pc lv st :=
  j_iinc hd hx (by rw [← nI_add]; rfl) hs hb k
theorem n_idec {i : Nat} {a : Nat} {lv' : List Value} (hd : decode cc pc = .ok (.iinc i (-1), 3)) (hx : lv[i]? = some (.int (nI (a + 1)))) (hs : lset lv i (.int (nI a)) = lv') (hb : i < nL) (k : J cc nL own G V (pc + 3) lv' st) : J cc nL own G V pc lv st :=
  j_iinc hd hx (pk_m1 a) hs hb k
end NR
/-- a loop that counts up -/
theorem up_loop (P : Nat → Prop) (N : Nat) (hend : P N) (hstep : ∀ i, i < N → P (i + 1) → P i) : ∀ i, i ≤ N → P i := by
  intro i hi
  obtain ⟨n, rfl⟩ : ∃ n, N = i + n := ⟨N - i, by omega⟩
  induction n generalizing i with
  | zero => exact hend
  | succ n ih =>
    refine hstep i (by omega) ?_
    have := ih (i + 1) (by rw [show i + 1 + n = i + (n + 1) by omega]; exact hend) (by rw [show i + 1 + n = i + (n + 1) by omega]; exact hstep) (by omega)
    exact this
/-- fewer locals need be known -/
theorem lz_take {lv : List Value} {m : Nat} {q : Nat × Value} (h : q ∈ lz 0 (lv.take m)) : q ∈ lz 0 lv := by
  obtain ⟨i, h1, h2⟩ := lz_of _ _ _ h
  have h3 : lv[i]? = some q.2 := by
    rw [List.getElem?_take] at h2
    split at h2
    · exact h2
    · cases h2
  have := lz_in lv 0 i q.2 h3
  rwa [show ((0 + i, q.2) : Nat × Value) = q from Prod.ext h1.symm rfl] at this
theorem j_take {cc : ByteArray} {nL : Nat} {own : String} {G : kCx} {V : Heap → List Loc → Prop} {pc : Nat} {lv lv' st : List Value} (m : Nat) (h : lv.take m = lv') (k : J cc nL own G V pc lv' st) : J cc nL own G V pc lv st := by
  intro C H locs ls hV hl
  refine k C H locs ls hV ?_
  subst h
  exact ⟨⟨hl.1.1, hl.1.2.1, fun q hq => hl.1.2.2 q (lz_take hq)⟩, fun v hv => hl.2 v (List.mem_of_mem_take hv)⟩
end
section
/-! worlds, contracts, calls -/
abbrev vwCl : List vw_C := [(RX0, TX0, 9), (RX1, TX1, 3)]
def rmK (k : Nat) : Room := { frames := k, cells := 0, slots := 0, locals := 30 * k }
def gV (G : kCx) (D : va_G) (tys : List (ClassId × FieldType)) (A : Nat → Prop) (ws : va_W) : Heap → List Loc → Prop := fun H locs => va_K D vwCl tys (ks G) ∧ va_P D vwCl ws H ∧ va_D A ws ∧ va_S A (ks G).heap H locs
def adr (ws : va_W) : Nat → Prop := fun q => ∃ e ∈ ws, e.1 = q
def gPre (D : va_G) (tys : List (ClassId × FieldType)) (ws : va_W) (U : State) : Prop := va_P D vwCl ws U.heap ∧ va_K D vwCl tys U ∧ va_D (fun _ => True) ws
theorem gP_iff {D : va_G} {cl : List vw_C} {ws : va_W} {H : Heap} : va_P D cl ws H ↔ ∀ q ∈ ws, va_at D cl q H :=
  ⟨fun h q hq => by obtain ⟨k, hk⟩ := List.getElem?_of_mem hq; exact h k q hk, fun h k q hk => h q (List.mem_of_getElem? hk)⟩
theorem gD_iff {A : Nat → Prop} {ws : va_W} : va_D A ws ↔ (ws.map Prod.fst).Nodup ∧ ∀ q ∈ ws, A q.1 := by
  constructor
  · intro h
    refine ⟨?_, fun q hq => by obtain ⟨k, hk⟩ := List.getElem?_of_mem hq; exact h.2 k q hk⟩
    unfold List.Nodup
    rw [List.pairwise_iff_getElem]
    intro i j hi hj hij e
    rw [List.length_map] at hi hj
    have e2 : (ws[i]'hi).1 = (ws[j]'hj).1 := by simpa using e
    have := h.1 i j _ _ (List.getElem?_eq_getElem hi) (List.getElem?_eq_getElem hj) e2
    omega
  · intro h
    refine ⟨fun i j p q hi hj e => ?_, fun k q hk => h.2 q (List.mem_of_getElem? hk)⟩
    have hn := h.1
    unfold List.Nodup at hn
    rw [List.pairwise_iff_getElem] at hn
    obtain ⟨li, ei⟩ := List.getElem?_eq_some_iff.mp hi
    obtain ⟨lj, ej⟩ := List.getElem?_eq_some_iff.mp hj
    rcases Nat.lt_trichotomy i j with c | c | c
    · have z := hn i j (by simpa using li) (by simpa using lj) c
      rw [List.getElem_map, List.getElem_map, ei, ej] at z
      exact absurd e z
    · exact c
    · have z := hn j i (by simpa using lj) (by simpa using li) c
      rw [List.getElem_map, List.getElem_map, ei, ej] at z
      exact absurd e.symm z
theorem gK_mem {D : va_G} {cl : List vw_C} {tys tys' : List (ClassId × FieldType)} {U : State} (h : va_K D cl tys U) (hs : ∀ q ∈ tys', q ∈ tys) : va_K D cl tys' U := by
  refine ⟨h.1, fun k q hk => ?_⟩
  obtain ⟨i, hi⟩ := List.getElem?_of_mem (hs q (List.mem_of_getElem? hk))
  exact h.2 i q hi
theorem adr_fst {ws ws' : va_W} (h : ws'.map Prod.fst = ws.map Prod.fst) {q : Nat} (hq : adr ws' q) : adr ws q := by
  obtain ⟨e, he, h1⟩ := hq
  have : e.1 ∈ ws.map Prod.fst := by rw [← h]; exact List.mem_map_of_mem he
  obtain ⟨e2, h2, h3⟩ := List.mem_map.mp this
  exact ⟨e2, h2, by rw [h3, h1]⟩
theorem gD_fst {A : Nat → Prop} {ws ws' : va_W} (h : ws'.map Prod.fst = ws.map Prod.fst) (hD : va_D A ws) : va_D A ws' := by
  rw [gD_iff] at hD ⊢
  refine ⟨by rw [h]; exact hD.1, fun q hq => ?_⟩
  obtain ⟨e2, h2, h3⟩ := adr_fst h ⟨q, hq, rfl⟩
  rw [← h3]
  exact hD.2 e2 h2
/-- contracts: an int answer, none -/
def gMi {σ : Type} (l : Launch) (y : MethodName) (cc : ByteArray) (nL : Nat) (ret : Option FieldType) (k : Nat) (D : va_G) (tys : List (ClassId × FieldType)) (w : σ → va_W) (As : List Value) (x : σ) (post : Int32 → σ → Prop) : Prop :=
  Met l y (ws_ y cc nL ret) (rmK k) (va_Pc As (gPre D tys (w x))) (va_Qi post (fun x' t => va_P D vwCl (w x') t.heap) (adr (w x))) 0 0 (adr (w x))
def gMv {σ : Type} (l : Launch) (y : MethodName) (cc : ByteArray) (nL : Nat) (k : Nat) (D : va_G) (tys : List (ClassId × FieldType)) (w : σ → va_W) (As : List Value) (x : σ) (post : σ → Prop) : Prop :=
  Met l y (ws_ y cc nL none) (rmK k) (va_Pc As (gPre D tys (w x))) (va_Qv post (fun x' t => va_P D vwCl (w x') t.heap) (adr (w x))) 0 0 (adr (w x))
abbrev kRm (G : kCx) (k : Nat) : Prop := kR G = rmK k ∧ kn G = 0 ∧ kz G = 0
theorem g_ofi {σ : Type} {l : Launch} {y : MethodName} {cc : ByteArray} {nL : Nat} {ret : Option FieldType} {k : Nat} {D : va_G} {tys : List (ClassId × FieldType)} {w : σ → va_W} {As : List Value} {x : σ} {post : Int32 → σ → Prop} {ty : FieldType} (hret : ret = some ty) (hy : Jvm.plainName y.cls = true) (hn : (lg_sl As).length ≤ nL) (hc : lcat As)
    (body : ∀ G : kCx, kRm G k → (∀ (pc : Nat) (lv : List Value) (r : Int32) (x' : σ), decode cc pc = .ok (.ireturn, 1) → narrow ty (.int r) = .int r → post r x' → J cc nL y.cls G (gV G D tys (adr (w x)) (w x')) pc lv [.int r]) → J cc nL y.cls G (gV G D tys (adr (w x)) (w x)) 0 As []) : gMi l y cc nL ret k D tys w As x post := by
  refine Met.ofW (cc := cc) (maxL := nL) (ret := ret) hy rfl ?_
  intro p e s m args below meth c s₁ B hml hv
  obtain ⟨rfl, hP, hK, hD0⟩ := hv
  have hts := atoms_spec (ws := ws_ y cc nL ret) B.pre
  have hts : ∀ w ∈ lw_all, w.before _ s = true := fun w h => hts w (List.mem_cons_of_mem _ h)
  have hown : s.vm.findClass y.cls = some m.cls := findClass_of_methodNamed B.named
  have hl := lv_entry As (n := nL) hn
  rw [lz_args As 0 hc] at hl
  rw [lg_entry_eq]
  refine (body (p, l, e, rmK k, s, m, As.toArray, below, meth, c, MQ below (va_Qi post (fun x' t => va_P D vwCl (w x') t.heap) (adr (w x))) As.toArray s 0 0 (adr (w x)), 0, 0) ⟨rfl, rfl, rfl⟩ ?_) ⟨B.exec, B.bytes, hml, hown, hts⟩ s.heap [] _ ⟨hK, hP, ⟨hD0.1, fun k q hk => ⟨q, List.mem_of_getElem? hk, rfl⟩⟩, va_S.rf⟩ ⟨hl, hc⟩
  intro pc lv r x' hd hnr hp C H locs ls hV hl
  obtain ⟨hK, hP, hD, hS⟩ := hV
  exact W.zret C.1 C.2.1 (B.returns.trans hret) hnr (fun t ht hW => ⟨⟨r, x', rfl, hp, (by show va_P D vwCl (w x') t.heap; rw [ht]; exact hP)⟩, hS.F ht⟩) hS.2.2 hd (hlocks := B.notSynchronized)
theorem g_ofv {σ : Type} {l : Launch} {y : MethodName} {cc : ByteArray} {nL : Nat} {k : Nat} {D : va_G} {tys : List (ClassId × FieldType)} {w : σ → va_W} {As : List Value} {x : σ} {post : σ → Prop} (hy : Jvm.plainName y.cls = true) (hn : (lg_sl As).length ≤ nL) (hc : lcat As)
    (body : ∀ G : kCx, kRm G k → (∀ (pc : Nat) (lv : List Value) (x' : σ), decode cc pc = .ok (.return_, 1) → post x' → J cc nL y.cls G (gV G D tys (adr (w x)) (w x')) pc lv []) → J cc nL y.cls G (gV G D tys (adr (w x)) (w x)) 0 As []) : gMv l y cc nL k D tys w As x post := by
  refine Met.ofW (cc := cc) (maxL := nL) (ret := none) hy rfl ?_
  intro p e s m args below meth c s₁ B hml hv
  obtain ⟨rfl, hP, hK, hD0⟩ := hv
  have hts := atoms_spec (ws := ws_ y cc nL none) B.pre
  have hts : ∀ w ∈ lw_all, w.before _ s = true := fun w h => hts w (List.mem_cons_of_mem _ h)
  have hown : s.vm.findClass y.cls = some m.cls := findClass_of_methodNamed B.named
  have hl := lv_entry As (n := nL) hn
  rw [lz_args As 0 hc] at hl
  rw [lg_entry_eq]
  refine (body (p, l, e, rmK k, s, m, As.toArray, below, meth, c, MQ below (va_Qv post (fun x' t => va_P D vwCl (w x') t.heap) (adr (w x))) As.toArray s 0 0 (adr (w x)), 0, 0) ⟨rfl, rfl, rfl⟩ ?_) ⟨B.exec, B.bytes, hml, hown, hts⟩ s.heap [] _ ⟨hK, hP, ⟨hD0.1, fun k q hk => ⟨q, List.mem_of_getElem? hk, rfl⟩⟩, va_S.rf⟩ ⟨hl, hc⟩
  intro pc lv x' hd hp C H locs ls hV hl
  obtain ⟨hK, hP, hD, hS⟩ := hV
  exact W.vret C.1 C.2.1 B.returns (fun t ht hW => ⟨⟨x', rfl, hp, (by show va_P D vwCl (w x') t.heap; rw [ht]; exact hP)⟩, hS.F ht⟩) hS.2.2 hd (hlocks := B.notSynchronized)
theorem gPre_blind {D : va_G} {tys : List (ClassId × FieldType)} {ws : va_W} {As : List Value} : FrameBlind (va_Pc As (gPre D tys ws)) := by
  intro a U g mk q
  obtain ⟨q0, qP, qK, qD⟩ := q
  exact ⟨q0, qP, va_K.moved (u := U) (U := U.calling g mk a) (Vm.Alike.refl U.vm) qK, qD⟩
/-- the callee's cells out of the caller's, and back -/
theorem g_cut {D : va_G} {A : Nat → Prop} {l1 l2 wx : va_W} {H : Heap} (hP : va_P D vwCl (l1 ++ wx ++ l2) H) (hD : va_D A (l1 ++ wx ++ l2)) : va_P D vwCl wx H ∧ va_D (fun _ => True) wx ∧ ∀ q, adr wx q → A q := by
  rw [gP_iff] at hP
  rw [gD_iff] at hD
  refine ⟨gP_iff.mpr fun q hq => hP q (by simp [hq]), gD_iff.mpr ⟨?_, fun _ _ => trivial⟩, ?_⟩
  · have h := hD.1
    rw [List.map_append, List.map_append] at h
    exact (List.nodup_append.mp (List.nodup_append.mp h).1).2.1
  · rintro q ⟨e, he, rfl⟩
    exact hD.2 e (by simp [he])
theorem g_back {D : va_G} {A : Nat → Prop} {l1 l2 wx wx' : va_W} {H H1 : Heap} (hP : va_P D vwCl (l1 ++ wx ++ l2) H) (hD : va_D A (l1 ++ wx ++ l2)) (hf : wx'.map Prod.fst = wx.map Prod.fst) (hk : ∀ q : Nat, q < H.size → ¬ adr wx q → H1[q]? = H[q]?) (hP1 : va_P D vwCl wx' H1) : va_P D vwCl (l1 ++ wx' ++ l2) H1 ∧ va_D A (l1 ++ wx' ++ l2) := by
  refine ⟨?_, gD_fst (by simp [hf]) hD⟩
  rw [gP_iff] at hP hP1 ⊢
  have hn := (gD_iff.mp hD).1
  rw [List.map_append, List.map_append] at hn
  have n1 := List.nodup_append.mp hn
  have n2 := List.nodup_append.mp n1.1
  intro q hq
  rcases List.mem_append.mp hq with hq | hq
  · rcases List.mem_append.mp hq with hq | hq
    · have h1 := hP q (by simp [hq])
      refine h1.kept (hk q.1 h1.lt ?_)
      rintro ⟨e, he, h2⟩
      exact n2.2.2 q.1 (List.mem_map_of_mem hq) e.1 (List.mem_map_of_mem he) h2.symm
    · exact hP1 q hq
  · have h1 := hP q (by simp [hq])
    refine h1.kept (hk q.1 h1.lt ?_)
    rintro ⟨e, he, h2⟩
    exact n1.2.2 e.1 (by simp; exact Or.inr ⟨_, by rw [Prod.eta]; exact he⟩) q.1 (List.mem_map_of_mem hq) h2
section GC
variable {cc : ByteArray} {nL : Nat} {own : String} {G : kCx} {pc : Nat} {lv st st0 : List Value}
variable {σ : Type} {y : MethodName} {bytes : ByteArray} {maxL : Nat} {ret : Option FieldType} {k' idx : Nat} {D : va_G} {tys tysC : List (ClassId × FieldType)} {w ws' : σ → va_W} {b : Nat} {As : List Value} {x : σ} {A : Nat → Prop} {ws l1 l2 : va_W} {C : String}
theorem g_callVi {post : Int32 → σ → Prop} (hM : gMi (kl G) y bytes maxL ret k' D tysC w (.ref b :: As) x post) (hd : decode cc pc = .ok (.invokevirtual idx, 3))
    (hg : GoodIn lw_all (wsV own idx C y (ws_ y bytes maxL ret))) (hC : y.cls = C ∧ y.cls ≠ "java/lang/invoke/MethodHandle" ∧ y.cls ≠ "java/lang/invoke/VarHandle" ∧ (parseMethodDescriptor y.desc).map (fun d => d.parameters.length) = some As.length)
    (hR : k' + 1 ≤ (kR G).frames ∧ 8 + (maxL + 11) + 30 * k' ≤ (kR G).locals) (hz : kn G ≤ (kR G).cells ∧ kz G ≤ (kR G).slots) (hst : (st.map fun v => v.category).sum ≤ 8) (hs0 : st0 = As.reverse ++ .ref b :: st)
    (hw : ∀ x', (w x').map Prod.fst = (w x).map Prod.fst) (hws : ws = l1 ++ w x ++ l2) (hws' : ∀ x', ws' x' = l1 ++ w x' ++ l2) (htys : ∀ q ∈ tysC, q ∈ tys) {q0 ci : Nat} {fs : List Value} {cq : vw_C} (hrc : (w x)[q0]? = some (b, .inr (ci, fs))) (hcq : vwCl[ci]? = some cq) (hcC : cq.1 = C)
    (kk : ∀ (r : Int32) (x' : σ), post r x' → J cc nL own G (gV G D tys A (ws' x')) (pc + 3) lv (.int r :: st)) : J cc nL own G (gV G D tys A ws) pc lv st0 := by
  intro Cx H locs ls hV hl
  obtain ⟨hK, hP, hD, hS⟩ := hV
  subst hws hs0 hcC
  obtain ⟨hPc, hDc, hFc⟩ := g_cut hP hD
  have hKc := gK_mem hK htys
  refine va_calli (va_runV (As := As) (rest := st) Cx hM (cwV As.length Cx.2.2.2.2 hg rfl rfl rfl hC hR) ⟨gPre_blind, va_recv hKc hPc hcq hrc, fun U hU hW => ⟨rfl, by rw [hU]; exact hPc, va_K.moved hW.alike hKc, hDc⟩⟩ rfl rfl hl.1.1 rfl (lv_room hst) hd hz) hS (fun q _ h => hFc q h) hFc (fun r u t H1 locs1 ht hvm hp hB hz1 hk1 hS1 => ?_)
  rw [ht] at hB
  obtain ⟨hP1, hD1⟩ := g_back hP hD (hw u) hk1 hB
  exact kk r u hp Cx H1 locs1 ls ⟨hK, by rw [hws']; exact hP1, by rw [hws']; exact hD1, hS1⟩ hl
theorem g_callVv {post : σ → Prop} (hM : gMv (kl G) y bytes maxL k' D tysC w (.ref b :: As) x post) (hd : decode cc pc = .ok (.invokevirtual idx, 3))
    (hg : GoodIn lw_all (wsV own idx C y (ws_ y bytes maxL none))) (hC : y.cls = C ∧ y.cls ≠ "java/lang/invoke/MethodHandle" ∧ y.cls ≠ "java/lang/invoke/VarHandle" ∧ (parseMethodDescriptor y.desc).map (fun d => d.parameters.length) = some As.length)
    (hR : k' + 1 ≤ (kR G).frames ∧ 8 + (maxL + 11) + 30 * k' ≤ (kR G).locals) (hz : kn G ≤ (kR G).cells ∧ kz G ≤ (kR G).slots) (hst : (st.map fun v => v.category).sum ≤ 8) (hs0 : st0 = As.reverse ++ .ref b :: st)
    (hw : ∀ x', (w x').map Prod.fst = (w x).map Prod.fst) (hws : ws = l1 ++ w x ++ l2) (hws' : ∀ x', ws' x' = l1 ++ w x' ++ l2) (htys : ∀ q ∈ tysC, q ∈ tys) {q0 ci : Nat} {fs : List Value} {cq : vw_C} (hrc : (w x)[q0]? = some (b, .inr (ci, fs))) (hcq : vwCl[ci]? = some cq) (hcC : cq.1 = C)
    (kk : ∀ (x' : σ), post x' → J cc nL own G (gV G D tys A (ws' x')) (pc + 3) lv st) : J cc nL own G (gV G D tys A ws) pc lv st0 := by
  intro Cx H locs ls hV hl
  obtain ⟨hK, hP, hD, hS⟩ := hV
  subst hws hs0 hcC
  obtain ⟨hPc, hDc, hFc⟩ := g_cut hP hD
  have hKc := gK_mem hK htys
  refine va_callv (va_runV (As := As) (rest := st) Cx hM (cwV As.length Cx.2.2.2.2 hg rfl rfl rfl hC hR) ⟨gPre_blind, va_recv hKc hPc hcq hrc, fun U hU hW => ⟨rfl, by rw [hU]; exact hPc, va_K.moved hW.alike hKc, hDc⟩⟩ rfl rfl hl.1.1 rfl (lv_room hst) hd hz) hS (fun q _ h => hFc q h) hFc (fun u t H1 locs1 ht hvm hp hB hz1 hk1 hS1 => ?_)
  rw [ht] at hB
  obtain ⟨hP1, hD1⟩ := g_back hP hD (hw u) hk1 hB
  exact kk u hp Cx H1 locs1 ls ⟨hK, by rw [hws']; exact hP1, by rw [hws']; exact hD1, hS1⟩ hl
/-- a static call: the callee has no cells -/
theorem g_callSi {D' : va_G} {post : Int32 → Unit → Prop} (hM : gMi (kl G) y bytes maxL ret k' D [] (fun _ : Unit => []) As () post) (hd : decode cc pc = .ok (.invokestatic idx, 3))
    (hg : GoodIn lw_all (va_wsS own idx y (ws_ y bytes maxL ret))) (hC : y.cls ≠ "java/lang/invoke/MethodHandle" ∧ y.cls ≠ "java/lang/invoke/VarHandle" ∧ (parseMethodDescriptor y.desc).map (fun d => d.parameters.length) = some As.length)
    (hR : k' + 1 ≤ (kR G).frames ∧ 8 + (maxL + 11) + 30 * k' ≤ (kR G).locals) (hz : kn G ≤ (kR G).cells ∧ kz G ≤ (kR G).slots) (hst : (st.map fun v => v.category).sum ≤ 8) (hs0 : st0 = As.reverse ++ st)
    (kk : ∀ (r : Int32), post r () → J cc nL own G (gV G D tys A ws) (pc + 3) lv (.int r :: st)) : J cc nL own G (gV G D tys A ws) pc lv st0 := by
  intro Cx H locs ls hV hl
  obtain ⟨hK, hP, hD, hS⟩ := hV
  subst hs0
  have hP' : va_P D vwCl (ws ++ [] ++ []) H := by simpa using hP
  have hD' : va_D A (ws ++ [] ++ []) := by simpa using hD
  obtain ⟨hPc, hDc, hFc⟩ := g_cut hP' hD'
  have hKc := gK_mem (tys' := []) hK (fun q h => by cases h)
  refine va_calli (va_runS (As := As) (rest := st) Cx hM (va_cwS As.length Cx.2.2.2.2 hg rfl rfl rfl hC hR) ⟨gPre_blind, fun U hU hW => ⟨rfl, by rw [hU]; exact hPc, va_K.moved hW.alike hKc, hDc⟩⟩ rfl rfl hl.1.1 rfl (lv_room hst) hd hz) hS (fun q _ h => hFc q h) hFc (fun r u t H1 locs1 ht hvm hp hB hz1 hk1 hS1 => ?_)
  obtain ⟨hP1, hD1⟩ := g_back (wx' := []) hP' hD' rfl hk1 (gP_iff.mpr fun q h => by cases h)
  exact kk r hp Cx H1 locs1 ls ⟨hK, by simpa using hP1, by simpa using hD1, hS1⟩ hl
end GC
section GH
variable {cc : ByteArray} {nL : Nat} {own : String} {G : kCx} {pc : Nat} {lv st : List Value} {D : va_G} {tys : List (ClassId × FieldType)} {A : Nat → Prop} {ws ws' : va_W} {a cn : Nat} {cA : ClassId} {f : Nat → Int32} {i v : Nat}
theorem g_bald (q0 t0 : Nat) (ha : ws[q0]? = some (a, .inl (cA, cn, .inl f))) (ht : tys[t0]? = some (cA, .byte)) (hn : cn < 2147483648) (hd : decode cc pc = .ok (.baload, 1)) (hi : i < cn) (k : J cc nL own G (gV G D tys A ws) (pc + 1) lv (.int (f i) :: st)) : J cc nL own G (gV G D tys A ws) pc lv (.int (nI i) :: .ref a :: st) := by
  intro Cx H locs ls hV hl
  obtain ⟨hK, hP, hD, hS⟩ := hV
  refine va_bald Cx.1 Cx.2.1 hK hP q0 t0 ha ht (vp_in_nI hi hn) hd ?_
  rw [nI_clamp (show i < 2 ^ 31 by omega)]
  exact k Cx H locs ls ⟨hK, hP, hD, hS⟩ hl
theorem g_zald (q0 t0 : Nat) (ha : ws[q0]? = some (a, .inl (cA, cn, .inl f))) (ht : tys[t0]? = some (cA, .boolean)) (hn : cn < 2147483648) (hd : decode cc pc = .ok (.baload, 1)) (hi : i < cn) (k : J cc nL own G (gV G D tys A ws) (pc + 1) lv (.int (f i) :: st)) : J cc nL own G (gV G D tys A ws) pc lv (.int (nI i) :: .ref a :: st) := by
  intro Cx H locs ls hV hl
  obtain ⟨hK, hP, hD, hS⟩ := hV
  refine va_zald Cx.1 Cx.2.1 hK hP q0 t0 ha ht (vp_in_nI hi hn) hd ?_
  rw [nI_clamp (show i < 2 ^ 31 by omega)]
  exact k Cx H locs ls ⟨hK, hP, hD, hS⟩ hl
theorem g_sald (q0 t0 : Nat) (ha : ws[q0]? = some (a, .inl (cA, cn, .inl f))) (ht : tys[t0]? = some (cA, .short)) (hn : cn < 2147483648) (hd : decode cc pc = .ok (.saload, 1)) (hi : i < cn) (k : J cc nL own G (gV G D tys A ws) (pc + 1) lv (.int (f i) :: st)) : J cc nL own G (gV G D tys A ws) pc lv (.int (nI i) :: .ref a :: st) := by
  intro Cx H locs ls hV hl
  obtain ⟨hK, hP, hD, hS⟩ := hV
  refine va_sald Cx.1 Cx.2.1 hK hP q0 t0 ha ht (vp_in_nI hi hn) hd ?_
  rw [nI_clamp (show i < 2 ^ 31 by omega)]
  exact k Cx H locs ls ⟨hK, hP, hD, hS⟩ hl
theorem g_bast (q0 t0 : Nat) (ha : ws[q0]? = some (a, .inl (cA, cn, .inl f))) (ht : tys[t0]? = some (cA, .byte)) (hn : cn < 2147483648) (hw : ws.set q0 (a, .inl (cA, cn, .inl (upd f i (nI v)))) = ws') (hd : decode cc pc = .ok (.bastore, 1)) (hi : i < cn) (hv : v < 128) (k : J cc nL own G (gV G D tys A ws') (pc + 1) lv st) : J cc nL own G (gV G D tys A ws) pc lv (.int (nI v) :: .int (nI i) :: .ref a :: st) := by
  intro Cx H locs ls hV hl
  obtain ⟨hK, hP, hD, hS⟩ := hV
  refine va_bast Cx.1 Cx.2.1 hK hP hD hS q0 t0 ha ht (vp_in_nI hi hn) hd ?_
  rw [nI_clamp (show i < 2 ^ 31 by omega), vp_nar_byte, nn_b v hv, hw]
  exact fun H1 locs1 hP hD hS => k Cx H1 locs1 ls ⟨hK, hP, hD, hS⟩ hl
theorem g_zast (q0 t0 : Nat) (ha : ws[q0]? = some (a, .inl (cA, cn, .inl f))) (ht : tys[t0]? = some (cA, .boolean)) (hn : cn < 2147483648) (hw : ws.set q0 (a, .inl (cA, cn, .inl (upd f i (nI v)))) = ws') (hd : decode cc pc = .ok (.bastore, 1)) (hi : i < cn) (hv : v < 2) (k : J cc nL own G (gV G D tys A ws') (pc + 1) lv st) : J cc nL own G (gV G D tys A ws) pc lv (.int (nI v) :: .int (nI i) :: .ref a :: st) := by
  intro Cx H locs ls hV hl
  obtain ⟨hK, hP, hD, hS⟩ := hV
  refine va_zast Cx.1 Cx.2.1 hK hP hD hS q0 t0 ha ht (vp_in_nI hi hn) hd ?_
  rw [nI_clamp (show i < 2 ^ 31 by omega), show vp_nar .boolean (nI v) = nI v from nn_z v hv, hw]
  exact fun H1 locs1 hP hD hS => k Cx H1 locs1 ls ⟨hK, hP, hD, hS⟩ hl
theorem g_sast (q0 t0 : Nat) (ha : ws[q0]? = some (a, .inl (cA, cn, .inl f))) (ht : tys[t0]? = some (cA, .short)) (hn : cn < 2147483648) (hw : ws.set q0 (a, .inl (cA, cn, .inl (upd f i (nI v)))) = ws') (hd : decode cc pc = .ok (.sastore, 1)) (hi : i < cn) (hv : v < 256) (k : J cc nL own G (gV G D tys A ws') (pc + 1) lv st) : J cc nL own G (gV G D tys A ws) pc lv (.int (nI v) :: .int (nI i) :: .ref a :: st) := by
  intro Cx H locs ls hV hl
  obtain ⟨hK, hP, hD, hS⟩ := hV
  refine va_sast Cx.1 Cx.2.1 hK hP hD hS q0 t0 ha ht (vp_in_nI hi hn) hd ?_
  rw [nI_clamp (show i < 2 ^ 31 by omega), vp_nar_short, nn_s16 v hv, hw]
  exact fun H1 locs1 hP hD hS => k Cx H1 locs1 ls ⟨hK, hP, hD, hS⟩ hl
theorem g_get {C : String} {T : u_T} {N ci idx : Nat} (hin : ∀ w ∈ u_ws C T N, w ∈ lw_all) (q0 : Nat) {fs : List Value} (he : ws[q0]? = some (a, .inr (ci, fs))) (hc : vwCl[ci]? = some (C, T, N)) (kf : Nat) (hk : kf < N) (hlink : Cond.fieldLink own idx (T kf).1 (T kf).2.1 (T kf).2.2.1 ∈ lw_all) {x : Value} (hv : fs[kf]? = some x) (hd : decode cc pc = .ok (.getfield idx, 3)) (k : J cc nL own G (gV G D tys A ws) (pc + 3) lv (x :: st)) : J cc nL own G (gV G D tys A ws) pc lv (.ref a :: st) := by
  intro Cx H locs ls hV hl
  obtain ⟨hK, hP, hD, hS⟩ := hV
  exact va_get Cx.1 Cx.2.1 Cx.2.2.2.2 hin Cx.2.2.2.1 hK hP q0 he hc kf hk (Cx.2.2.2.2 _ hlink) (fun _ h => h) hv hd (k Cx H locs ls ⟨hK, hP, hD, hS⟩ hl)
theorem g_put {C : String} {T : u_T} {N ci idx : Nat} (hin : ∀ w ∈ u_ws C T N, w ∈ lw_all) (ty0 : Nat → FieldType) (hty : ∀ k, k < N → parseFieldDescriptor (T k).2.2.1 = some (ty0 k)) (hnm : ∀ a, a < N → ∀ b, b < N → a ≠ b → (T a).2.1 ≠ (T b).2.1) (q0 : Nat) {fs : List Value} (he : ws[q0]? = some (a, .inr (ci, fs))) (hc : vwCl[ci]? = some (C, T, N)) (kf : Nat) (hk : kf < N) (hlink : Cond.fieldLink own idx (T kf).1 (T kf).2.1 (T kf).2.2.1 ∈ lw_all) (hfin : (T kf).2.2.2 = false) {x : Int32} (hdd : parseFieldDescriptor (T kf).2.2.1 = some .int) (hl0 : kf < fs.length) (hw : ws.set q0 (a, .inr (ci, fs.set kf (.int x))) = ws') (hd : decode cc pc = .ok (.putfield idx, 3)) (k : J cc nL own G (gV G D tys A ws') (pc + 3) lv st) : J cc nL own G (gV G D tys A ws) pc lv (.int x :: .ref a :: st) := by
  intro Cx H locs ls hV hl
  obtain ⟨hK, hP, hD, hS⟩ := hV
  refine va_put Cx.1 Cx.2.1 Cx.2.2.2.2 hin ty0 hty hnm Cx.2.2.2.1 hK hP hD hS q0 he hc kf hk (Cx.2.2.2.2 _ hlink) (fun _ h => h) hfin hdd rfl rfl hl0 hd ?_
  rw [hw]
  exact fun H1 locs1 hP hD hS => k Cx H1 locs1 ls ⟨hK, hP, hD, hS⟩ hl
end GH
end
section
/-! the desk's world (KernelDesk): cells by a layout Y = (classes, addresses, array classes); contents X k i: array k, place i; X 0 0: madeSize, X 0 1: waiting -/
abbrev dL : Type := va_G × (Nat → Nat) × (Nat → ClassId)
def dkW (Y : dL) (X : Nat → Nat → Nat) : va_W :=
  [(Y.2.1 0, .inr (0, [.ref (Y.2.1 1), .ref (Y.2.1 2), .int (nI (X 0 0)), .ref (Y.2.1 3), .ref (Y.2.1 4), .ref (Y.2.1 5), .int (nI (X 0 1)), .ref (Y.2.1 6), .ref (Y.2.1 7)])),
   (Y.2.1 1, .inl (Y.2.2 1, 4, .inl (fun j => nI (X 1 j)))), (Y.2.1 2, .inl (Y.2.2 2, 32, .inl (fun j => nI (X 2 j)))), (Y.2.1 3, .inl (Y.2.2 3, 8, .inl (fun j => nI (X 3 j)))),
   (Y.2.1 4, .inl (Y.2.2 4, 128, .inl (fun j => nI (X 4 j)))), (Y.2.1 5, .inl (Y.2.2 5, 128, .inl (fun j => nI (X 5 j)))), (Y.2.1 6, .inl (Y.2.2 6, 128, .inl (fun j => nI (X 6 j)))), (Y.2.1 7, .inl (Y.2.2 7, 128, .inl (fun j => nI (X 7 j))))]
def dkT (Y : dL) : List (ClassId × FieldType) := [(Y.2.2 1, .byte), (Y.2.2 2, .byte), (Y.2.2 3, .byte), (Y.2.2 4, .boolean), (Y.2.2 5, .short), (Y.2.2 6, .byte), (Y.2.2 7, .byte)]
theorem dk_fst (Y : dL) (X X' : Nat → Nat → Nat) : (dkW Y X').map Prod.fst = (dkW Y X).map Prod.fst := rfl
abbrev dV (G : kCx) (Y : dL) (A : Nat → Prop) (X : Nat → Nat → Nat) : Heap → List Loc → Prop := gV G Y.1 (dkT Y) A (dkW Y X)
abbrev dA (Y : dL) : Nat → Prop := adr (dkW Y (fun _ _ => 0))
theorem dk_adr (Y : dL) (X : Nat → Nat → Nat) : adr (dkW Y X) = dA Y := by
  funext q
  exact propext ⟨fun h => adr_fst (dk_fst Y _ _) h, fun h => adr_fst (dk_fst Y _ _) h⟩
abbrev dMi (l : Launch) (y : MethodName) (cc : ByteArray) (nL : Nat) (ret : Option FieldType) (k : Nat) (Y : dL) (As : List Value) (X : Nat → Nat → Nat) (post : Int32 → (Nat → Nat → Nat) → Prop) : Prop := gMi l y cc nL ret k Y.1 (dkT Y) (dkW Y) (.ref (Y.2.1 0) :: As) X post
abbrev dMv (l : Launch) (y : MethodName) (cc : ByteArray) (nL : Nat) (k : Nat) (Y : dL) (As : List Value) (X : Nat → Nat → Nat) (post : (Nat → Nat → Nat) → Prop) : Prop := gMv l y cc nL k Y.1 (dkT Y) (dkW Y) (.ref (Y.2.1 0) :: As) X post
theorem d_ofi {l : Launch} {y : MethodName} {cc : ByteArray} {nL : Nat} {ret : Option FieldType} {k : Nat} {Y : dL} {As : List Value} {X : Nat → Nat → Nat} {post : Int32 → (Nat → Nat → Nat) → Prop} (ty : FieldType) {own : String} (ho : y.cls = own) (hret : ret = some ty) (hy : Jvm.plainName y.cls = true) (hn : (lg_sl (.ref (Y.2.1 0) :: As)).length ≤ nL) (hc : lcat (.ref (Y.2.1 0) :: As))
    (body : ∀ G : kCx, kRm G k → (∀ (pc : Nat) (lv : List Value) (r : Int32) (X' : Nat → Nat → Nat), decode cc pc = .ok (.ireturn, 1) → narrow ty (.int r) = .int r → post r X' → J cc nL own G (dV G Y (dA Y) X') pc lv [.int r]) → J cc nL own G (dV G Y (dA Y) X) 0 (.ref (Y.2.1 0) :: As) []) : dMi l y cc nL ret k Y As X post := by
  subst ho
  refine g_ofi hret hy hn hc ?_
  rw [dk_adr]
  exact body
theorem d_ofv {l : Launch} {y : MethodName} {cc : ByteArray} {nL : Nat} {k : Nat} {Y : dL} {As : List Value} {X : Nat → Nat → Nat} {post : (Nat → Nat → Nat) → Prop} {own : String} (ho : y.cls = own) (hy : Jvm.plainName y.cls = true) (hn : (lg_sl (.ref (Y.2.1 0) :: As)).length ≤ nL) (hc : lcat (.ref (Y.2.1 0) :: As))
    (body : ∀ G : kCx, kRm G k → (∀ (pc : Nat) (lv : List Value) (X' : Nat → Nat → Nat), decode cc pc = .ok (.return_, 1) → post X' → J cc nL own G (dV G Y (dA Y) X') pc lv []) → J cc nL own G (dV G Y (dA Y) X) 0 (.ref (Y.2.1 0) :: As) []) : dMv l y cc nL k Y As X post := by
  subst ho
  refine g_ofv hy hn hc ?_
  rw [dk_adr]
  exact body
theorem k_room {G : kCx} {k k' maxL : Nat} (hG : kRm G k) (hk : k' + 1 ≤ k ∧ 8 + (maxL + 11) + 30 * k' ≤ 30 * k) : (k' + 1 ≤ (kR G).frames ∧ 8 + (maxL + 11) + 30 * k' ≤ (kR G).locals) ∧ kn G ≤ (kR G).cells ∧ kz G ≤ (kR G).slots := by
  obtain ⟨h1, h2, h3⟩ := hG
  rw [h1, h2, h3]
  exact ⟨hk, Nat.zero_le _, Nat.zero_le _⟩
/-- what a call asks of its method's name and words -/
abbrev cpV (own : String) (idx : Nat) (C : String) (y : MethodName) (bytes : ByteArray) (maxL : Nat) (ret : Option FieldType) (n : Nat) : Prop := GoodIn lw_all (wsV own idx C y (ws_ y bytes maxL ret)) ∧ (y.cls = C ∧ y.cls ≠ "java/lang/invoke/MethodHandle" ∧ y.cls ≠ "java/lang/invoke/VarHandle" ∧ (parseMethodDescriptor y.desc).map (fun d => d.parameters.length) = some n)
abbrev cpS (own : String) (idx : Nat) (y : MethodName) (bytes : ByteArray) (maxL : Nat) (ret : Option FieldType) (n : Nat) : Prop := GoodIn lw_all (va_wsS own idx y (ws_ y bytes maxL ret)) ∧ (y.cls ≠ "java/lang/invoke/MethodHandle" ∧ y.cls ≠ "java/lang/invoke/VarHandle" ∧ (parseMethodDescriptor y.desc).map (fun d => d.parameters.length) = some n)
section DC
variable {cc : ByteArray} {nL : Nat} {own : String} {G : kCx} {pc : Nat} {lv st st0 : List Value} {y : MethodName} {bytes : ByteArray} {maxL : Nat} {ret : Option FieldType} {k k' idx : Nat} {Y : dL} {As : List Value} {X : Nat → Nat → Nat} {A : Nat → Prop}
theorem d_calli {post : Int32 → (Nat → Nat → Nat) → Prop} (hM : dMi (kl G) y bytes maxL ret k' Y As X post) (hG : kRm G k) (hk : k' + 1 ≤ k ∧ 8 + (maxL + 11) + 30 * k' ≤ 30 * k) (hd : decode cc pc = .ok (.invokevirtual idx, 3)) (hg : cpV own idx RX0 y bytes maxL ret As.length) (hst : (st.map fun v => v.category).sum ≤ 8) (hs0 : st0 = As.reverse ++ .ref (Y.2.1 0) :: st)
    (kk : ∀ (r : Int32) (X' : Nat → Nat → Nat), post r X' → J cc nL own G (dV G Y A X') (pc + 3) lv (.int r :: st)) : J cc nL own G (dV G Y A X) pc lv st0 :=
  g_callVi (l1 := []) (l2 := []) (ws' := dkW Y) hM hd hg.1 hg.2 (k_room hG hk).1 (k_room hG hk).2 hst hs0 (fun X' => dk_fst Y X X') (by simp) (fun X' => by simp) (fun q h => h) (q0 := 0) (ci := 0) rfl rfl rfl kk
theorem d_callv {post : (Nat → Nat → Nat) → Prop} (hM : dMv (kl G) y bytes maxL k' Y As X post) (hG : kRm G k) (hk : k' + 1 ≤ k ∧ 8 + (maxL + 11) + 30 * k' ≤ 30 * k) (hd : decode cc pc = .ok (.invokevirtual idx, 3)) (hg : cpV own idx RX0 y bytes maxL none As.length) (hst : (st.map fun v => v.category).sum ≤ 8) (hs0 : st0 = As.reverse ++ .ref (Y.2.1 0) :: st)
    (kk : ∀ (X' : Nat → Nat → Nat), post X' → J cc nL own G (dV G Y A X') (pc + 3) lv st) : J cc nL own G (dV G Y A X) pc lv st0 :=
  g_callVv (l1 := []) (l2 := []) (ws' := dkW Y) hM hd hg.1 hg.2 (k_room hG hk).1 (k_room hG hk).2 hst hs0 (fun X' => dk_fst Y X X') (by simp) (fun X' => by simp) (fun q h => h) (q0 := 0) (ci := 0) rfl rfl rfl kk
/-- static methods of the desk: no cells -/
abbrev sMi (l : Launch) (y : MethodName) (cc : ByteArray) (nL : Nat) (ret : Option FieldType) (k : Nat) (D : va_G) (As : List Value) (post : Int32 → Unit → Prop) : Prop := gMi l y cc nL ret k D [] (fun _ : Unit => []) As () post
theorem s_ofi {l : Launch} {D : va_G} (ty : FieldType) {own : String} (ho : y.cls = own) {post : Int32 → Unit → Prop} (hret : ret = some ty) (hy : Jvm.plainName y.cls = true) (hn : (lg_sl As).length ≤ nL) (hc : lcat As)
    (body : ∀ G : kCx, kRm G k → (∀ (pc : Nat) (lv : List Value) (r : Int32), decode cc pc = .ok (.ireturn, 1) → narrow ty (.int r) = .int r → post r () → J cc nL own G (gV G D [] (adr []) []) pc lv [.int r]) → J cc nL own G (gV G D [] (adr []) []) 0 As []) : sMi l y cc nL ret k D As post := by
  subst ho
  exact g_ofi hret hy hn hc (fun G hG h => body G hG (fun pc lv r => h pc lv r ()))
theorem s_calli {D : va_G} {tys : List (ClassId × FieldType)} {ws : va_W} {post : Int32 → Unit → Prop} (hM : sMi (kl G) y bytes maxL ret k' D As post) (hG : kRm G k) (hk : k' + 1 ≤ k ∧ 8 + (maxL + 11) + 30 * k' ≤ 30 * k) (hd : decode cc pc = .ok (.invokestatic idx, 3)) (hg : cpS own idx y bytes maxL ret As.length) (hst : (st.map fun v => v.category).sum ≤ 8) (hs0 : st0 = As.reverse ++ st)
    (kk : ∀ (r : Int32), post r () → J cc nL own G (gV G D tys A ws) (pc + 3) lv (.int r :: st)) : J cc nL own G (gV G D tys A ws) pc lv st0 :=
  g_callSi (D' := D) hM hd hg.1 hg.2 (k_room hG hk).1 (k_room hG hk).2 hst hs0 kk
end DC
/-- one place of one array changed -/
def up2 (X : Nat → Nat → Nat) (k i v : Nat) : Nat → Nat → Nat := fun k' j => if k' = k ∧ j = i then v else X k' j
theorem up2_s (X : Nat → Nat → Nat) (k i v : Nat) : up2 X k i v k i = v := by simp [up2]
theorem up2_k (X : Nat → Nat → Nat) {k k' : Nat} (i v : Nat) (h : k' ≠ k) : up2 X k i v k' = X k' := by funext j; simp [up2, h]
theorem up2_n (X : Nat → Nat → Nat) (k : Nat) {i j : Nat} (v : Nat) (h : j ≠ i) : up2 X k i v k j = X k j := by simp [up2, h]
theorem up2_f (X : Nat → Nat → Nat) (k i v : Nat) : (fun j => nI (up2 X k i v k j)) = upd (fun j => nI (X k j)) i (nI v) := by
  funext j
  unfold upd
  by_cases h : j = i
  · subst h; simp [up2]
  · simp [up2, h]
section DR
variable {cc : ByteArray} {nL : Nat} {G : kCx} {pc : Nat} {lv st : List Value} {Y : dL} {X : Nat → Nat → Nat} {A : Nat → Prop} {i v : Nat}
theorem d_get_sizes (hd : decode cc pc = .ok (.getfield 7, 3)) (k : J cc nL RX0 G (dV G Y A X) (pc + 3) lv (.ref (Y.2.1 1) :: st)) : J cc nL RX0 G (dV G Y A X) pc lv (.ref (Y.2.1 0) :: st) := g_get in_X0 0 rfl rfl 0 (by decide) q38 rfl hd k
theorem d_get_cubes (hd : decode cc pc = .ok (.getfield 13, 3)) (k : J cc nL RX0 G (dV G Y A X) (pc + 3) lv (.ref (Y.2.1 2) :: st)) : J cc nL RX0 G (dV G Y A X) pc lv (.ref (Y.2.1 0) :: st) := g_get in_X0 0 rfl rfl 1 (by decide) q39 rfl hd k
theorem d_get_madeSize (hd : decode cc pc = .ok (.getfield 44, 3)) (k : J cc nL RX0 G (dV G Y A X) (pc + 3) lv (.int (nI (X 0 0)) :: st)) : J cc nL RX0 G (dV G Y A X) pc lv (.ref (Y.2.1 0) :: st) := g_get in_X0 0 rfl rfl 2 (by decide) q40 rfl hd k
theorem d_get_made (hd : decode cc pc = .ok (.getfield 16, 3)) (k : J cc nL RX0 G (dV G Y A X) (pc + 3) lv (.ref (Y.2.1 3) :: st)) : J cc nL RX0 G (dV G Y A X) pc lv (.ref (Y.2.1 0) :: st) := g_get in_X0 0 rfl rfl 3 (by decide) q41 rfl hd k
theorem d_get_isCokernel (hd : decode cc pc = .ok (.getfield 19, 3)) (k : J cc nL RX0 G (dV G Y A X) (pc + 3) lv (.ref (Y.2.1 4) :: st)) : J cc nL RX0 G (dV G Y A X) pc lv (.ref (Y.2.1 0) :: st) := g_get in_X0 0 rfl rfl 4 (by decide) q42 rfl hd k
theorem d_get_holders (hd : decode cc pc = .ok (.getfield 23, 3)) (k : J cc nL RX0 G (dV G Y A X) (pc + 3) lv (.ref (Y.2.1 5) :: st)) : J cc nL RX0 G (dV G Y A X) pc lv (.ref (Y.2.1 0) :: st) := g_get in_X0 0 rfl rfl 5 (by decide) q43 rfl hd k
theorem d_get_waiting (hd : decode cc pc = .ok (.getfield 91, 3)) (k : J cc nL RX0 G (dV G Y A X) (pc + 3) lv (.int (nI (X 0 1)) :: st)) : J cc nL RX0 G (dV G Y A X) pc lv (.ref (Y.2.1 0) :: st) := g_get in_X0 0 rfl rfl 6 (by decide) q44 rfl hd k
theorem d_get_waitCube (hd : decode cc pc = .ok (.getfield 27, 3)) (k : J cc nL RX0 G (dV G Y A X) (pc + 3) lv (.ref (Y.2.1 6) :: st)) : J cc nL RX0 G (dV G Y A X) pc lv (.ref (Y.2.1 0) :: st) := g_get in_X0 0 rfl rfl 7 (by decide) q45 rfl hd k
theorem d_get_waitLetter (hd : decode cc pc = .ok (.getfield 30, 3)) (k : J cc nL RX0 G (dV G Y A X) (pc + 3) lv (.ref (Y.2.1 7) :: st)) : J cc nL RX0 G (dV G Y A X) pc lv (.ref (Y.2.1 0) :: st) := g_get in_X0 0 rfl rfl 8 (by decide) q46 rfl hd k
theorem d_put_madeSize (hd : decode cc pc = .ok (.putfield 44, 3)) (k : ∀ X', X' = up2 X 0 0 v → J cc nL RX0 G (dV G Y A X') (pc + 3) lv st) : J cc nL RX0 G (dV G Y A X) pc lv (.int (nI v) :: .ref (Y.2.1 0) :: st) := g_put (ws' := dkW Y (up2 X 0 0 v)) in_X0 tyX0 tyX0_ok nmX0 0 rfl rfl 2 (by decide) q40 rfl rfl (by simp) (by simp [dkW, up2]) hd (k _ rfl)
theorem d_put_waiting (hd : decode cc pc = .ok (.putfield 91, 3)) (k : ∀ X', X' = up2 X 0 1 v → J cc nL RX0 G (dV G Y A X') (pc + 3) lv st) : J cc nL RX0 G (dV G Y A X) pc lv (.int (nI v) :: .ref (Y.2.1 0) :: st) := g_put (ws' := dkW Y (up2 X 0 1 v)) in_X0 tyX0 tyX0_ok nmX0 0 rfl rfl 6 (by decide) q44 rfl rfl (by simp) (by simp [dkW, up2]) hd (k _ rfl)
theorem d_ld_sizes (hd : decode cc pc = .ok (.baload, 1)) (hi : i < 4) (k : J cc nL RX0 G (dV G Y A X) (pc + 1) lv (.int (nI (X 1 i)) :: st)) : J cc nL RX0 G (dV G Y A X) pc lv (.int (nI i) :: .ref (Y.2.1 1) :: st) := g_bald 1 0 rfl rfl (by decide) hd hi k
theorem d_st_sizes (hd : decode cc pc = .ok (.bastore, 1)) (hi : i < 4) (hv : v < 128) (k : ∀ X', X' = up2 X 1 i v → J cc nL RX0 G (dV G Y A X') (pc + 1) lv st) : J cc nL RX0 G (dV G Y A X) pc lv (.int (nI v) :: .int (nI i) :: .ref (Y.2.1 1) :: st) := g_bast (ws' := dkW Y (up2 X 1 i v)) 1 0 rfl rfl (by decide) (by rw [← up2_f]; simp [dkW, up2]) hd hi hv (k _ rfl)
theorem d_ld_cubes (hd : decode cc pc = .ok (.baload, 1)) (hi : i < 32) (k : J cc nL RX0 G (dV G Y A X) (pc + 1) lv (.int (nI (X 2 i)) :: st)) : J cc nL RX0 G (dV G Y A X) pc lv (.int (nI i) :: .ref (Y.2.1 2) :: st) := g_bald 2 1 rfl rfl (by decide) hd hi k
theorem d_st_cubes (hd : decode cc pc = .ok (.bastore, 1)) (hi : i < 32) (hv : v < 128) (k : ∀ X', X' = up2 X 2 i v → J cc nL RX0 G (dV G Y A X') (pc + 1) lv st) : J cc nL RX0 G (dV G Y A X) pc lv (.int (nI v) :: .int (nI i) :: .ref (Y.2.1 2) :: st) := g_bast (ws' := dkW Y (up2 X 2 i v)) 2 1 rfl rfl (by decide) (by rw [← up2_f]; simp [dkW, up2]) hd hi hv (k _ rfl)
theorem d_ld_made (hd : decode cc pc = .ok (.baload, 1)) (hi : i < 8) (k : J cc nL RX0 G (dV G Y A X) (pc + 1) lv (.int (nI (X 3 i)) :: st)) : J cc nL RX0 G (dV G Y A X) pc lv (.int (nI i) :: .ref (Y.2.1 3) :: st) := g_bald 3 2 rfl rfl (by decide) hd hi k
theorem d_st_made (hd : decode cc pc = .ok (.bastore, 1)) (hi : i < 8) (hv : v < 128) (k : ∀ X', X' = up2 X 3 i v → J cc nL RX0 G (dV G Y A X') (pc + 1) lv st) : J cc nL RX0 G (dV G Y A X) pc lv (.int (nI v) :: .int (nI i) :: .ref (Y.2.1 3) :: st) := g_bast (ws' := dkW Y (up2 X 3 i v)) 3 2 rfl rfl (by decide) (by rw [← up2_f]; simp [dkW, up2]) hd hi hv (k _ rfl)
theorem d_ld_isCokernel (hd : decode cc pc = .ok (.baload, 1)) (hi : i < 128) (k : J cc nL RX0 G (dV G Y A X) (pc + 1) lv (.int (nI (X 4 i)) :: st)) : J cc nL RX0 G (dV G Y A X) pc lv (.int (nI i) :: .ref (Y.2.1 4) :: st) := g_zald 4 3 rfl rfl (by decide) hd hi k
theorem d_st_isCokernel (hd : decode cc pc = .ok (.bastore, 1)) (hi : i < 128) (hv : v < 2) (k : ∀ X', X' = up2 X 4 i v → J cc nL RX0 G (dV G Y A X') (pc + 1) lv st) : J cc nL RX0 G (dV G Y A X) pc lv (.int (nI v) :: .int (nI i) :: .ref (Y.2.1 4) :: st) := g_zast (ws' := dkW Y (up2 X 4 i v)) 4 3 rfl rfl (by decide) (by rw [← up2_f]; simp [dkW, up2]) hd hi hv (k _ rfl)
theorem d_ld_holders (hd : decode cc pc = .ok (.saload, 1)) (hi : i < 128) (k : J cc nL RX0 G (dV G Y A X) (pc + 1) lv (.int (nI (X 5 i)) :: st)) : J cc nL RX0 G (dV G Y A X) pc lv (.int (nI i) :: .ref (Y.2.1 5) :: st) := g_sald 5 4 rfl rfl (by decide) hd hi k
theorem d_st_holders (hd : decode cc pc = .ok (.sastore, 1)) (hi : i < 128) (hv : v < 256) (k : ∀ X', X' = up2 X 5 i v → J cc nL RX0 G (dV G Y A X') (pc + 1) lv st) : J cc nL RX0 G (dV G Y A X) pc lv (.int (nI v) :: .int (nI i) :: .ref (Y.2.1 5) :: st) := g_sast (ws' := dkW Y (up2 X 5 i v)) 5 4 rfl rfl (by decide) (by rw [← up2_f]; simp [dkW, up2]) hd hi hv (k _ rfl)
theorem d_ld_waitCube (hd : decode cc pc = .ok (.baload, 1)) (hi : i < 128) (k : J cc nL RX0 G (dV G Y A X) (pc + 1) lv (.int (nI (X 6 i)) :: st)) : J cc nL RX0 G (dV G Y A X) pc lv (.int (nI i) :: .ref (Y.2.1 6) :: st) := g_bald 6 5 rfl rfl (by decide) hd hi k
theorem d_st_waitCube (hd : decode cc pc = .ok (.bastore, 1)) (hi : i < 128) (hv : v < 128) (k : ∀ X', X' = up2 X 6 i v → J cc nL RX0 G (dV G Y A X') (pc + 1) lv st) : J cc nL RX0 G (dV G Y A X) pc lv (.int (nI v) :: .int (nI i) :: .ref (Y.2.1 6) :: st) := g_bast (ws' := dkW Y (up2 X 6 i v)) 6 5 rfl rfl (by decide) (by rw [← up2_f]; simp [dkW, up2]) hd hi hv (k _ rfl)
theorem d_ld_waitLetter (hd : decode cc pc = .ok (.baload, 1)) (hi : i < 128) (k : J cc nL RX0 G (dV G Y A X) (pc + 1) lv (.int (nI (X 7 i)) :: st)) : J cc nL RX0 G (dV G Y A X) pc lv (.int (nI i) :: .ref (Y.2.1 7) :: st) := g_bald 7 6 rfl rfl (by decide) hd hi k
theorem d_st_waitLetter (hd : decode cc pc = .ok (.bastore, 1)) (hi : i < 128) (hv : v < 128) (k : ∀ X', X' = up2 X 7 i v → J cc nL RX0 G (dV G Y A X') (pc + 1) lv st) : J cc nL RX0 G (dV G Y A X) pc lv (.int (nI v) :: .int (nI i) :: .ref (Y.2.1 7) :: st) := g_bast (ws' := dkW Y (up2 X 7 i v)) 7 6 rfl rfl (by decide) (by rw [← up2_f]; simp [dkW, up2]) hd hi hv (k _ rfl)
end DR
/-! the reference's world (KernelDeskModel): Z k i: array k (0: in, 1: quotient, 2: left), place i -/
def mkW (Y : dL) (Z : Nat → Nat → Bool) : va_W :=
  [(Y.2.1 0, .inr (1, [.ref (Y.2.1 1), .ref (Y.2.1 2), .ref (Y.2.1 3)])),
   (Y.2.1 1, .inl (Y.2.2 1, 512, .inl (fun j => nI (Z 0 j).toNat))), (Y.2.1 2, .inl (Y.2.2 2, 128, .inl (fun j => nI (Z 1 j).toNat))), (Y.2.1 3, .inl (Y.2.2 3, 128, .inl (fun j => nI (Z 2 j).toNat)))]
def mkT (Y : dL) : List (ClassId × FieldType) := [(Y.2.2 1, .boolean), (Y.2.2 2, .boolean), (Y.2.2 3, .boolean)]
theorem mk_fst (Y : dL) (Z Z' : Nat → Nat → Bool) : (mkW Y Z').map Prod.fst = (mkW Y Z).map Prod.fst := rfl
abbrev mV (G : kCx) (Y : dL) (A : Nat → Prop) (Z : Nat → Nat → Bool) : Heap → List Loc → Prop := gV G Y.1 (mkT Y) A (mkW Y Z)
abbrev mA (Y : dL) : Nat → Prop := adr (mkW Y (fun _ _ => false))
theorem mk_adr (Y : dL) (Z : Nat → Nat → Bool) : adr (mkW Y Z) = mA Y := by
  funext q
  exact propext ⟨fun h => adr_fst (mk_fst Y _ _) h, fun h => adr_fst (mk_fst Y _ _) h⟩
abbrev mMi (l : Launch) (y : MethodName) (cc : ByteArray) (nL : Nat) (ret : Option FieldType) (k : Nat) (Y : dL) (As : List Value) (Z : Nat → Nat → Bool) (post : Int32 → (Nat → Nat → Bool) → Prop) : Prop := gMi l y cc nL ret k Y.1 (mkT Y) (mkW Y) (.ref (Y.2.1 0) :: As) Z post
abbrev mMv (l : Launch) (y : MethodName) (cc : ByteArray) (nL : Nat) (k : Nat) (Y : dL) (As : List Value) (Z : Nat → Nat → Bool) (post : (Nat → Nat → Bool) → Prop) : Prop := gMv l y cc nL k Y.1 (mkT Y) (mkW Y) (.ref (Y.2.1 0) :: As) Z post
theorem m_ofi {l : Launch} {y : MethodName} {cc : ByteArray} {nL : Nat} {ret : Option FieldType} {k : Nat} {Y : dL} {As : List Value} {Z : Nat → Nat → Bool} {post : Int32 → (Nat → Nat → Bool) → Prop} (ty : FieldType) {own : String} (ho : y.cls = own) (hret : ret = some ty) (hy : Jvm.plainName y.cls = true) (hn : (lg_sl (.ref (Y.2.1 0) :: As)).length ≤ nL) (hc : lcat (.ref (Y.2.1 0) :: As))
    (body : ∀ G : kCx, kRm G k → (∀ (pc : Nat) (lv : List Value) (r : Int32) (Z' : Nat → Nat → Bool), decode cc pc = .ok (.ireturn, 1) → narrow ty (.int r) = .int r → post r Z' → J cc nL own G (mV G Y (mA Y) Z') pc lv [.int r]) → J cc nL own G (mV G Y (mA Y) Z) 0 (.ref (Y.2.1 0) :: As) []) : mMi l y cc nL ret k Y As Z post := by
  subst ho
  refine g_ofi hret hy hn hc ?_
  rw [mk_adr]
  exact body
theorem m_ofv {l : Launch} {y : MethodName} {cc : ByteArray} {nL : Nat} {k : Nat} {Y : dL} {As : List Value} {Z : Nat → Nat → Bool} {post : (Nat → Nat → Bool) → Prop} {own : String} (ho : y.cls = own) (hy : Jvm.plainName y.cls = true) (hn : (lg_sl (.ref (Y.2.1 0) :: As)).length ≤ nL) (hc : lcat (.ref (Y.2.1 0) :: As))
    (body : ∀ G : kCx, kRm G k → (∀ (pc : Nat) (lv : List Value) (Z' : Nat → Nat → Bool), decode cc pc = .ok (.return_, 1) → post Z' → J cc nL own G (mV G Y (mA Y) Z') pc lv []) → J cc nL own G (mV G Y (mA Y) Z) 0 (.ref (Y.2.1 0) :: As) []) : mMv l y cc nL k Y As Z post := by
  subst ho
  refine g_ofv hy hn hc ?_
  rw [mk_adr]
  exact body
section MC
variable {cc : ByteArray} {nL : Nat} {own : String} {G : kCx} {pc : Nat} {lv st st0 : List Value} {y : MethodName} {bytes : ByteArray} {maxL : Nat} {ret : Option FieldType} {k k' idx : Nat} {Y : dL} {As : List Value} {Z : Nat → Nat → Bool} {A : Nat → Prop}
theorem m_calli {post : Int32 → (Nat → Nat → Bool) → Prop} (hM : mMi (kl G) y bytes maxL ret k' Y As Z post) (hG : kRm G k) (hk : k' + 1 ≤ k ∧ 8 + (maxL + 11) + 30 * k' ≤ 30 * k) (hd : decode cc pc = .ok (.invokevirtual idx, 3)) (hg : cpV own idx RX1 y bytes maxL ret As.length) (hst : (st.map fun v => v.category).sum ≤ 8) (hs0 : st0 = As.reverse ++ .ref (Y.2.1 0) :: st)
    (kk : ∀ (r : Int32) (Z' : Nat → Nat → Bool), post r Z' → J cc nL own G (mV G Y A Z') (pc + 3) lv (.int r :: st)) : J cc nL own G (mV G Y A Z) pc lv st0 :=
  g_callVi (l1 := []) (l2 := []) (ws' := mkW Y) hM hd hg.1 hg.2 (k_room hG hk).1 (k_room hG hk).2 hst hs0 (fun Z' => mk_fst Y Z Z') (by simp) (fun Z' => by simp) (fun q h => h) (q0 := 0) (ci := 1) rfl rfl rfl kk
theorem m_callv {post : (Nat → Nat → Bool) → Prop} (hM : mMv (kl G) y bytes maxL k' Y As Z post) (hG : kRm G k) (hk : k' + 1 ≤ k ∧ 8 + (maxL + 11) + 30 * k' ≤ 30 * k) (hd : decode cc pc = .ok (.invokevirtual idx, 3)) (hg : cpV own idx RX1 y bytes maxL none As.length) (hst : (st.map fun v => v.category).sum ≤ 8) (hs0 : st0 = As.reverse ++ .ref (Y.2.1 0) :: st)
    (kk : ∀ (Z' : Nat → Nat → Bool), post Z' → J cc nL own G (mV G Y A Z') (pc + 3) lv st) : J cc nL own G (mV G Y A Z) pc lv st0 :=
  g_callVv (l1 := []) (l2 := []) (ws' := mkW Y) hM hd hg.1 hg.2 (k_room hG hk).1 (k_room hG hk).2 hst hs0 (fun Z' => mk_fst Y Z Z') (by simp) (fun Z' => by simp) (fun q h => h) (q0 := 0) (ci := 1) rfl rfl rfl kk
end MC
def upb (Z : Nat → Nat → Bool) (k i : Nat) (v : Bool) : Nat → Nat → Bool := fun k' j => if k' = k ∧ j = i then v else Z k' j
theorem upb_s (Z : Nat → Nat → Bool) (k i : Nat) (v : Bool) : upb Z k i v k i = v := by simp [upb]
theorem upb_k (Z : Nat → Nat → Bool) {k k' : Nat} (i : Nat) (v : Bool) (h : k' ≠ k) : upb Z k i v k' = Z k' := by funext j; simp [upb, h]
theorem upb_n (Z : Nat → Nat → Bool) (k : Nat) {i j : Nat} (v : Bool) (h : j ≠ i) : upb Z k i v k j = Z k j := by simp [upb, h]
theorem upb_f (Z : Nat → Nat → Bool) (k i : Nat) (v : Bool) : (fun j => nI (upb Z k i v k j).toNat) = upd (fun j => nI (Z k j).toNat) i (nI v.toNat) := by
  funext j
  unfold upd
  by_cases h : j = i
  · subst h; simp [upb]
  · simp [upb, h]
theorem b2_lt (b : Bool) : b.toNat < 2 := by cases b <;> decide
section MR
variable {cc : ByteArray} {nL : Nat} {G : kCx} {pc : Nat} {lv st : List Value} {Y : dL} {Z : Nat → Nat → Bool} {A : Nat → Prop} {i : Nat} {v : Bool}
theorem m_get_in (hd : decode cc pc = .ok (.getfield 7, 3)) (k : J cc nL RX1 G (mV G Y A Z) (pc + 3) lv (.ref (Y.2.1 1) :: st)) : J cc nL RX1 G (mV G Y A Z) pc lv (.ref (Y.2.1 0) :: st) := g_get in_X1 0 rfl rfl 0 (by decide) q216 rfl hd k
theorem m_ld_in (hd : decode cc pc = .ok (.baload, 1)) (hi : i < 512) (k : J cc nL RX1 G (mV G Y A Z) (pc + 1) lv (.int (nI (Z 0 i).toNat) :: st)) : J cc nL RX1 G (mV G Y A Z) pc lv (.int (nI i) :: .ref (Y.2.1 1) :: st) := g_zald 1 0 rfl rfl (by decide) hd hi k
theorem m_st_in (hd : decode cc pc = .ok (.bastore, 1)) (hi : i < 512) (k : ∀ Z', Z' = upb Z 0 i v → J cc nL RX1 G (mV G Y A Z') (pc + 1) lv st) : J cc nL RX1 G (mV G Y A Z) pc lv (.int (nI v.toNat) :: .int (nI i) :: .ref (Y.2.1 1) :: st) := g_zast (ws' := mkW Y (upb Z 0 i v)) 1 0 rfl rfl (by decide) (by rw [← upb_f]; simp [mkW, upb]) hd hi (b2_lt v) (k _ rfl)
theorem m_get_quotient (hd : decode cc pc = .ok (.getfield 13, 3)) (k : J cc nL RX1 G (mV G Y A Z) (pc + 3) lv (.ref (Y.2.1 2) :: st)) : J cc nL RX1 G (mV G Y A Z) pc lv (.ref (Y.2.1 0) :: st) := g_get in_X1 0 rfl rfl 1 (by decide) q217 rfl hd k
theorem m_ld_quotient (hd : decode cc pc = .ok (.baload, 1)) (hi : i < 128) (k : J cc nL RX1 G (mV G Y A Z) (pc + 1) lv (.int (nI (Z 1 i).toNat) :: st)) : J cc nL RX1 G (mV G Y A Z) pc lv (.int (nI i) :: .ref (Y.2.1 2) :: st) := g_zald 2 1 rfl rfl (by decide) hd hi k
theorem m_st_quotient (hd : decode cc pc = .ok (.bastore, 1)) (hi : i < 128) (k : ∀ Z', Z' = upb Z 1 i v → J cc nL RX1 G (mV G Y A Z') (pc + 1) lv st) : J cc nL RX1 G (mV G Y A Z) pc lv (.int (nI v.toNat) :: .int (nI i) :: .ref (Y.2.1 2) :: st) := g_zast (ws' := mkW Y (upb Z 1 i v)) 2 1 rfl rfl (by decide) (by rw [← upb_f]; simp [mkW, upb]) hd hi (b2_lt v) (k _ rfl)
theorem m_get_left (hd : decode cc pc = .ok (.getfield 16, 3)) (k : J cc nL RX1 G (mV G Y A Z) (pc + 3) lv (.ref (Y.2.1 3) :: st)) : J cc nL RX1 G (mV G Y A Z) pc lv (.ref (Y.2.1 0) :: st) := g_get in_X1 0 rfl rfl 2 (by decide) q218 rfl hd k
theorem m_ld_left (hd : decode cc pc = .ok (.baload, 1)) (hi : i < 128) (k : J cc nL RX1 G (mV G Y A Z) (pc + 1) lv (.int (nI (Z 2 i).toNat) :: st)) : J cc nL RX1 G (mV G Y A Z) pc lv (.int (nI i) :: .ref (Y.2.1 3) :: st) := g_zald 3 2 rfl rfl (by decide) hd hi k
theorem m_st_left (hd : decode cc pc = .ok (.bastore, 1)) (hi : i < 128) (k : ∀ Z', Z' = upb Z 2 i v → J cc nL RX1 G (mV G Y A Z') (pc + 1) lv st) : J cc nL RX1 G (mV G Y A Z) pc lv (.int (nI v.toNat) :: .int (nI i) :: .ref (Y.2.1 3) :: st) := g_zast (ws' := mkW Y (upb Z 2 i v)) 3 2 rfl rfl (by decide) (by rw [← upb_f]; simp [mkW, upb]) hd hi (b2_lt v) (k _ rfl)
end MR
end
section
/-! calls: the words of each, and its name -/
set_option maxRecDepth 100000
theorem cpD_X0_isExpression : cpS RX0 33 yX0_isExpression cX0_isExpression 1 (some .boolean) 1 := ⟨lw_S q73 q74 q28 q75, by decide +kernel⟩
theorem cpD_X0_isCube : cpS RX0 37 yX0_isCube cX0_isCube 1 (some .boolean) 1 := ⟨lw_S q76 q77 q28 q78, by decide +kernel⟩
theorem cpD_X0_find : cpV RX0 40 RX0 yX0_find cX0_find 4 (some .int) 2 := ⟨lw_V q79 q81 qs0 q28 q82, by decide +kernel⟩
theorem cpD_X0_quotientBy : cpV RX0 52 RX0 yX0_quotientBy cX0_quotientBy 5 none 2 := ⟨lw_V q103 q105 qs1 q28 q106, by decide +kernel⟩
theorem cpD_X0_store : cpV RX0 56 RX0 yX0_store cX0_store 3 (some .int) 1 := ⟨lw_V q107 q109 qs2 q28 q110, by decide +kernel⟩
theorem cpD_X0_put : cpV RX0 48 RX0 yX0_put cX0_put 4 (some .boolean) 2 := ⟨lw_V q111 q70 q71 q28 q72, by decide +kernel⟩
theorem cpD_X0_canDivide : cpV RX0 60 RX0 yX0_canDivide cX0_canDivide 3 (some .boolean) 2 := ⟨lw_V q116 q118 qs3 q28 q119, by decide +kernel⟩
theorem cpD_X0_quotient : cpV RX0 63 RX0 yX0_quotient cX0_quotient 10 none 2 := ⟨lw_V q120 q122 qs4 q28 q123, by decide +kernel⟩
theorem cpD_X0_remainder : cpV RX0 75 RX0 yX0_remainder cX0_remainder 5 none 2 := ⟨lw_V q128 q130 qs5 q28 q131, by decide +kernel⟩
theorem cpD_X0_isProduct : cpV RX0 69 RX0 yX0_isProduct cX0_isProduct 5 (some .boolean) 2 := ⟨lw_V q132 q134 qs6 q28 q135, by decide +kernel⟩
theorem cpD_X0_isMade : cpV RX0 66 RX0 yX0_isMade cX0_isMade 3 (some .boolean) 1 := ⟨lw_V q136 q138 qs7 q28 q139, by decide +kernel⟩
theorem cpD_X0_in : cpS RX0 72 yX0_in cX0_in 2 (some .boolean) 2 := ⟨lw_S q140 q141 q28 q142, by decide +kernel⟩
theorem cpD_X0_commonAt : cpV RX0 78 RX0 yX0_commonAt cX0_commonAt 5 (some .int) 2 := ⟨lw_V q147 q149 qs8 q28 q150, by decide +kernel⟩
theorem cpD_X0_explore : cpV RX0 81 RX0 yX0_explore cX0_explore 7 none 1 := ⟨lw_V q159 q161 qs9 q28 q162, by decide +kernel⟩
theorem cpD_X0_defer : cpV RX0 94 RX0 yX0_defer cX0_defer 3 none 2 := ⟨lw_V q163 q165 qs10 q28 q166, by decide +kernel⟩
theorem cpD_X0_placesOf : cpV RX0 97 RX0 yX0_placesOf cX0_placesOf 5 (some .int) 2 := ⟨lw_V q167 q169 qs11 q28 q170, by decide +kernel⟩
theorem cpD_X0_goOn : cpV RX0 100 RX0 yX0_goOn cX0_goOn 8 none 4 := ⟨lw_V q171 q173 qs12 q28 q174, by decide +kernel⟩
theorem cpD_X0_ones : cpS RX0 88 yX0_ones cX0_ones 3 (some .int) 1 := ⟨lw_S q175 q176 q28 q177, by decide +kernel⟩
theorem cpD_X0_isFirst : cpV RX0 85 RX0 yX0_isFirst cX0_isFirst 4 (some .boolean) 2 := ⟨lw_V q178 q180 qs13 q28 q181, by decide +kernel⟩
theorem cpD_X0_sameKernel : cpV RX0 104 RX0 yX0_sameKernel cX0_sameKernel 9 (some .boolean) 3 := ⟨lw_V q182 q184 qs14 q28 q185, by decide +kernel⟩
theorem cpD_X0_madeLetters : cpV RX0 108 RX0 yX0_madeLetters cX0_madeLetters 3 (some .int) 0 := ⟨lw_V q202 q204 qs15 q28 q205, by decide +kernel⟩
theorem cpD_X0_lettersOf : cpV RX0 112 RX0 yX0_lettersOf cX0_lettersOf 4 (some .int) 1 := ⟨lw_V q206 q208 qs16 q28 q209, by decide +kernel⟩
theorem cpM_X1_expression : cpV RX1 19 RX1 yX1_expression cX1_expression 2 (some .boolean) 1 := ⟨lw_V q230 q232 qs17 q29 q233, by decide +kernel⟩
theorem cpM_X1_isCube : cpV RX1 23 RX1 yX1_isCube cX1_isCube 2 (some .boolean) 1 := ⟨lw_V q234 q236 qs18 q29 q237, by decide +kernel⟩
theorem cpM_X1_many : cpV RX1 26 RX1 yX1_many cX1_many 4 (some .int) 1 := ⟨lw_V q238 q240 qs19 q29 q241, by decide +kernel⟩
theorem cpM_X1_quotientHas : cpV RX1 30 RX1 yX1_quotientHas cX1_quotientHas 4 (some .boolean) 3 := ⟨lw_V q262 q264 qs20 q29 q265, by decide +kernel⟩
theorem cpM_X1_store : cpV RX1 34 RX1 yX1_store cX1_store 4 none 2 := ⟨lw_V q266 q268 qs21 q29 q269, by decide +kernel⟩
theorem cpM_X1_divides : cpV RX1 38 RX1 yX1_divides cX1_divides 3 (some .boolean) 2 := ⟨lw_V q274 q276 qs22 q29 q277, by decide +kernel⟩
theorem cpM_X1_work : cpV RX1 42 RX1 yX1_work cX1_work 5 none 2 := ⟨lw_V q278 q280 qs23 q29 q281, by decide +kernel⟩
theorem cpM_X1_freeBy : cpV RX1 46 RX1 yX1_freeBy cX1_freeBy 7 (some .boolean) 2 := ⟨lw_V q294 q296 qs24 q29 q297, by decide +kernel⟩
theorem cpM_X1_same : cpV RX1 49 RX1 yX1_same cX1_same 6 (some .boolean) 3 := ⟨lw_V q302 q304 qs25 q29 q305, by decide +kernel⟩
theorem cpM_X1_letters : cpV RX1 52 RX1 yX1_letters cX1_letters 4 (some .int) 1 := ⟨lw_V q322 q324 qs26 q29 q325, by decide +kernel⟩
theorem cpL_X0_put : cpV "KernelDeskLaw" 13 RX0 yX0_put cX0_put 4 (some .boolean) 2 := ⟨lw_V q69 q70 q71 q28 q72, by decide +kernel⟩
theorem cpL_X0_take : cpV "KernelDeskLaw" 18 RX0 yX0_take cX0_take 5 (some .boolean) 2 := ⟨lw_V q83 q84 q85 q28 q86, by decide +kernel⟩
theorem cpL_X0_clear : cpV "KernelDeskLaw" 22 RX0 yX0_clear cX0_clear 2 (some .boolean) 1 := ⟨lw_V q87 q88 q89 q28 q90, by decide +kernel⟩
theorem cpL_X0_size : cpV "KernelDeskLaw" 27 RX0 yX0_size cX0_size 2 (some .int) 1 := ⟨lw_V q91 q92 q93 q28 q94, by decide +kernel⟩
theorem cpL_X0_cube : cpV "KernelDeskLaw" 32 RX0 yX0_cube cX0_cube 3 (some .int) 2 := ⟨lw_V q95 q96 q97 q28 q98, by decide +kernel⟩
theorem cpL_X0_divideBy : cpV "KernelDeskLaw" 37 RX0 yX0_divideBy cX0_divideBy 4 (some .int) 3 := ⟨lw_V q99 q100 q101 q28 q102, by decide +kernel⟩
theorem cpL_X0_divide : cpV "KernelDeskLaw" 42 RX0 yX0_divide cX0_divide 4 (some .int) 3 := ⟨lw_V q112 q113 q114 q28 q115, by decide +kernel⟩
theorem cpL_X0_rest : cpV "KernelDeskLaw" 46 RX0 yX0_rest cX0_rest 4 (some .int) 3 := ⟨lw_V q124 q125 q126 q28 q127, by decide +kernel⟩
theorem cpL_X0_common : cpV "KernelDeskLaw" 50 RX0 yX0_common cX0_common 2 (some .int) 1 := ⟨lw_V q143 q144 q145 q28 q146, by decide +kernel⟩
theorem cpL_X0_free : cpV "KernelDeskLaw" 54 RX0 yX0_free cX0_free 2 (some .boolean) 1 := ⟨lw_V q151 q152 q153 q28 q154, by decide +kernel⟩
theorem cpL_X0_kernels : cpV "KernelDeskLaw" 58 RX0 yX0_kernels cX0_kernels 4 (some .int) 1 := ⟨lw_V q155 q156 q157 q28 q158, by decide +kernel⟩
theorem cpL_X0_cokernels : cpV "KernelDeskLaw" 62 RX0 yX0_cokernels cX0_cokernels 4 (some .int) 1 := ⟨lw_V q186 q187 q188 q28 q189, by decide +kernel⟩
theorem cpL_X0_nextCokernel : cpV "KernelDeskLaw" 66 RX0 yX0_nextCokernel cX0_nextCokernel 4 (some .int) 2 := ⟨lw_V q190 q191 q192 q28 q193, by decide +kernel⟩
theorem cpL_X0_holding : cpV "KernelDeskLaw" 70 RX0 yX0_holding cX0_holding 3 (some .int) 2 := ⟨lw_V q194 q195 q196 q28 q197, by decide +kernel⟩
theorem cpL_X0_saving : cpV "KernelDeskLaw" 74 RX0 yX0_saving cX0_saving 4 (some .int) 2 := ⟨lw_V q198 q199 q200 q28 q201, by decide +kernel⟩
theorem cpL_X1_put : cpV "KernelDeskLaw" 17 RX1 yX1_put cX1_put 3 (some .boolean) 2 := ⟨lw_V q226 q227 q228 q29 q229, by decide +kernel⟩
theorem cpL_X1_take : cpV "KernelDeskLaw" 21 RX1 yX1_take cX1_take 3 (some .boolean) 2 := ⟨lw_V q242 q243 q244 q29 q245, by decide +kernel⟩
theorem cpL_X1_clear : cpV "KernelDeskLaw" 26 RX1 yX1_clear cX1_clear 3 (some .boolean) 1 := ⟨lw_V q246 q247 q248 q29 q249, by decide +kernel⟩
theorem cpL_X1_size : cpV "KernelDeskLaw" 31 RX1 yX1_size cX1_size 2 (some .int) 1 := ⟨lw_V q250 q251 q252 q29 q253, by decide +kernel⟩
theorem cpL_X1_cube : cpV "KernelDeskLaw" 36 RX1 yX1_cube cX1_cube 5 (some .int) 2 := ⟨lw_V q254 q255 q256 q29 q257, by decide +kernel⟩
theorem cpL_X1_divideBy : cpV "KernelDeskLaw" 41 RX1 yX1_divideBy cX1_divideBy 5 (some .int) 3 := ⟨lw_V q258 q259 q260 q29 q261, by decide +kernel⟩
theorem cpL_X1_divide : cpV "KernelDeskLaw" 45 RX1 yX1_divide cX1_divide 4 (some .int) 3 := ⟨lw_V q270 q271 q272 q29 q273, by decide +kernel⟩
theorem cpL_X1_rest : cpV "KernelDeskLaw" 49 RX1 yX1_rest cX1_rest 4 (some .int) 3 := ⟨lw_V q282 q283 q284 q29 q285, by decide +kernel⟩
theorem cpL_X1_common : cpV "KernelDeskLaw" 53 RX1 yX1_common cX1_common 4 (some .int) 1 := ⟨lw_V q286 q287 q288 q29 q289, by decide +kernel⟩
theorem cpL_X1_free : cpV "KernelDeskLaw" 57 RX1 yX1_free cX1_free 2 (some .boolean) 1 := ⟨lw_V q290 q291 q292 q29 q293, by decide +kernel⟩
theorem cpL_X1_kernels : cpV "KernelDeskLaw" 61 RX1 yX1_kernels cX1_kernels 6 (some .int) 1 := ⟨lw_V q298 q299 q300 q29 q301, by decide +kernel⟩
theorem cpL_X1_cokernels : cpV "KernelDeskLaw" 65 RX1 yX1_cokernels cX1_cokernels 4 (some .int) 1 := ⟨lw_V q306 q307 q308 q29 q309, by decide +kernel⟩
theorem cpL_X1_nextCokernel : cpV "KernelDeskLaw" 69 RX1 yX1_nextCokernel cX1_nextCokernel 4 (some .int) 2 := ⟨lw_V q310 q311 q312 q29 q313, by decide +kernel⟩
theorem cpL_X1_holding : cpV "KernelDeskLaw" 73 RX1 yX1_holding cX1_holding 6 (some .int) 2 := ⟨lw_V q314 q315 q316 q29 q317, by decide +kernel⟩
theorem cpL_X1_saving : cpV "KernelDeskLaw" 77 RX1 yX1_saving cX1_saving 6 (some .int) 2 := ⟨lw_V q318 q319 q320 q29 q321, by decide +kernel⟩
end
section
/-! the desk: static methods, find, isMade, .. -/
theorem rg_neg {x : Int32} {N : Nat} (hN : N ≤ 2147483648) (h : x < 0) : ∀ k, k < N → x ≠ nI k := by
  intro k hk q
  subst q
  exact nI_pos (by omega) h
theorem rg_hi {x : Int32} {N : Nat} (hN : N < 2147483648) (h : nI N ≤ x) : ∀ k, k < N → x ≠ nI k := by
  intro k hk q
  subst q
  exact nI_ge hk hN h
theorem rg_gt {x : Int32} {N : Nat} (hN : N + 1 < 2147483648) (h : nI N < x) : ∀ k, k < N + 1 → x ≠ nI k := by
  intro k hk q
  subst q
  exact nI_nlt (show k ≤ N by omega) (by omega) h
theorem rg_in {x : Int32} {N : Nat} (hN : N < 2147483648) (h : ¬ x < 0) (h2 : ¬ nI N ≤ x) : ∃ k, k < N ∧ x = nI k := by
  rcases pk_ix x (show N < 2 ^ 31 by omega) with q | q | q
  · exact absurd q h
  · exact absurd q h2
  · exact q
theorem rg_inl {x : Int32} {N : Nat} (hN : N + 1 < 2147483648) (h : ¬ x < 0) (h2 : ¬ nI N < x) : ∃ k, k < N + 1 ∧ x = nI k := by
  rcases pk_ix x (show N + 1 < 2 ^ 31 by omega) with q | q | q
  · exact absurd q h
  · exact absurd (Int32.lt_of_lt_of_le (nI_lt (show N < N + 1 by omega) (by omega)) q) h2
  · exact q
/-- of the first i bits of a, how many are set -/
def pop (a : Nat) : Nat → Nat
  | 0 => 0
  | i + 1 => pop a i + (a.testBit i).toNat
theorem pop_le (a : Nat) : ∀ i, pop a i ≤ i
  | 0 => Nat.le_refl _
  | i + 1 => by
    have := pop_le a i
    have := b2_lt (a.testBit i)
    unfold pop
    omega

theorem dX0_isExpression_0 : decode cX0_isExpression 0 = .ok (.iload_n 0, 1) := by decide +kernel
theorem dX0_isExpression_1 : decode cX0_isExpression 1 = .ok (.ifCond .lt 12, 3) := by decide +kernel
theorem dX0_isExpression_4 : decode cX0_isExpression 4 = .ok (.iload_n 0, 1) := by decide +kernel
theorem dX0_isExpression_5 : decode cX0_isExpression 5 = .ok (.iconst 4, 1) := by decide +kernel
theorem dX0_isExpression_6 : decode cX0_isExpression 6 = .ok (.if_icmp .ge 7, 3) := by decide +kernel
theorem dX0_isExpression_9 : decode cX0_isExpression 9 = .ok (.iconst 1, 1) := by decide +kernel
theorem dX0_isExpression_10 : decode cX0_isExpression 10 = .ok (.goto 4, 3) := by decide +kernel
theorem dX0_isExpression_13 : decode cX0_isExpression 13 = .ok (.iconst 0, 1) := by decide +kernel
theorem dX0_isExpression_14 : decode cX0_isExpression 14 = .ok (.ireturn, 1) := by decide +kernel
set_option maxRecDepth 100000 in
set_option maxHeartbeats 4000000 in
theorem met_isExpression (l : Launch) (D : va_G) (x : Int32) : sMi l yX0_isExpression cX0_isExpression 1 (some .boolean) 1 D [.int x] (fun r _ => (r = nI 1 ∧ ∃ k, k < 4 ∧ x = nI k) ∨ (r = nI 0 ∧ ∀ k, k < 4 → x ≠ nI k)) := by
  refine s_ofi .boolean (own := RX0) rfl rfl (by decide) (Nat.le_of_ble_eq_true rfl) (by simp [lcat, Value.category]) ?_
  intro G hG ret
  refine j_iload_n (pc := 0) (i := 0) dX0_isExpression_0 rfl rfl ?_
  refine j_if_lt (pc := 1) (tgt := 13) dX0_isExpression_1 (by decide) (fun h1 => ?_) (fun h1 => ?_)
  · skip
    have hbad := rg_neg (N := 4) (by decide) h1
    refine j_iconst (pc := 13) (v := nI 0) dX0_isExpression_13 (by decide) ?_
    exact ret _ _ _ dX0_isExpression_14 rfl (Or.inr ⟨rfl, hbad⟩)
  · skip
    have hneg := h1
    refine j_iload_n (pc := 4) (i := 0) dX0_isExpression_4 rfl rfl ?_
    refine j_iconst (pc := 5) (v := nI 4) dX0_isExpression_5 (by decide) ?_
    refine j_icmp_ge (pc := 6) (tgt := 13) dX0_isExpression_6 (by decide) (fun h6 => ?_) (fun h6 => ?_)
    · skip
      have hbad := rg_hi (N := 4) (by decide) h6
      refine j_iconst (pc := 13) (v := nI 0) dX0_isExpression_13 (by decide) ?_
      exact ret _ _ _ dX0_isExpression_14 rfl (Or.inr ⟨rfl, hbad⟩)
    · skip
      have hhi := h6
      refine j_iconst (pc := 9) (v := nI 1) dX0_isExpression_9 (by decide) ?_
      refine j_goto (pc := 10) (tgt := 14) dX0_isExpression_10 (by decide) ?_
      exact ret _ _ _ dX0_isExpression_14 rfl (Or.inl ⟨rfl, rg_in (by decide) hneg hhi⟩)

theorem dX0_isCube_0 : decode cX0_isCube 0 = .ok (.iload_n 0, 1) := by decide +kernel
theorem dX0_isCube_1 : decode cX0_isCube 1 = .ok (.ifCond .lt 14, 3) := by decide +kernel
theorem dX0_isCube_4 : decode cX0_isCube 4 = .ok (.iload_n 0, 1) := by decide +kernel
theorem dX0_isCube_5 : decode cX0_isCube 5 = .ok (.sipush 128, 3) := by decide +kernel
theorem dX0_isCube_8 : decode cX0_isCube 8 = .ok (.if_icmp .ge 7, 3) := by decide +kernel
theorem dX0_isCube_11 : decode cX0_isCube 11 = .ok (.iconst 1, 1) := by decide +kernel
theorem dX0_isCube_12 : decode cX0_isCube 12 = .ok (.goto 4, 3) := by decide +kernel
theorem dX0_isCube_15 : decode cX0_isCube 15 = .ok (.iconst 0, 1) := by decide +kernel
theorem dX0_isCube_16 : decode cX0_isCube 16 = .ok (.ireturn, 1) := by decide +kernel
set_option maxRecDepth 100000 in
set_option maxHeartbeats 4000000 in
theorem met_isCube (l : Launch) (D : va_G) (x : Int32) : sMi l yX0_isCube cX0_isCube 1 (some .boolean) 1 D [.int x] (fun r _ => (r = nI 1 ∧ ∃ k, k < 128 ∧ x = nI k) ∨ (r = nI 0 ∧ ∀ k, k < 128 → x ≠ nI k)) := by
  refine s_ofi .boolean (own := RX0) rfl rfl (by decide) (Nat.le_of_ble_eq_true rfl) (by simp [lcat, Value.category]) ?_
  intro G hG ret
  refine j_iload_n (pc := 0) (i := 0) dX0_isCube_0 rfl rfl ?_
  refine j_if_lt (pc := 1) (tgt := 15) dX0_isCube_1 (by decide) (fun h1 => ?_) (fun h1 => ?_)
  · skip
    have hbad := rg_neg (N := 128) (by decide) h1
    refine j_iconst (pc := 15) (v := nI 0) dX0_isCube_15 (by decide) ?_
    exact ret _ _ _ dX0_isCube_16 rfl (Or.inr ⟨rfl, hbad⟩)
  · skip
    have hneg := h1
    refine j_iload_n (pc := 4) (i := 0) dX0_isCube_4 rfl rfl ?_
    refine j_sipush (pc := 5) (v := nI 128) dX0_isCube_5 (by decide) ?_
    refine j_icmp_ge (pc := 8) (tgt := 15) dX0_isCube_8 (by decide) (fun h8 => ?_) (fun h8 => ?_)
    · skip
      have hbad := rg_hi (N := 128) (by decide) h8
      refine j_iconst (pc := 15) (v := nI 0) dX0_isCube_15 (by decide) ?_
      exact ret _ _ _ dX0_isCube_16 rfl (Or.inr ⟨rfl, hbad⟩)
    · skip
      have hhi := h8
      refine j_iconst (pc := 11) (v := nI 1) dX0_isCube_11 (by decide) ?_
      refine j_goto (pc := 12) (tgt := 16) dX0_isCube_12 (by decide) ?_
      exact ret _ _ _ dX0_isCube_16 rfl (Or.inl ⟨rfl, rg_in (by decide) hneg hhi⟩)

theorem dX0_in_0 : decode cX0_in 0 = .ok (.iload_n 0, 1) := by decide +kernel
theorem dX0_in_1 : decode cX0_in 1 = .ok (.iload_n 1, 1) := by decide +kernel
theorem dX0_in_2 : decode cX0_in 2 = .ok (.ishr, 1) := by decide +kernel
theorem dX0_in_3 : decode cX0_in 3 = .ok (.iconst 1, 1) := by decide +kernel
theorem dX0_in_4 : decode cX0_in 4 = .ok (.iand, 1) := by decide +kernel
theorem dX0_in_5 : decode cX0_in 5 = .ok (.ifCond .eq 7, 3) := by decide +kernel
theorem dX0_in_8 : decode cX0_in 8 = .ok (.iconst 1, 1) := by decide +kernel
theorem dX0_in_9 : decode cX0_in 9 = .ok (.goto 4, 3) := by decide +kernel
theorem dX0_in_12 : decode cX0_in 12 = .ok (.iconst 0, 1) := by decide +kernel
theorem dX0_in_13 : decode cX0_in 13 = .ok (.ireturn, 1) := by decide +kernel
set_option maxRecDepth 100000 in
set_option maxHeartbeats 4000000 in
theorem met_in (l : Launch) (D : va_G) (a i : Nat) (ha : a < 2147483648) (hi : i < 31) : sMi l yX0_in cX0_in 2 (some .boolean) 1 D [.int (nI a), .int (nI i)] (fun r _ => r = nI (a.testBit i).toNat) := by
  refine s_ofi .boolean (own := RX0) rfl rfl (by decide) (Nat.le_of_ble_eq_true rfl) (by simp [lcat, Value.category]) ?_
  intro G hG ret
  refine j_iload_n (pc := 0) (i := 0) dX0_in_0 rfl rfl ?_
  refine j_iload_n (pc := 1) (i := 1) dX0_in_1 rfl rfl ?_
  refine n_ishr (pc := 2) dX0_in_2 (by omega) ?_
  refine j_iconst (pc := 3) (v := nI 1) dX0_in_3 (by decide) ?_
  refine n_iand (pc := 4) dX0_in_4 ?_
  refine n_if_eq (pc := 5) (tgt := 12) dX0_in_5 (by decide) (Nat.lt_of_le_of_lt Nat.and_le_right (by decide)) (fun h5 => ?_) (fun h5 => ?_)
  · skip
    refine j_iconst (pc := 12) (v := nI 0) dX0_in_12 (by decide) ?_
    have hb := nn_bit a i
    rw [Nat.and_one_is_mod, hb] at h5
    exact ret _ _ _ dX0_in_13 rfl (by cases hq : a.testBit i <;> simp_all)
  · skip
    refine j_iconst (pc := 8) (v := nI 1) dX0_in_8 (by decide) ?_
    refine j_goto (pc := 9) (tgt := 13) dX0_in_9 (by decide) ?_
    have hb := nn_bit a i
    rw [Nat.and_one_is_mod, hb] at h5
    exact ret _ _ _ dX0_in_13 rfl (by cases hq : a.testBit i <;> simp_all)

theorem dX0_ones_0 : decode cX0_ones 0 = .ok (.iconst 0, 1) := by decide +kernel
theorem dX0_ones_1 : decode cX0_ones 1 = .ok (.istore_n 1, 1) := by decide +kernel
theorem dX0_ones_2 : decode cX0_ones 2 = .ok (.iconst 0, 1) := by decide +kernel
theorem dX0_ones_3 : decode cX0_ones 3 = .ok (.istore_n 2, 1) := by decide +kernel
theorem dX0_ones_4 : decode cX0_ones 4 = .ok (.iload_n 2, 1) := by decide +kernel
theorem dX0_ones_5 : decode cX0_ones 5 = .ok (.bipush 8, 2) := by decide +kernel
theorem dX0_ones_7 : decode cX0_ones 7 = .ok (.if_icmp .ge 17, 3) := by decide +kernel
theorem dX0_ones_10 : decode cX0_ones 10 = .ok (.iload_n 1, 1) := by decide +kernel
theorem dX0_ones_11 : decode cX0_ones 11 = .ok (.iload_n 0, 1) := by decide +kernel
theorem dX0_ones_12 : decode cX0_ones 12 = .ok (.iload_n 2, 1) := by decide +kernel
theorem dX0_ones_13 : decode cX0_ones 13 = .ok (.ishr, 1) := by decide +kernel
theorem dX0_ones_14 : decode cX0_ones 14 = .ok (.iconst 1, 1) := by decide +kernel
theorem dX0_ones_15 : decode cX0_ones 15 = .ok (.iand, 1) := by decide +kernel
theorem dX0_ones_16 : decode cX0_ones 16 = .ok (.iadd, 1) := by decide +kernel
theorem dX0_ones_17 : decode cX0_ones 17 = .ok (.istore_n 1, 1) := by decide +kernel
theorem dX0_ones_18 : decode cX0_ones 18 = .ok (.iinc 2 1, 3) := by decide +kernel
theorem dX0_ones_21 : decode cX0_ones 21 = .ok (.goto (-17), 3) := by decide +kernel
theorem dX0_ones_24 : decode cX0_ones 24 = .ok (.iload_n 1, 1) := by decide +kernel
theorem dX0_ones_25 : decode cX0_ones 25 = .ok (.ireturn, 1) := by decide +kernel
set_option maxRecDepth 100000 in
set_option maxHeartbeats 4000000 in
theorem met_ones (l : Launch) (D : va_G) (a : Nat) (ha : a < 2147483648) : sMi l yX0_ones cX0_ones 3 (some .int) 1 D [.int (nI a)] (fun r _ => r = nI (pop a 8)) := by
  refine s_ofi .int (own := RX0) rfl rfl (by decide) (Nat.le_of_ble_eq_true rfl) (by simp [lcat, Value.category]) ?_
  intro G hG ret
  have loop : ∀ i, i ≤ 8 → J cX0_ones 3 RX0 G (gV G D [] (adr []) []) 4 [.int (nI a), .int (nI (pop a i)), .int (nI i)] [] := by
    refine up_loop _ 8 ?_ (fun i hi ih => ?_)
    · skip
      refine j_iload_n (pc := 4) (i := 2) dX0_ones_4 rfl rfl ?_
      refine j_bipush (pc := 5) (v := nI 8) dX0_ones_5 (by decide) ?_
      refine n_icmp_ge (pc := 7) (tgt := 24) dX0_ones_7 (by decide) (by omega) (fun h7 => ?_) (fun h7 => ?_)
      · skip
        refine j_iload_n (pc := 24) (i := 1) dX0_ones_24 rfl rfl ?_
        exact ret _ _ _ dX0_ones_25 rfl rfl
      · skip
        exact absurd h7 (by omega)
    · skip
      refine j_iload_n (pc := 4) (i := 2) dX0_ones_4 rfl rfl ?_
      refine j_bipush (pc := 5) (v := nI 8) dX0_ones_5 (by decide) ?_
      refine n_icmp_ge (pc := 7) (tgt := 24) dX0_ones_7 (by decide) (by omega) (fun h7 => ?_) (fun h7 => ?_)
      · skip
        exact absurd h7 (by omega)
      · skip
        refine j_iload_n (pc := 10) (i := 1) dX0_ones_10 rfl rfl ?_
        refine j_iload_n (pc := 11) (i := 0) dX0_ones_11 rfl rfl ?_
        refine j_iload_n (pc := 12) (i := 2) dX0_ones_12 rfl rfl ?_
        refine n_ishr (pc := 13) dX0_ones_13 (by omega) ?_
        refine j_iconst (pc := 14) (v := nI 1) dX0_ones_14 (by decide) ?_
        refine n_iand (pc := 15) dX0_ones_15 ?_
        refine n_iadd (pc := 16) dX0_ones_16 ?_
        refine j_istore_n (pc := 17) (i := 1) (lv' := [.int (nI a), .int (nI ((pop a i) + ((a / 2 ^ i) &&& 1))), .int (nI i)]) dX0_ones_17 rfl rfl ⟨(Nat.le_of_ble_eq_true rfl), (Nat.le_of_ble_eq_true rfl)⟩ ?_
        refine n_iinc (pc := 18) (n := 1) (lv' := [.int (nI a), .int (nI ((pop a i) + ((a / 2 ^ i) &&& 1))), .int (nI (i + 1))]) dX0_ones_18 rfl rfl (Nat.le_of_ble_eq_true rfl) ?_
        refine j_goto (pc := 21) (tgt := 4) dX0_ones_21 (by decide) ?_
        have hb := nn_bit a i
        rw [show pop a i + (a / 2 ^ i &&& 1) = pop a (i + 1) by rw [Nat.and_one_is_mod, hb]; rfl]
        exact ih
  refine j_iconst (pc := 0) (v := nI 0) dX0_ones_0 (by decide) ?_
  refine j_istore_n (pc := 1) (i := 1) (lv' := [.int (nI a), .int (nI 0)]) dX0_ones_1 rfl rfl ⟨(Nat.le_of_ble_eq_true rfl), (Nat.le_of_ble_eq_true rfl)⟩ ?_
  refine j_iconst (pc := 2) (v := nI 0) dX0_ones_2 (by decide) ?_
  refine j_istore_n (pc := 3) (i := 2) (lv' := [.int (nI a), .int (nI 0), .int (nI 0)]) dX0_ones_3 rfl rfl ⟨(Nat.le_of_ble_eq_true rfl), (Nat.le_of_ble_eq_true rfl)⟩ ?_
  exact loop 0 (Nat.zero_le _)

theorem dX0_find_0 : decode cX0_find 0 = .ok (.iconst 0, 1) := by decide +kernel
theorem dX0_find_1 : decode cX0_find 1 = .ok (.istore_n 3, 1) := by decide +kernel
theorem dX0_find_2 : decode cX0_find 2 = .ok (.iload_n 3, 1) := by decide +kernel
theorem dX0_find_3 : decode cX0_find 3 = .ok (.aload_n 0, 1) := by decide +kernel
theorem dX0_find_4 : decode cX0_find 4 = .ok (.getfield 7, 3) := by decide +kernel
theorem dX0_find_7 : decode cX0_find 7 = .ok (.iload_n 1, 1) := by decide +kernel
theorem dX0_find_8 : decode cX0_find 8 = .ok (.baload, 1) := by decide +kernel
theorem dX0_find_9 : decode cX0_find 9 = .ok (.if_icmp .ge 26, 3) := by decide +kernel
theorem dX0_find_12 : decode cX0_find 12 = .ok (.aload_n 0, 1) := by decide +kernel
theorem dX0_find_13 : decode cX0_find 13 = .ok (.getfield 13, 3) := by decide +kernel
theorem dX0_find_16 : decode cX0_find 16 = .ok (.iload_n 1, 1) := by decide +kernel
theorem dX0_find_17 : decode cX0_find 17 = .ok (.bipush 8, 2) := by decide +kernel
theorem dX0_find_19 : decode cX0_find 19 = .ok (.imul, 1) := by decide +kernel
theorem dX0_find_20 : decode cX0_find 20 = .ok (.iload_n 3, 1) := by decide +kernel
theorem dX0_find_21 : decode cX0_find 21 = .ok (.iadd, 1) := by decide +kernel
theorem dX0_find_22 : decode cX0_find 22 = .ok (.baload, 1) := by decide +kernel
theorem dX0_find_23 : decode cX0_find 23 = .ok (.iload_n 2, 1) := by decide +kernel
theorem dX0_find_24 : decode cX0_find 24 = .ok (.if_icmp .ne 5, 3) := by decide +kernel
theorem dX0_find_27 : decode cX0_find 27 = .ok (.iload_n 3, 1) := by decide +kernel
theorem dX0_find_28 : decode cX0_find 28 = .ok (.ireturn, 1) := by decide +kernel
theorem dX0_find_29 : decode cX0_find 29 = .ok (.iinc 3 1, 3) := by decide +kernel
theorem dX0_find_32 : decode cX0_find 32 = .ok (.goto (-30), 3) := by decide +kernel
theorem dX0_find_35 : decode cX0_find 35 = .ok (.iconst (-1), 1) := by decide +kernel
theorem dX0_find_36 : decode cX0_find 36 = .ok (.ireturn, 1) := by decide +kernel
set_option maxRecDepth 100000 in
set_option maxHeartbeats 4000000 in
theorem met_find (l : Launch) (Y : dL) (X : Nat → Nat → Nat) (e : Nat) (c : Int32) (he : e < 4) (hX : X 1 e ≤ 8) : dMi l yX0_find cX0_find 4 (some .int) 1 Y [.int (nI e), .int c] X (fun r X' => X' = X ∧ ((∃ i, i < X 1 e ∧ nI (X 2 (e * 8 + i)) = c ∧ r = nI i) ∨ (r = -1 ∧ ∀ i, i < X 1 e → nI (X 2 (e * 8 + i)) ≠ c))) := by
  refine d_ofi .int (own := RX0) rfl rfl (by decide) (Nat.le_of_ble_eq_true rfl) (by simp [lcat, Value.category]) ?_
  intro G hG ret
  have loop : ∀ i, i ≤ X 1 e → (∀ j, j < i → nI (X 2 (e * 8 + j)) ≠ c) → J cX0_find 4 RX0 G (dV G Y (dA Y) X) 2 [.ref (Y.2.1 0), .int (nI e), .int c, .int (nI i)] [] := by
    refine up_loop _ (X 1 e) (fun hno => ?_) (fun i hi ih hno => ?_)
    · skip
      refine j_iload_n (pc := 2) (i := 3) dX0_find_2 rfl rfl ?_
      refine j_aload_n (pc := 3) (i := 0) dX0_find_3 rfl rfl ?_
      refine d_get_sizes (pc := 4) dX0_find_4 ?_
      refine j_iload_n (pc := 7) (i := 1) dX0_find_7 rfl rfl ?_
      refine d_ld_sizes (pc := 8) dX0_find_8 (by omega) ?_
      refine n_icmp_ge (pc := 9) (tgt := 35) dX0_find_9 (by decide) (by omega) (fun h9 => ?_) (fun h9 => ?_)
      · skip
        refine j_iconst (pc := 35) (v := -1) dX0_find_35 (by decide) ?_
        exact ret _ _ _ _ dX0_find_36 rfl ⟨rfl, Or.inr ⟨rfl, hno⟩⟩
      · skip
        exact absurd h9 (by omega)
    · skip
      refine j_iload_n (pc := 2) (i := 3) dX0_find_2 rfl rfl ?_
      refine j_aload_n (pc := 3) (i := 0) dX0_find_3 rfl rfl ?_
      refine d_get_sizes (pc := 4) dX0_find_4 ?_
      refine j_iload_n (pc := 7) (i := 1) dX0_find_7 rfl rfl ?_
      refine d_ld_sizes (pc := 8) dX0_find_8 (by omega) ?_
      refine n_icmp_ge (pc := 9) (tgt := 35) dX0_find_9 (by decide) (by omega) (fun h9 => ?_) (fun h9 => ?_)
      · skip
        exact absurd h9 (by omega)
      · skip
        refine j_aload_n (pc := 12) (i := 0) dX0_find_12 rfl rfl ?_
        refine d_get_cubes (pc := 13) dX0_find_13 ?_
        refine j_iload_n (pc := 16) (i := 1) dX0_find_16 rfl rfl ?_
        refine j_bipush (pc := 17) (v := nI 8) dX0_find_17 (by decide) ?_
        refine n_imul (pc := 19) dX0_find_19 ?_
        refine j_iload_n (pc := 20) (i := 3) dX0_find_20 rfl rfl ?_
        refine n_iadd (pc := 21) dX0_find_21 ?_
        refine d_ld_cubes (pc := 22) dX0_find_22 (by omega) ?_
        refine j_iload_n (pc := 23) (i := 2) dX0_find_23 rfl rfl ?_
        refine j_icmp_ne (pc := 24) (tgt := 29) dX0_find_24 (by decide) (fun h24 => ?_) (fun h24 => ?_)
        · skip
          refine n_iinc (pc := 29) (n := 1) (lv' := [.ref (Y.2.1 0), .int (nI e), .int c, .int (nI (i + 1))]) dX0_find_29 rfl rfl (Nat.le_of_ble_eq_true rfl) ?_
          refine j_goto (pc := 32) (tgt := 2) dX0_find_32 (by decide) ?_
          exact ih (lt_s hno h24)
        · skip
          refine j_iload_n (pc := 27) (i := 3) dX0_find_27 rfl rfl ?_
          exact ret _ _ _ _ dX0_find_28 rfl ⟨rfl, Or.inl ⟨i, hi, h24, rfl⟩⟩
  refine j_iconst (pc := 0) (v := nI 0) dX0_find_0 (by decide) ?_
  refine j_istore_n (pc := 1) (i := 3) (lv' := [.ref (Y.2.1 0), .int (nI e), .int c, .int (nI 0)]) dX0_find_1 rfl rfl ⟨(Nat.le_of_ble_eq_true rfl), (Nat.le_of_ble_eq_true rfl)⟩ ?_
  exact loop 0 (Nat.zero_le _) lt_0
end
section
/-! plain words: rows of the desk, bit sets, sums -/
def gr (X : Nat → Nat → Nat) (f : Nat) : Nat → Nat := fun i => X 2 (f * 8 + i)
def row (X : Nat → Nat → Nat) (f : Nat) : List Nat := (List.range (X 1 f)).map (gr X f)
/-- the letters that all g i, i < n, at places of p have -/
def com (g : Nat → Nat) (p : Nat) : Nat → Nat
  | 0 => 127
  | i + 1 => com g p i &&& (if p.testBit i then g i else 127)
def bitsOf (q : Nat → Bool) : Nat → Nat
  | 0 => 0
  | i + 1 => bitsOf q i ||| (if q i then 2 ^ i else 0)
def anyN (q : Nat → Bool) (n : Nat) : Bool := (List.range n).any q
theorem anyN_iff {q : Nat → Bool} {n : Nat} : anyN q n = true ↔ ∃ i, i < n ∧ q i = true := by
  unfold anyN
  rw [List.any_eq_true]
  constructor
  · rintro ⟨i, h1, h2⟩
    exact ⟨i, List.mem_range.mp h1, h2⟩
  · rintro ⟨i, h1, h2⟩
    exact ⟨i, List.mem_range.mpr h1, h2⟩
theorem anyN_t {q : Nat → Bool} {n i : Nat} (h1 : i < n) (h2 : q i = true) : anyN q n = true := anyN_iff.mpr ⟨i, h1, h2⟩
theorem anyN_f {q : Nat → Bool} {n : Nat} (h : ∀ i, i < n → q i = false) : anyN q n = false := by
  cases e : anyN q n with
  | false => rfl
  | true =>
    obtain ⟨i, h1, h2⟩ := anyN_iff.mp e
    rw [h i h1] at h2
    cases h2
theorem anyN_no {q : Nat → Bool} {n : Nat} (h : anyN q n = false) : ∀ i, i < n → q i = false := by
  intro i hi
  cases e : q i with
  | false => rfl
  | true => rw [anyN_t hi e] at h; cases h
theorem com_le (g : Nat → Nat) (p : Nat) : ∀ n, com g p n ≤ 127
  | 0 => Nat.le_refl _
  | i + 1 => Nat.le_trans Nat.and_le_left (com_le g p i)
theorem tb127 (b : Nat) : (127 : Nat).testBit b = decide (b < 7) := Nat.testBit_two_pow_sub_one 7 b
theorem com_bit (g : Nat → Nat) (p b : Nat) : ∀ n, (com g p n).testBit b = true ↔ b < 7 ∧ ∀ i, i < n → p.testBit i = true → (g i).testBit b = true
  | 0 => by
    unfold com
    rw [tb127]
    simp
  | n + 1 => by
    unfold com
    rw [Nat.testBit_and, Bool.and_eq_true, com_bit g p b n]
    constructor
    · rintro ⟨⟨h1, h2⟩, h3⟩
      refine ⟨h1, fun i hi hp => ?_⟩
      rcases Nat.lt_or_ge i n with c | c
      · exact h2 i c hp
      · have : i = n := by omega
        subst this
        rw [if_pos hp] at h3
        exact h3
    · rintro ⟨h1, h2⟩
      refine ⟨⟨h1, fun i hi => h2 i (by omega)⟩, ?_⟩
      split
      · exact h2 n (by omega) (by assumption)
      · rw [tb127]; simp [h1]
theorem bitsOf_lt (q : Nat → Bool) : ∀ n, bitsOf q n < 2 ^ n
  | 0 => by simp [bitsOf]
  | n + 1 => by
    unfold bitsOf
    have h1 := bitsOf_lt q n
    have h2 : 2 ^ n < 2 ^ (n + 1) := by rw [Nat.pow_succ]; have := Nat.two_pow_pos n; omega
    refine Nat.or_lt_two_pow (by omega) ?_
    split
    · exact h2
    · exact Nat.two_pow_pos _
theorem bitsOf_bit (q : Nat → Bool) (b : Nat) : ∀ n, (bitsOf q n).testBit b = (decide (b < n) && q b)
  | 0 => by simp [bitsOf]
  | n + 1 => by
    unfold bitsOf
    rw [Nat.testBit_or, bitsOf_bit q b n]
    by_cases e : b = n
    · subst e
      cases hq : q b <;> simp [Nat.testBit_two_pow_self]
    · have h1 : (if q n = true then 2 ^ n else 0).testBit b = false := by
        split
        · exact Nat.testBit_two_pow_of_ne (fun z => e z.symm)
        · exact Nat.zero_testBit _
      rw [h1, Bool.or_false, show decide (b < n + 1) = decide (b < n) from by
        by_cases h : b < n
        · rw [decide_eq_true h, decide_eq_true (show b < n + 1 by omega)]
        · rw [decide_eq_false h, decide_eq_false (show ¬ b < n + 1 by omega)]]
/-- letters of g 0 .. g (n - 1) -/
def lts (g : Nat → Nat) : Nat → Nat
  | 0 => 0
  | i + 1 => lts g i + pop (g i) 8
theorem lts_le (g : Nat → Nat) : ∀ n, lts g n ≤ 8 * n
  | 0 => Nat.le_refl _
  | i + 1 => by
    have := lts_le g i
    have := pop_le (g i) 8
    unfold lts
    omega
/-- the made cubes are those of the list l -/
def hm (X : Nat → Nat → Nat) (l : List Nat) : Prop := X 0 0 = l.length ∧ ∀ j, j < l.length → l[j]? = some (X 3 j)
theorem hm_0 {X : Nat → Nat → Nat} (h : X 0 0 = 0) : hm X [] := ⟨h, fun j hj => by simp at hj⟩
theorem hm_push {X X' : Nat → Nat → Nat} {l : List Nat} {v : Nat} (h : hm X l) (h0 : X' 0 0 = X 0 0 + 1) (h1 : X' 3 (X 0 0) = v) (h2 : ∀ j, j < X 0 0 → X' 3 j = X 3 j) : hm X' (l ++ [v]) := by
  obtain ⟨a, b⟩ := h
  refine ⟨by rw [h0, a]; simp, fun j hj => ?_⟩
  rcases Nat.lt_or_ge j l.length with c | c
  · rw [List.getElem?_append_left c, b j c, h2 j (by omega)]
  · have : j = l.length := by simp at hj; omega
    subst this
    rw [List.getElem?_append_right (Nat.le_refl _), ← a, h1]
    simp [a]
theorem hm_mem {X : Nat → Nat → Nat} {l : List Nat} (h : hm X l) (c : Nat) : c ∈ l ↔ ∃ i, i < X 0 0 ∧ X 3 i = c := by
  rw [List.mem_iff_getElem?]
  constructor
  · rintro ⟨i, hi⟩
    have hl := (List.getElem?_eq_some_iff.mp hi).1
    rw [h.2 i hl] at hi
    exact ⟨i, by rw [h.1]; exact hl, Option.some.inj hi⟩
  · rintro ⟨i, h1, h2⟩
    rw [h.1] at h1
    exact ⟨i, by rw [h.2 i h1, h2]⟩
/-- the desk is well formed: sizes at most 8, cubes below 128 -/
def okX (X : Nat → Nat → Nat) : Prop := ∀ e, e < 4 → X 1 e ≤ 8 ∧ ∀ i, i < X 1 e → X 2 (e * 8 + i) < 128
theorem okX_of {X X' : Nat → Nat → Nat} (h : okX X) (h1 : X' 1 = X 1) (h2 : X' 2 = X 2) : okX X' := by
  intro e he
  rw [h1, h2]
  exact h e he
theorem row_of {X X' : Nat → Nat → Nat} (h1 : X' 1 = X 1) (h2 : X' 2 = X 2) (f : Nat) : row X' f = row X f := by
  unfold row gr
  rw [h1, h2]
/-- quotient by a cube: of the g i that hold c, what is left of them -/
def qb (g : Nat → Nat) (c : Nat) (n : Nat) : List Nat := ((List.range n).filter (fun i => decide (nd c (g i) = 0))).map (fun i => nd (g i) c)
theorem qb_0 (g : Nat → Nat) (c : Nat) : qb g c 0 = [] := rfl
theorem qb_y {g : Nat → Nat} {c n : Nat} (h : nd c (g n) = 0) : qb g c (n + 1) = qb g c n ++ [nd (g n) c] := by
  unfold qb
  rw [List.range_succ, List.filter_append, List.map_append]
  simp [h]
theorem qb_n {g : Nat → Nat} {c n : Nat} (h : nd c (g n) ≠ 0) : qb g c (n + 1) = qb g c n := by
  unfold qb
  rw [List.range_succ, List.filter_append, List.map_append]
  simp [h]
theorem qb_len (g : Nat → Nat) (c n : Nat) : (qb g c n).length ≤ n := by
  unfold qb
  rw [List.length_map]
  exact Nat.le_trans (List.length_filter_le _ _) (by simp)
theorem nd_le (a b : Nat) : nd a b ≤ a := Nat.and_le_left
end
section
/-! the desk: methods that only read; made cubes; put, take -/

theorem dX0_commonAt_0 : decode cX0_commonAt 0 = .ok (.bipush 127, 2) := by decide +kernel
theorem dX0_commonAt_2 : decode cX0_commonAt 2 = .ok (.istore_n 3, 1) := by decide +kernel
theorem dX0_commonAt_3 : decode cX0_commonAt 3 = .ok (.iconst 0, 1) := by decide +kernel
theorem dX0_commonAt_4 : decode cX0_commonAt 4 = .ok (.istore 4, 2) := by decide +kernel
theorem dX0_commonAt_6 : decode cX0_commonAt 6 = .ok (.iload 4, 2) := by decide +kernel
theorem dX0_commonAt_8 : decode cX0_commonAt 8 = .ok (.aload_n 0, 1) := by decide +kernel
theorem dX0_commonAt_9 : decode cX0_commonAt 9 = .ok (.getfield 7, 3) := by decide +kernel
theorem dX0_commonAt_12 : decode cX0_commonAt 12 = .ok (.iload_n 1, 1) := by decide +kernel
theorem dX0_commonAt_13 : decode cX0_commonAt 13 = .ok (.baload, 1) := by decide +kernel
theorem dX0_commonAt_14 : decode cX0_commonAt 14 = .ok (.if_icmp .ge 38, 3) := by decide +kernel
theorem dX0_commonAt_17 : decode cX0_commonAt 17 = .ok (.iload_n 3, 1) := by decide +kernel
theorem dX0_commonAt_18 : decode cX0_commonAt 18 = .ok (.iload_n 2, 1) := by decide +kernel
theorem dX0_commonAt_19 : decode cX0_commonAt 19 = .ok (.iload 4, 2) := by decide +kernel
theorem dX0_commonAt_21 : decode cX0_commonAt 21 = .ok (.invokestatic 72, 3) := by decide +kernel
theorem dX0_commonAt_24 : decode cX0_commonAt 24 = .ok (.ifCond .eq 18, 3) := by decide +kernel
theorem dX0_commonAt_27 : decode cX0_commonAt 27 = .ok (.aload_n 0, 1) := by decide +kernel
theorem dX0_commonAt_28 : decode cX0_commonAt 28 = .ok (.getfield 13, 3) := by decide +kernel
theorem dX0_commonAt_31 : decode cX0_commonAt 31 = .ok (.iload_n 1, 1) := by decide +kernel
theorem dX0_commonAt_32 : decode cX0_commonAt 32 = .ok (.bipush 8, 2) := by decide +kernel
theorem dX0_commonAt_34 : decode cX0_commonAt 34 = .ok (.imul, 1) := by decide +kernel
theorem dX0_commonAt_35 : decode cX0_commonAt 35 = .ok (.iload 4, 2) := by decide +kernel
theorem dX0_commonAt_37 : decode cX0_commonAt 37 = .ok (.iadd, 1) := by decide +kernel
theorem dX0_commonAt_38 : decode cX0_commonAt 38 = .ok (.baload, 1) := by decide +kernel
theorem dX0_commonAt_39 : decode cX0_commonAt 39 = .ok (.goto 5, 3) := by decide +kernel
theorem dX0_commonAt_42 : decode cX0_commonAt 42 = .ok (.bipush 127, 2) := by decide +kernel
theorem dX0_commonAt_44 : decode cX0_commonAt 44 = .ok (.iand, 1) := by decide +kernel
theorem dX0_commonAt_45 : decode cX0_commonAt 45 = .ok (.istore_n 3, 1) := by decide +kernel
theorem dX0_commonAt_46 : decode cX0_commonAt 46 = .ok (.iinc 4 1, 3) := by decide +kernel
theorem dX0_commonAt_49 : decode cX0_commonAt 49 = .ok (.goto (-43), 3) := by decide +kernel
theorem dX0_commonAt_52 : decode cX0_commonAt 52 = .ok (.iload_n 3, 1) := by decide +kernel
theorem dX0_commonAt_53 : decode cX0_commonAt 53 = .ok (.ireturn, 1) := by decide +kernel
set_option maxRecDepth 100000 in
set_option maxHeartbeats 4000000 in
theorem met_commonAt (l : Launch) (Y : dL) (X : Nat → Nat → Nat) (f p : Nat) (hf : f < 4) (hX : X 1 f ≤ 8) (hp : p < 2147483648) : dMi l yX0_commonAt cX0_commonAt 5 (some .int) 2 Y [.int (nI f), .int (nI p)] X (fun r X' => X' = X ∧ r = nI (com (gr X f) p (X 1 f))) := by
  refine d_ofi .int (own := RX0) rfl rfl (by decide) (Nat.le_of_ble_eq_true rfl) (by simp [lcat, Value.category]) ?_
  intro G hG ret
  have loop : ∀ i, i ≤ X 1 f → J cX0_commonAt 5 RX0 G (dV G Y (dA Y) X) 6 [.ref (Y.2.1 0), .int (nI f), .int (nI p), .int (nI (com (gr X f) p i)), .int (nI i)] [] := by
    refine up_loop _ (X 1 f) ?_ (fun i hi ih => ?_)
    · skip
      refine j_iload (pc := 6) dX0_commonAt_6 rfl ?_
      refine j_aload_n (pc := 8) (i := 0) dX0_commonAt_8 rfl rfl ?_
      refine d_get_sizes (pc := 9) dX0_commonAt_9 ?_
      refine j_iload_n (pc := 12) (i := 1) dX0_commonAt_12 rfl rfl ?_
      refine d_ld_sizes (pc := 13) dX0_commonAt_13 (by omega) ?_
      refine n_icmp_ge (pc := 14) (tgt := 52) dX0_commonAt_14 (by decide) (by omega) (fun h14 => ?_) (fun h14 => ?_)
      · skip
        refine j_iload_n (pc := 52) (i := 3) dX0_commonAt_52 rfl rfl ?_
        exact ret _ _ _ _ dX0_commonAt_53 rfl ⟨rfl, rfl⟩
      · skip
        exact absurd h14 (by omega)
    · skip
      refine j_iload (pc := 6) dX0_commonAt_6 rfl ?_
      refine j_aload_n (pc := 8) (i := 0) dX0_commonAt_8 rfl rfl ?_
      refine d_get_sizes (pc := 9) dX0_commonAt_9 ?_
      refine j_iload_n (pc := 12) (i := 1) dX0_commonAt_12 rfl rfl ?_
      refine d_ld_sizes (pc := 13) dX0_commonAt_13 (by omega) ?_
      refine n_icmp_ge (pc := 14) (tgt := 52) dX0_commonAt_14 (by decide) (by omega) (fun h14 => ?_) (fun h14 => ?_)
      · skip
        exact absurd h14 (by omega)
      · skip
        refine j_iload_n (pc := 17) (i := 3) dX0_commonAt_17 rfl rfl ?_
        refine j_iload_n (pc := 18) (i := 2) dX0_commonAt_18 rfl rfl ?_
        refine j_iload (pc := 19) dX0_commonAt_19 rfl ?_
        refine s_calli (pc := 21) (st := [.int (nI (com (gr X f) p i))]) (met_in (kl G) Y.1 p i (by omega) (by omega)) hG (by decide) dX0_commonAt_21 cpD_X0_in (Nat.le_of_ble_eq_true rfl) rfl (fun r21 hr21 => ?_)
        subst hr21
        refine b_if_eq (pc := 24) (tgt := 42) dX0_commonAt_24 (by decide) (fun h24 => ?_) (fun h24 => ?_)
        · skip
          refine j_bipush (pc := 42) (v := nI 127) dX0_commonAt_42 (by decide) ?_
          refine n_iand (pc := 44) dX0_commonAt_44 ?_
          refine j_istore_n (pc := 45) (i := 3) (lv' := [.ref (Y.2.1 0), .int (nI f), .int (nI p), .int (nI ((com (gr X f) p i) &&& 127)), .int (nI i)]) dX0_commonAt_45 rfl rfl ⟨(Nat.le_of_ble_eq_true rfl), (Nat.le_of_ble_eq_true rfl)⟩ ?_
          refine n_iinc (pc := 46) (n := 1) (lv' := [.ref (Y.2.1 0), .int (nI f), .int (nI p), .int (nI ((com (gr X f) p i) &&& 127)), .int (nI (i + 1))]) dX0_commonAt_46 rfl rfl (Nat.le_of_ble_eq_true rfl) ?_
          refine j_goto (pc := 49) (tgt := 6) dX0_commonAt_49 (by decide) ?_
          rw [show (com (gr X f) p i) &&& 127 = com (gr X f) p (i + 1) by simp [com, gr, h24]]
          exact ih
        · skip
          refine j_aload_n (pc := 27) (i := 0) dX0_commonAt_27 rfl rfl ?_
          refine d_get_cubes (pc := 28) dX0_commonAt_28 ?_
          refine j_iload_n (pc := 31) (i := 1) dX0_commonAt_31 rfl rfl ?_
          refine j_bipush (pc := 32) (v := nI 8) dX0_commonAt_32 (by decide) ?_
          refine n_imul (pc := 34) dX0_commonAt_34 ?_
          refine j_iload (pc := 35) dX0_commonAt_35 rfl ?_
          refine n_iadd (pc := 37) dX0_commonAt_37 ?_
          refine d_ld_cubes (pc := 38) dX0_commonAt_38 (by omega) ?_
          refine j_goto (pc := 39) (tgt := 44) dX0_commonAt_39 (by decide) ?_
          refine n_iand (pc := 44) dX0_commonAt_44 ?_
          refine j_istore_n (pc := 45) (i := 3) (lv' := [.ref (Y.2.1 0), .int (nI f), .int (nI p), .int (nI ((com (gr X f) p i) &&& (X 2 ((f * 8) + i)))), .int (nI i)]) dX0_commonAt_45 rfl rfl ⟨(Nat.le_of_ble_eq_true rfl), (Nat.le_of_ble_eq_true rfl)⟩ ?_
          refine n_iinc (pc := 46) (n := 1) (lv' := [.ref (Y.2.1 0), .int (nI f), .int (nI p), .int (nI ((com (gr X f) p i) &&& (X 2 ((f * 8) + i)))), .int (nI (i + 1))]) dX0_commonAt_46 rfl rfl (Nat.le_of_ble_eq_true rfl) ?_
          refine j_goto (pc := 49) (tgt := 6) dX0_commonAt_49 (by decide) ?_
          rw [show (com (gr X f) p i) &&& (X 2 ((f * 8) + i)) = com (gr X f) p (i + 1) by simp [com, gr, h24]]
          exact ih
  refine j_bipush (pc := 0) (v := nI 127) dX0_commonAt_0 (by decide) ?_
  refine j_istore_n (pc := 2) (i := 3) (lv' := [.ref (Y.2.1 0), .int (nI f), .int (nI p), .int (nI 127)]) dX0_commonAt_2 rfl rfl ⟨(Nat.le_of_ble_eq_true rfl), (Nat.le_of_ble_eq_true rfl)⟩ ?_
  refine j_iconst (pc := 3) (v := nI 0) dX0_commonAt_3 (by decide) ?_
  refine j_istore (pc := 4) (i := 4) (lv' := [.ref (Y.2.1 0), .int (nI f), .int (nI p), .int (nI 127), .int (nI 0)]) dX0_commonAt_4 rfl ⟨(Nat.le_of_ble_eq_true rfl), (Nat.le_of_ble_eq_true rfl)⟩ ?_
  exact loop 0 (Nat.zero_le _)

theorem dX0_placesOf_0 : decode cX0_placesOf 0 = .ok (.iconst 0, 1) := by decide +kernel
theorem dX0_placesOf_1 : decode cX0_placesOf 1 = .ok (.istore_n 3, 1) := by decide +kernel
theorem dX0_placesOf_2 : decode cX0_placesOf 2 = .ok (.iconst 0, 1) := by decide +kernel
theorem dX0_placesOf_3 : decode cX0_placesOf 3 = .ok (.istore 4, 2) := by decide +kernel
theorem dX0_placesOf_5 : decode cX0_placesOf 5 = .ok (.iload 4, 2) := by decide +kernel
theorem dX0_placesOf_7 : decode cX0_placesOf 7 = .ok (.aload_n 0, 1) := by decide +kernel
theorem dX0_placesOf_8 : decode cX0_placesOf 8 = .ok (.getfield 7, 3) := by decide +kernel
theorem dX0_placesOf_11 : decode cX0_placesOf 11 = .ok (.iload_n 1, 1) := by decide +kernel
theorem dX0_placesOf_12 : decode cX0_placesOf 12 = .ok (.baload, 1) := by decide +kernel
theorem dX0_placesOf_13 : decode cX0_placesOf 13 = .ok (.if_icmp .ge 39, 3) := by decide +kernel
theorem dX0_placesOf_16 : decode cX0_placesOf 16 = .ok (.iload_n 3, 1) := by decide +kernel
theorem dX0_placesOf_17 : decode cX0_placesOf 17 = .ok (.iload_n 2, 1) := by decide +kernel
theorem dX0_placesOf_18 : decode cX0_placesOf 18 = .ok (.aload_n 0, 1) := by decide +kernel
theorem dX0_placesOf_19 : decode cX0_placesOf 19 = .ok (.getfield 13, 3) := by decide +kernel
theorem dX0_placesOf_22 : decode cX0_placesOf 22 = .ok (.iload_n 1, 1) := by decide +kernel
theorem dX0_placesOf_23 : decode cX0_placesOf 23 = .ok (.bipush 8, 2) := by decide +kernel
theorem dX0_placesOf_25 : decode cX0_placesOf 25 = .ok (.imul, 1) := by decide +kernel
theorem dX0_placesOf_26 : decode cX0_placesOf 26 = .ok (.iload 4, 2) := by decide +kernel
theorem dX0_placesOf_28 : decode cX0_placesOf 28 = .ok (.iadd, 1) := by decide +kernel
theorem dX0_placesOf_29 : decode cX0_placesOf 29 = .ok (.baload, 1) := by decide +kernel
theorem dX0_placesOf_30 : decode cX0_placesOf 30 = .ok (.iconst (-1), 1) := by decide +kernel
theorem dX0_placesOf_31 : decode cX0_placesOf 31 = .ok (.ixor, 1) := by decide +kernel
theorem dX0_placesOf_32 : decode cX0_placesOf 32 = .ok (.iand, 1) := by decide +kernel
theorem dX0_placesOf_33 : decode cX0_placesOf 33 = .ok (.ifCond .ne 10, 3) := by decide +kernel
theorem dX0_placesOf_36 : decode cX0_placesOf 36 = .ok (.iconst 1, 1) := by decide +kernel
theorem dX0_placesOf_37 : decode cX0_placesOf 37 = .ok (.iload 4, 2) := by decide +kernel
theorem dX0_placesOf_39 : decode cX0_placesOf 39 = .ok (.ishl, 1) := by decide +kernel
theorem dX0_placesOf_40 : decode cX0_placesOf 40 = .ok (.goto 4, 3) := by decide +kernel
theorem dX0_placesOf_43 : decode cX0_placesOf 43 = .ok (.iconst 0, 1) := by decide +kernel
theorem dX0_placesOf_44 : decode cX0_placesOf 44 = .ok (.ior, 1) := by decide +kernel
theorem dX0_placesOf_45 : decode cX0_placesOf 45 = .ok (.istore_n 3, 1) := by decide +kernel
theorem dX0_placesOf_46 : decode cX0_placesOf 46 = .ok (.iinc 4 1, 3) := by decide +kernel
theorem dX0_placesOf_49 : decode cX0_placesOf 49 = .ok (.goto (-44), 3) := by decide +kernel
theorem dX0_placesOf_52 : decode cX0_placesOf 52 = .ok (.iload_n 3, 1) := by decide +kernel
theorem dX0_placesOf_53 : decode cX0_placesOf 53 = .ok (.ireturn, 1) := by decide +kernel
set_option maxRecDepth 100000 in
set_option maxHeartbeats 4000000 in
theorem met_placesOf (l : Launch) (Y : dL) (X : Nat → Nat → Nat) (f c : Nat) (hf : f < 4) (hX : X 1 f ≤ 8) (hc : c < 2147483648) : dMi l yX0_placesOf cX0_placesOf 5 (some .int) 1 Y [.int (nI f), .int (nI c)] X (fun r X' => X' = X ∧ r = nI (bitsOf (fun i => decide (nd c (gr X f i) = 0)) (X 1 f))) := by
  refine d_ofi .int (own := RX0) rfl rfl (by decide) (Nat.le_of_ble_eq_true rfl) (by simp [lcat, Value.category]) ?_
  intro G hG ret
  have loop : ∀ i, i ≤ X 1 f → J cX0_placesOf 5 RX0 G (dV G Y (dA Y) X) 5 [.ref (Y.2.1 0), .int (nI f), .int (nI c), .int (nI (bitsOf (fun i => decide (nd c (gr X f i) = 0)) i)), .int (nI i)] [] := by
    refine up_loop _ (X 1 f) ?_ (fun i hi ih => ?_)
    · skip
      refine j_iload (pc := 5) dX0_placesOf_5 rfl ?_
      refine j_aload_n (pc := 7) (i := 0) dX0_placesOf_7 rfl rfl ?_
      refine d_get_sizes (pc := 8) dX0_placesOf_8 ?_
      refine j_iload_n (pc := 11) (i := 1) dX0_placesOf_11 rfl rfl ?_
      refine d_ld_sizes (pc := 12) dX0_placesOf_12 (by omega) ?_
      refine n_icmp_ge (pc := 13) (tgt := 52) dX0_placesOf_13 (by decide) (by omega) (fun h13 => ?_) (fun h13 => ?_)
      · skip
        refine j_iload_n (pc := 52) (i := 3) dX0_placesOf_52 rfl rfl ?_
        exact ret _ _ _ _ dX0_placesOf_53 rfl ⟨rfl, rfl⟩
      · skip
        exact absurd h13 (by omega)
    · skip
      refine j_iload (pc := 5) dX0_placesOf_5 rfl ?_
      refine j_aload_n (pc := 7) (i := 0) dX0_placesOf_7 rfl rfl ?_
      refine d_get_sizes (pc := 8) dX0_placesOf_8 ?_
      refine j_iload_n (pc := 11) (i := 1) dX0_placesOf_11 rfl rfl ?_
      refine d_ld_sizes (pc := 12) dX0_placesOf_12 (by omega) ?_
      refine n_icmp_ge (pc := 13) (tgt := 52) dX0_placesOf_13 (by decide) (by omega) (fun h13 => ?_) (fun h13 => ?_)
      · skip
        exact absurd h13 (by omega)
      · skip
        refine j_iload_n (pc := 16) (i := 3) dX0_placesOf_16 rfl rfl ?_
        refine j_iload_n (pc := 17) (i := 2) dX0_placesOf_17 rfl rfl ?_
        refine j_aload_n (pc := 18) (i := 0) dX0_placesOf_18 rfl rfl ?_
        refine d_get_cubes (pc := 19) dX0_placesOf_19 ?_
        refine j_iload_n (pc := 22) (i := 1) dX0_placesOf_22 rfl rfl ?_
        refine j_bipush (pc := 23) (v := nI 8) dX0_placesOf_23 (by decide) ?_
        refine n_imul (pc := 25) dX0_placesOf_25 ?_
        refine j_iload (pc := 26) dX0_placesOf_26 rfl ?_
        refine n_iadd (pc := 28) dX0_placesOf_28 ?_
        refine d_ld_cubes (pc := 29) dX0_placesOf_29 (by omega) ?_
        refine n_andn (pc := 30) dX0_placesOf_30 dX0_placesOf_31 dX0_placesOf_32 ?_
        refine n_if_ne (pc := 33) (tgt := 43) dX0_placesOf_33 (by decide) (Nat.lt_of_le_of_lt (nd_le _ _) hc) (fun h33 => ?_) (fun h33 => ?_)
        · skip
          refine j_iconst (pc := 43) (v := nI 0) dX0_placesOf_43 (by decide) ?_
          refine n_ior (pc := 44) dX0_placesOf_44 ?_
          refine j_istore_n (pc := 45) (i := 3) (lv' := [.ref (Y.2.1 0), .int (nI f), .int (nI c), .int (nI ((bitsOf (fun i => decide (nd c (gr X f i) = 0)) i) ||| 0)), .int (nI i)]) dX0_placesOf_45 rfl rfl ⟨(Nat.le_of_ble_eq_true rfl), (Nat.le_of_ble_eq_true rfl)⟩ ?_
          refine n_iinc (pc := 46) (n := 1) (lv' := [.ref (Y.2.1 0), .int (nI f), .int (nI c), .int (nI ((bitsOf (fun i => decide (nd c (gr X f i) = 0)) i) ||| 0)), .int (nI (i + 1))]) dX0_placesOf_46 rfl rfl (Nat.le_of_ble_eq_true rfl) ?_
          refine j_goto (pc := 49) (tgt := 5) dX0_placesOf_49 (by decide) ?_
          rw [show (bitsOf (fun i => decide (nd c (gr X f i) = 0)) i) ||| 0 = bitsOf (fun i => decide (nd c (gr X f i) = 0)) (i + 1) by simp only [bitsOf, gr]; simp [h33]]
          exact ih
        · skip
          refine j_iconst (pc := 36) (v := nI 1) dX0_placesOf_36 (by decide) ?_
          refine j_iload (pc := 37) dX0_placesOf_37 rfl ?_
          refine n_shl1 (pc := 39) dX0_placesOf_39 (by omega) ?_
          refine j_goto (pc := 40) (tgt := 44) dX0_placesOf_40 (by decide) ?_
          refine n_ior (pc := 44) dX0_placesOf_44 ?_
          refine j_istore_n (pc := 45) (i := 3) (lv' := [.ref (Y.2.1 0), .int (nI f), .int (nI c), .int (nI ((bitsOf (fun i => decide (nd c (gr X f i) = 0)) i) ||| (2 ^ i))), .int (nI i)]) dX0_placesOf_45 rfl rfl ⟨(Nat.le_of_ble_eq_true rfl), (Nat.le_of_ble_eq_true rfl)⟩ ?_
          refine n_iinc (pc := 46) (n := 1) (lv' := [.ref (Y.2.1 0), .int (nI f), .int (nI c), .int (nI ((bitsOf (fun i => decide (nd c (gr X f i) = 0)) i) ||| (2 ^ i))), .int (nI (i + 1))]) dX0_placesOf_46 rfl rfl (Nat.le_of_ble_eq_true rfl) ?_
          refine j_goto (pc := 49) (tgt := 5) dX0_placesOf_49 (by decide) ?_
          rw [show (bitsOf (fun i => decide (nd c (gr X f i) = 0)) i) ||| (2 ^ i) = bitsOf (fun i => decide (nd c (gr X f i) = 0)) (i + 1) by simp only [bitsOf, gr]; simp [h33]]
          exact ih
  refine j_iconst (pc := 0) (v := nI 0) dX0_placesOf_0 (by decide) ?_
  refine j_istore_n (pc := 1) (i := 3) (lv' := [.ref (Y.2.1 0), .int (nI f), .int (nI c), .int (nI 0)]) dX0_placesOf_1 rfl rfl ⟨(Nat.le_of_ble_eq_true rfl), (Nat.le_of_ble_eq_true rfl)⟩ ?_
  refine j_iconst (pc := 2) (v := nI 0) dX0_placesOf_2 (by decide) ?_
  refine j_istore (pc := 3) (i := 4) (lv' := [.ref (Y.2.1 0), .int (nI f), .int (nI c), .int (nI 0), .int (nI 0)]) dX0_placesOf_3 rfl ⟨(Nat.le_of_ble_eq_true rfl), (Nat.le_of_ble_eq_true rfl)⟩ ?_
  exact loop 0 (Nat.zero_le _)

theorem dX0_lettersOf_0 : decode cX0_lettersOf 0 = .ok (.iconst 0, 1) := by decide +kernel
theorem dX0_lettersOf_1 : decode cX0_lettersOf 1 = .ok (.istore_n 2, 1) := by decide +kernel
theorem dX0_lettersOf_2 : decode cX0_lettersOf 2 = .ok (.iconst 0, 1) := by decide +kernel
theorem dX0_lettersOf_3 : decode cX0_lettersOf 3 = .ok (.istore_n 3, 1) := by decide +kernel
theorem dX0_lettersOf_4 : decode cX0_lettersOf 4 = .ok (.iload_n 3, 1) := by decide +kernel
theorem dX0_lettersOf_5 : decode cX0_lettersOf 5 = .ok (.aload_n 0, 1) := by decide +kernel
theorem dX0_lettersOf_6 : decode cX0_lettersOf 6 = .ok (.getfield 7, 3) := by decide +kernel
theorem dX0_lettersOf_9 : decode cX0_lettersOf 9 = .ok (.iload_n 1, 1) := by decide +kernel
theorem dX0_lettersOf_10 : decode cX0_lettersOf 10 = .ok (.baload, 1) := by decide +kernel
theorem dX0_lettersOf_11 : decode cX0_lettersOf 11 = .ok (.if_icmp .ge 26, 3) := by decide +kernel
theorem dX0_lettersOf_14 : decode cX0_lettersOf 14 = .ok (.iload_n 2, 1) := by decide +kernel
theorem dX0_lettersOf_15 : decode cX0_lettersOf 15 = .ok (.aload_n 0, 1) := by decide +kernel
theorem dX0_lettersOf_16 : decode cX0_lettersOf 16 = .ok (.getfield 13, 3) := by decide +kernel
theorem dX0_lettersOf_19 : decode cX0_lettersOf 19 = .ok (.iload_n 1, 1) := by decide +kernel
theorem dX0_lettersOf_20 : decode cX0_lettersOf 20 = .ok (.bipush 8, 2) := by decide +kernel
theorem dX0_lettersOf_22 : decode cX0_lettersOf 22 = .ok (.imul, 1) := by decide +kernel
theorem dX0_lettersOf_23 : decode cX0_lettersOf 23 = .ok (.iload_n 3, 1) := by decide +kernel
theorem dX0_lettersOf_24 : decode cX0_lettersOf 24 = .ok (.iadd, 1) := by decide +kernel
theorem dX0_lettersOf_25 : decode cX0_lettersOf 25 = .ok (.baload, 1) := by decide +kernel
theorem dX0_lettersOf_26 : decode cX0_lettersOf 26 = .ok (.invokestatic 88, 3) := by decide +kernel
theorem dX0_lettersOf_29 : decode cX0_lettersOf 29 = .ok (.iadd, 1) := by decide +kernel
theorem dX0_lettersOf_30 : decode cX0_lettersOf 30 = .ok (.istore_n 2, 1) := by decide +kernel
theorem dX0_lettersOf_31 : decode cX0_lettersOf 31 = .ok (.iinc 3 1, 3) := by decide +kernel
theorem dX0_lettersOf_34 : decode cX0_lettersOf 34 = .ok (.goto (-30), 3) := by decide +kernel
theorem dX0_lettersOf_37 : decode cX0_lettersOf 37 = .ok (.iload_n 2, 1) := by decide +kernel
theorem dX0_lettersOf_38 : decode cX0_lettersOf 38 = .ok (.ireturn, 1) := by decide +kernel
set_option maxRecDepth 100000 in
set_option maxHeartbeats 4000000 in
theorem met_lettersOf (l : Launch) (Y : dL) (X : Nat → Nat → Nat) (f : Nat) (hf : f < 4) (hX : X 1 f ≤ 8) (hc : ∀ i, i < X 1 f → X 2 (f * 8 + i) < 128) : dMi l yX0_lettersOf cX0_lettersOf 4 (some .int) 2 Y [.int (nI f)] X (fun r X' => X' = X ∧ r = nI (lts (gr X f) (X 1 f))) := by
  refine d_ofi .int (own := RX0) rfl rfl (by decide) (Nat.le_of_ble_eq_true rfl) (by simp [lcat, Value.category]) ?_
  intro G hG ret
  have loop : ∀ i, i ≤ X 1 f → J cX0_lettersOf 4 RX0 G (dV G Y (dA Y) X) 4 [.ref (Y.2.1 0), .int (nI f), .int (nI (lts (gr X f) i)), .int (nI i)] [] := by
    refine up_loop _ (X 1 f) ?_ (fun i hi ih => ?_)
    · skip
      refine j_iload_n (pc := 4) (i := 3) dX0_lettersOf_4 rfl rfl ?_
      refine j_aload_n (pc := 5) (i := 0) dX0_lettersOf_5 rfl rfl ?_
      refine d_get_sizes (pc := 6) dX0_lettersOf_6 ?_
      refine j_iload_n (pc := 9) (i := 1) dX0_lettersOf_9 rfl rfl ?_
      refine d_ld_sizes (pc := 10) dX0_lettersOf_10 (by omega) ?_
      refine n_icmp_ge (pc := 11) (tgt := 37) dX0_lettersOf_11 (by decide) (by omega) (fun h11 => ?_) (fun h11 => ?_)
      · skip
        refine j_iload_n (pc := 37) (i := 2) dX0_lettersOf_37 rfl rfl ?_
        exact ret _ _ _ _ dX0_lettersOf_38 rfl ⟨rfl, rfl⟩
      · skip
        exact absurd h11 (by omega)
    · skip
      refine j_iload_n (pc := 4) (i := 3) dX0_lettersOf_4 rfl rfl ?_
      refine j_aload_n (pc := 5) (i := 0) dX0_lettersOf_5 rfl rfl ?_
      refine d_get_sizes (pc := 6) dX0_lettersOf_6 ?_
      refine j_iload_n (pc := 9) (i := 1) dX0_lettersOf_9 rfl rfl ?_
      refine d_ld_sizes (pc := 10) dX0_lettersOf_10 (by omega) ?_
      refine n_icmp_ge (pc := 11) (tgt := 37) dX0_lettersOf_11 (by decide) (by omega) (fun h11 => ?_) (fun h11 => ?_)
      · skip
        exact absurd h11 (by omega)
      · skip
        refine j_iload_n (pc := 14) (i := 2) dX0_lettersOf_14 rfl rfl ?_
        refine j_aload_n (pc := 15) (i := 0) dX0_lettersOf_15 rfl rfl ?_
        refine d_get_cubes (pc := 16) dX0_lettersOf_16 ?_
        refine j_iload_n (pc := 19) (i := 1) dX0_lettersOf_19 rfl rfl ?_
        refine j_bipush (pc := 20) (v := nI 8) dX0_lettersOf_20 (by decide) ?_
        refine n_imul (pc := 22) dX0_lettersOf_22 ?_
        refine j_iload_n (pc := 23) (i := 3) dX0_lettersOf_23 rfl rfl ?_
        refine n_iadd (pc := 24) dX0_lettersOf_24 ?_
        refine d_ld_cubes (pc := 25) dX0_lettersOf_25 (by omega) ?_
        refine s_calli (pc := 26) (st := [.int (nI (lts (gr X f) i))]) (met_ones (kl G) Y.1 (X 2 ((f * 8) + i)) (by have := hc i hi; omega)) hG (by decide) dX0_lettersOf_26 cpD_X0_ones (Nat.le_of_ble_eq_true rfl) rfl (fun r26 hr26 => ?_)
        subst hr26
        refine n_iadd (pc := 29) dX0_lettersOf_29 ?_
        refine j_istore_n (pc := 30) (i := 2) (lv' := [.ref (Y.2.1 0), .int (nI f), .int (nI ((lts (gr X f) i) + (pop (X 2 ((f * 8) + i)) 8))), .int (nI i)]) dX0_lettersOf_30 rfl rfl ⟨(Nat.le_of_ble_eq_true rfl), (Nat.le_of_ble_eq_true rfl)⟩ ?_
        refine n_iinc (pc := 31) (n := 1) (lv' := [.ref (Y.2.1 0), .int (nI f), .int (nI ((lts (gr X f) i) + (pop (X 2 ((f * 8) + i)) 8))), .int (nI (i + 1))]) dX0_lettersOf_31 rfl rfl (Nat.le_of_ble_eq_true rfl) ?_
        refine j_goto (pc := 34) (tgt := 4) dX0_lettersOf_34 (by decide) ?_
        exact ih
  refine j_iconst (pc := 0) (v := nI 0) dX0_lettersOf_0 (by decide) ?_
  refine j_istore_n (pc := 1) (i := 2) (lv' := [.ref (Y.2.1 0), .int (nI f), .int (nI 0)]) dX0_lettersOf_1 rfl rfl ⟨(Nat.le_of_ble_eq_true rfl), (Nat.le_of_ble_eq_true rfl)⟩ ?_
  refine j_iconst (pc := 2) (v := nI 0) dX0_lettersOf_2 (by decide) ?_
  refine j_istore_n (pc := 3) (i := 3) (lv' := [.ref (Y.2.1 0), .int (nI f), .int (nI 0), .int (nI 0)]) dX0_lettersOf_3 rfl rfl ⟨(Nat.le_of_ble_eq_true rfl), (Nat.le_of_ble_eq_true rfl)⟩ ?_
  exact loop 0 (Nat.zero_le _)

theorem dX0_madeLetters_0 : decode cX0_madeLetters 0 = .ok (.iconst 0, 1) := by decide +kernel
theorem dX0_madeLetters_1 : decode cX0_madeLetters 1 = .ok (.istore_n 1, 1) := by decide +kernel
theorem dX0_madeLetters_2 : decode cX0_madeLetters 2 = .ok (.iconst 0, 1) := by decide +kernel
theorem dX0_madeLetters_3 : decode cX0_madeLetters 3 = .ok (.istore_n 2, 1) := by decide +kernel
theorem dX0_madeLetters_4 : decode cX0_madeLetters 4 = .ok (.iload_n 2, 1) := by decide +kernel
theorem dX0_madeLetters_5 : decode cX0_madeLetters 5 = .ok (.aload_n 0, 1) := by decide +kernel
theorem dX0_madeLetters_6 : decode cX0_madeLetters 6 = .ok (.getfield 44, 3) := by decide +kernel
theorem dX0_madeLetters_9 : decode cX0_madeLetters 9 = .ok (.if_icmp .ge 21, 3) := by decide +kernel
theorem dX0_madeLetters_12 : decode cX0_madeLetters 12 = .ok (.iload_n 1, 1) := by decide +kernel
theorem dX0_madeLetters_13 : decode cX0_madeLetters 13 = .ok (.aload_n 0, 1) := by decide +kernel
theorem dX0_madeLetters_14 : decode cX0_madeLetters 14 = .ok (.getfield 16, 3) := by decide +kernel
theorem dX0_madeLetters_17 : decode cX0_madeLetters 17 = .ok (.iload_n 2, 1) := by decide +kernel
theorem dX0_madeLetters_18 : decode cX0_madeLetters 18 = .ok (.baload, 1) := by decide +kernel
theorem dX0_madeLetters_19 : decode cX0_madeLetters 19 = .ok (.invokestatic 88, 3) := by decide +kernel
theorem dX0_madeLetters_22 : decode cX0_madeLetters 22 = .ok (.iadd, 1) := by decide +kernel
theorem dX0_madeLetters_23 : decode cX0_madeLetters 23 = .ok (.istore_n 1, 1) := by decide +kernel
theorem dX0_madeLetters_24 : decode cX0_madeLetters 24 = .ok (.iinc 2 1, 3) := by decide +kernel
theorem dX0_madeLetters_27 : decode cX0_madeLetters 27 = .ok (.goto (-23), 3) := by decide +kernel
theorem dX0_madeLetters_30 : decode cX0_madeLetters 30 = .ok (.iload_n 1, 1) := by decide +kernel
theorem dX0_madeLetters_31 : decode cX0_madeLetters 31 = .ok (.ireturn, 1) := by decide +kernel
set_option maxRecDepth 100000 in
set_option maxHeartbeats 4000000 in
theorem met_madeLetters (l : Launch) (Y : dL) (X : Nat → Nat → Nat) (hX : X 0 0 ≤ 8) (hc : ∀ i, i < X 0 0 → X 3 i < 128) : dMi l yX0_madeLetters cX0_madeLetters 3 (some .int) 2 Y [] X (fun r X' => X' = X ∧ r = nI (lts (X 3) (X 0 0))) := by
  refine d_ofi .int (own := RX0) rfl rfl (by decide) (Nat.le_of_ble_eq_true rfl) (by simp [lcat, Value.category]) ?_
  intro G hG ret
  have loop : ∀ i, i ≤ X 0 0 → J cX0_madeLetters 3 RX0 G (dV G Y (dA Y) X) 4 [.ref (Y.2.1 0), .int (nI (lts (X 3) i)), .int (nI i)] [] := by
    refine up_loop _ (X 0 0) ?_ (fun i hi ih => ?_)
    · skip
      refine j_iload_n (pc := 4) (i := 2) dX0_madeLetters_4 rfl rfl ?_
      refine j_aload_n (pc := 5) (i := 0) dX0_madeLetters_5 rfl rfl ?_
      refine d_get_madeSize (pc := 6) dX0_madeLetters_6 ?_
      refine n_icmp_ge (pc := 9) (tgt := 30) dX0_madeLetters_9 (by decide) (by omega) (fun h9 => ?_) (fun h9 => ?_)
      · skip
        refine j_iload_n (pc := 30) (i := 1) dX0_madeLetters_30 rfl rfl ?_
        exact ret _ _ _ _ dX0_madeLetters_31 rfl ⟨rfl, rfl⟩
      · skip
        exact absurd h9 (by omega)
    · skip
      refine j_iload_n (pc := 4) (i := 2) dX0_madeLetters_4 rfl rfl ?_
      refine j_aload_n (pc := 5) (i := 0) dX0_madeLetters_5 rfl rfl ?_
      refine d_get_madeSize (pc := 6) dX0_madeLetters_6 ?_
      refine n_icmp_ge (pc := 9) (tgt := 30) dX0_madeLetters_9 (by decide) (by omega) (fun h9 => ?_) (fun h9 => ?_)
      · skip
        exact absurd h9 (by omega)
      · skip
        refine j_iload_n (pc := 12) (i := 1) dX0_madeLetters_12 rfl rfl ?_
        refine j_aload_n (pc := 13) (i := 0) dX0_madeLetters_13 rfl rfl ?_
        refine d_get_made (pc := 14) dX0_madeLetters_14 ?_
        refine j_iload_n (pc := 17) (i := 2) dX0_madeLetters_17 rfl rfl ?_
        refine d_ld_made (pc := 18) dX0_madeLetters_18 (by omega) ?_
        refine s_calli (pc := 19) (st := [.int (nI (lts (X 3) i))]) (met_ones (kl G) Y.1 (X 3 i) (by have := hc i hi; omega)) hG (by decide) dX0_madeLetters_19 cpD_X0_ones (Nat.le_of_ble_eq_true rfl) rfl (fun r19 hr19 => ?_)
        subst hr19
        refine n_iadd (pc := 22) dX0_madeLetters_22 ?_
        refine j_istore_n (pc := 23) (i := 1) (lv' := [.ref (Y.2.1 0), .int (nI ((lts (X 3) i) + (pop (X 3 i) 8))), .int (nI i)]) dX0_madeLetters_23 rfl rfl ⟨(Nat.le_of_ble_eq_true rfl), (Nat.le_of_ble_eq_true rfl)⟩ ?_
        refine n_iinc (pc := 24) (n := 1) (lv' := [.ref (Y.2.1 0), .int (nI ((lts (X 3) i) + (pop (X 3 i) 8))), .int (nI (i + 1))]) dX0_madeLetters_24 rfl rfl (Nat.le_of_ble_eq_true rfl) ?_
        refine j_goto (pc := 27) (tgt := 4) dX0_madeLetters_27 (by decide) ?_
        exact ih
  refine j_iconst (pc := 0) (v := nI 0) dX0_madeLetters_0 (by decide) ?_
  refine j_istore_n (pc := 1) (i := 1) (lv' := [.ref (Y.2.1 0), .int (nI 0)]) dX0_madeLetters_1 rfl rfl ⟨(Nat.le_of_ble_eq_true rfl), (Nat.le_of_ble_eq_true rfl)⟩ ?_
  refine j_iconst (pc := 2) (v := nI 0) dX0_madeLetters_2 (by decide) ?_
  refine j_istore_n (pc := 3) (i := 2) (lv' := [.ref (Y.2.1 0), .int (nI 0), .int (nI 0)]) dX0_madeLetters_3 rfl rfl ⟨(Nat.le_of_ble_eq_true rfl), (Nat.le_of_ble_eq_true rfl)⟩ ?_
  exact loop 0 (Nat.zero_le _)

theorem dX0_isMade_0 : decode cX0_isMade 0 = .ok (.iconst 0, 1) := by decide +kernel
theorem dX0_isMade_1 : decode cX0_isMade 1 = .ok (.istore_n 2, 1) := by decide +kernel
theorem dX0_isMade_2 : decode cX0_isMade 2 = .ok (.iload_n 2, 1) := by decide +kernel
theorem dX0_isMade_3 : decode cX0_isMade 3 = .ok (.aload_n 0, 1) := by decide +kernel
theorem dX0_isMade_4 : decode cX0_isMade 4 = .ok (.getfield 44, 3) := by decide +kernel
theorem dX0_isMade_7 : decode cX0_isMade 7 = .ok (.if_icmp .ge 21, 3) := by decide +kernel
theorem dX0_isMade_10 : decode cX0_isMade 10 = .ok (.aload_n 0, 1) := by decide +kernel
theorem dX0_isMade_11 : decode cX0_isMade 11 = .ok (.getfield 16, 3) := by decide +kernel
theorem dX0_isMade_14 : decode cX0_isMade 14 = .ok (.iload_n 2, 1) := by decide +kernel
theorem dX0_isMade_15 : decode cX0_isMade 15 = .ok (.baload, 1) := by decide +kernel
theorem dX0_isMade_16 : decode cX0_isMade 16 = .ok (.iload_n 1, 1) := by decide +kernel
theorem dX0_isMade_17 : decode cX0_isMade 17 = .ok (.if_icmp .ne 5, 3) := by decide +kernel
theorem dX0_isMade_20 : decode cX0_isMade 20 = .ok (.iconst 1, 1) := by decide +kernel
theorem dX0_isMade_21 : decode cX0_isMade 21 = .ok (.ireturn, 1) := by decide +kernel
theorem dX0_isMade_22 : decode cX0_isMade 22 = .ok (.iinc 2 1, 3) := by decide +kernel
theorem dX0_isMade_25 : decode cX0_isMade 25 = .ok (.goto (-23), 3) := by decide +kernel
theorem dX0_isMade_28 : decode cX0_isMade 28 = .ok (.iconst 0, 1) := by decide +kernel
theorem dX0_isMade_29 : decode cX0_isMade 29 = .ok (.ireturn, 1) := by decide +kernel
set_option maxRecDepth 100000 in
set_option maxHeartbeats 4000000 in
theorem met_isMade (l : Launch) (Y : dL) (X : Nat → Nat → Nat) (c : Nat) (hc : c < 2147483648) (hX : X 0 0 ≤ 8) (h3 : ∀ i, i < X 0 0 → X 3 i < 128) : dMi l yX0_isMade cX0_isMade 3 (some .boolean) 1 Y [.int (nI c)] X (fun r X' => X' = X ∧ r = nI (anyN (fun i => decide (X 3 i = c)) (X 0 0)).toNat) := by
  refine d_ofi .boolean (own := RX0) rfl rfl (by decide) (Nat.le_of_ble_eq_true rfl) (by simp [lcat, Value.category]) ?_
  intro G hG ret
  have loop : ∀ i, i ≤ X 0 0 → (∀ j, j < i → X 3 j ≠ c) → J cX0_isMade 3 RX0 G (dV G Y (dA Y) X) 2 [.ref (Y.2.1 0), .int (nI c), .int (nI i)] [] := by
    refine up_loop _ (X 0 0) (fun hno => ?_) (fun i hi ih hno => ?_)
    · skip
      refine j_iload_n (pc := 2) (i := 2) dX0_isMade_2 rfl rfl ?_
      refine j_aload_n (pc := 3) (i := 0) dX0_isMade_3 rfl rfl ?_
      refine d_get_madeSize (pc := 4) dX0_isMade_4 ?_
      refine n_icmp_ge (pc := 7) (tgt := 28) dX0_isMade_7 (by decide) (by omega) (fun h7 => ?_) (fun h7 => ?_)
      · skip
        refine j_iconst (pc := 28) (v := nI 0) dX0_isMade_28 (by decide) ?_
        exact ret _ _ _ _ dX0_isMade_29 rfl ⟨rfl, by rw [anyN_f (fun i hi => decide_eq_false (hno i hi))]; rfl⟩
      · skip
        exact absurd h7 (by omega)
    · skip
      refine j_iload_n (pc := 2) (i := 2) dX0_isMade_2 rfl rfl ?_
      refine j_aload_n (pc := 3) (i := 0) dX0_isMade_3 rfl rfl ?_
      refine d_get_madeSize (pc := 4) dX0_isMade_4 ?_
      refine n_icmp_ge (pc := 7) (tgt := 28) dX0_isMade_7 (by decide) (by omega) (fun h7 => ?_) (fun h7 => ?_)
      · skip
        exact absurd h7 (by omega)
      · skip
        refine j_aload_n (pc := 10) (i := 0) dX0_isMade_10 rfl rfl ?_
        refine d_get_made (pc := 11) dX0_isMade_11 ?_
        refine j_iload_n (pc := 14) (i := 2) dX0_isMade_14 rfl rfl ?_
        refine d_ld_made (pc := 15) dX0_isMade_15 (by omega) ?_
        refine j_iload_n (pc := 16) (i := 1) dX0_isMade_16 rfl rfl ?_
        refine n_icmp_ne (pc := 17) (tgt := 22) dX0_isMade_17 (by decide) (by have := h3 i hi; omega) (fun h17 => ?_) (fun h17 => ?_)
        · skip
          refine n_iinc (pc := 22) (n := 1) (lv' := [.ref (Y.2.1 0), .int (nI c), .int (nI (i + 1))]) dX0_isMade_22 rfl rfl (Nat.le_of_ble_eq_true rfl) ?_
          refine j_goto (pc := 25) (tgt := 2) dX0_isMade_25 (by decide) ?_
          exact ih (lt_s hno h17)
        · skip
          refine j_iconst (pc := 20) (v := nI 1) dX0_isMade_20 (by decide) ?_
          exact ret _ _ _ _ dX0_isMade_21 rfl ⟨rfl, by rw [anyN_t hi (decide_eq_true h17)]; rfl⟩
  refine j_iconst (pc := 0) (v := nI 0) dX0_isMade_0 (by decide) ?_
  refine j_istore_n (pc := 1) (i := 2) (lv' := [.ref (Y.2.1 0), .int (nI c), .int (nI 0)]) dX0_isMade_1 rfl rfl ⟨(Nat.le_of_ble_eq_true rfl), (Nat.le_of_ble_eq_true rfl)⟩ ?_
  exact loop 0 (Nat.zero_le _) lt_0

theorem dX0_isProduct_0 : decode cX0_isProduct 0 = .ok (.iconst 0, 1) := by decide +kernel
theorem dX0_isProduct_1 : decode cX0_isProduct 1 = .ok (.istore_n 3, 1) := by decide +kernel
theorem dX0_isProduct_2 : decode cX0_isProduct 2 = .ok (.iload_n 3, 1) := by decide +kernel
theorem dX0_isProduct_3 : decode cX0_isProduct 3 = .ok (.aload_n 0, 1) := by decide +kernel
theorem dX0_isProduct_4 : decode cX0_isProduct 4 = .ok (.getfield 7, 3) := by decide +kernel
theorem dX0_isProduct_7 : decode cX0_isProduct 7 = .ok (.iload_n 2, 1) := by decide +kernel
theorem dX0_isProduct_8 : decode cX0_isProduct 8 = .ok (.baload, 1) := by decide +kernel
theorem dX0_isProduct_9 : decode cX0_isProduct 9 = .ok (.if_icmp .ge 46, 3) := by decide +kernel
theorem dX0_isProduct_12 : decode cX0_isProduct 12 = .ok (.aload_n 0, 1) := by decide +kernel
theorem dX0_isProduct_13 : decode cX0_isProduct 13 = .ok (.getfield 13, 3) := by decide +kernel
theorem dX0_isProduct_16 : decode cX0_isProduct 16 = .ok (.iload_n 2, 1) := by decide +kernel
theorem dX0_isProduct_17 : decode cX0_isProduct 17 = .ok (.bipush 8, 2) := by decide +kernel
theorem dX0_isProduct_19 : decode cX0_isProduct 19 = .ok (.imul, 1) := by decide +kernel
theorem dX0_isProduct_20 : decode cX0_isProduct 20 = .ok (.iload_n 3, 1) := by decide +kernel
theorem dX0_isProduct_21 : decode cX0_isProduct 21 = .ok (.iadd, 1) := by decide +kernel
theorem dX0_isProduct_22 : decode cX0_isProduct 22 = .ok (.baload, 1) := by decide +kernel
theorem dX0_isProduct_23 : decode cX0_isProduct 23 = .ok (.istore 4, 2) := by decide +kernel
theorem dX0_isProduct_25 : decode cX0_isProduct 25 = .ok (.iload 4, 2) := by decide +kernel
theorem dX0_isProduct_27 : decode cX0_isProduct 27 = .ok (.iload_n 1, 1) := by decide +kernel
theorem dX0_isProduct_28 : decode cX0_isProduct 28 = .ok (.iconst (-1), 1) := by decide +kernel
theorem dX0_isProduct_29 : decode cX0_isProduct 29 = .ok (.ixor, 1) := by decide +kernel
theorem dX0_isProduct_30 : decode cX0_isProduct 30 = .ok (.iand, 1) := by decide +kernel
theorem dX0_isProduct_31 : decode cX0_isProduct 31 = .ok (.ifCond .ne 18, 3) := by decide +kernel
theorem dX0_isProduct_34 : decode cX0_isProduct 34 = .ok (.aload_n 0, 1) := by decide +kernel
theorem dX0_isProduct_35 : decode cX0_isProduct 35 = .ok (.iload_n 1, 1) := by decide +kernel
theorem dX0_isProduct_36 : decode cX0_isProduct 36 = .ok (.iload 4, 2) := by decide +kernel
theorem dX0_isProduct_38 : decode cX0_isProduct 38 = .ok (.iconst (-1), 1) := by decide +kernel
theorem dX0_isProduct_39 : decode cX0_isProduct 39 = .ok (.ixor, 1) := by decide +kernel
theorem dX0_isProduct_40 : decode cX0_isProduct 40 = .ok (.iand, 1) := by decide +kernel
theorem dX0_isProduct_41 : decode cX0_isProduct 41 = .ok (.invokevirtual 66, 3) := by decide +kernel
theorem dX0_isProduct_44 : decode cX0_isProduct 44 = .ok (.ifCond .eq 5, 3) := by decide +kernel
theorem dX0_isProduct_47 : decode cX0_isProduct 47 = .ok (.iconst 1, 1) := by decide +kernel
theorem dX0_isProduct_48 : decode cX0_isProduct 48 = .ok (.ireturn, 1) := by decide +kernel
theorem dX0_isProduct_49 : decode cX0_isProduct 49 = .ok (.iinc 3 1, 3) := by decide +kernel
theorem dX0_isProduct_52 : decode cX0_isProduct 52 = .ok (.goto (-50), 3) := by decide +kernel
theorem dX0_isProduct_55 : decode cX0_isProduct 55 = .ok (.iconst 0, 1) := by decide +kernel
theorem dX0_isProduct_56 : decode cX0_isProduct 56 = .ok (.ireturn, 1) := by decide +kernel
set_option maxRecDepth 100000 in
set_option maxHeartbeats 4000000 in
theorem met_isProduct (l : Launch) (Y : dL) (X : Nat → Nat → Nat) (c g : Nat) (hc : c < 128) (hg : g < 4) (hXg : X 1 g ≤ 8) (hcg : ∀ i, i < X 1 g → X 2 (g * 8 + i) < 128) (hX0 : X 0 0 ≤ 8) (h3 : ∀ i, i < X 0 0 → X 3 i < 128) : dMi l yX0_isProduct cX0_isProduct 5 (some .boolean) 2 Y [.int (nI c), .int (nI g)] X (fun r X' => X' = X ∧ r = nI (anyN (fun k => decide (nd (gr X g k) c = 0) && anyN (fun i => decide (X 3 i = nd c (gr X g k))) (X 0 0)) (X 1 g)).toNat) := by
  refine d_ofi .boolean (own := RX0) rfl rfl (by decide) (Nat.le_of_ble_eq_true rfl) (by simp [lcat, Value.category]) ?_
  intro G hG ret
  have loop : ∀ k, k ≤ X 1 g → (∀ j, j < k → (fun k => decide (nd (gr X g k) c = 0) && anyN (fun i => decide (X 3 i = nd c (gr X g k))) (X 0 0)) j = false) → J cX0_isProduct 5 RX0 G (dV G Y (dA Y) X) 2 [.ref (Y.2.1 0), .int (nI c), .int (nI g), .int (nI k)] [] := by
    refine up_loop _ (X 1 g) (fun hno => ?_) (fun k hk ih hno => ?_)
    · skip
      refine j_iload_n (pc := 2) (i := 3) dX0_isProduct_2 rfl rfl ?_
      refine j_aload_n (pc := 3) (i := 0) dX0_isProduct_3 rfl rfl ?_
      refine d_get_sizes (pc := 4) dX0_isProduct_4 ?_
      refine j_iload_n (pc := 7) (i := 2) dX0_isProduct_7 rfl rfl ?_
      refine d_ld_sizes (pc := 8) dX0_isProduct_8 (by omega) ?_
      refine n_icmp_ge (pc := 9) (tgt := 55) dX0_isProduct_9 (by decide) (by omega) (fun h9 => ?_) (fun h9 => ?_)
      · skip
        refine j_iconst (pc := 55) (v := nI 0) dX0_isProduct_55 (by decide) ?_
        exact ret _ _ _ _ dX0_isProduct_56 rfl ⟨rfl, by rw [anyN_f hno]; rfl⟩
      · skip
        exact absurd h9 (by omega)
    · skip
      refine j_iload_n (pc := 2) (i := 3) dX0_isProduct_2 rfl rfl ?_
      refine j_aload_n (pc := 3) (i := 0) dX0_isProduct_3 rfl rfl ?_
      refine d_get_sizes (pc := 4) dX0_isProduct_4 ?_
      refine j_iload_n (pc := 7) (i := 2) dX0_isProduct_7 rfl rfl ?_
      refine d_ld_sizes (pc := 8) dX0_isProduct_8 (by omega) ?_
      refine n_icmp_ge (pc := 9) (tgt := 55) dX0_isProduct_9 (by decide) (by omega) (fun h9 => ?_) (fun h9 => ?_)
      · skip
        exact absurd h9 (by omega)
      · skip
        refine j_aload_n (pc := 12) (i := 0) dX0_isProduct_12 rfl rfl ?_
        refine d_get_cubes (pc := 13) dX0_isProduct_13 ?_
        refine j_iload_n (pc := 16) (i := 2) dX0_isProduct_16 rfl rfl ?_
        refine j_bipush (pc := 17) (v := nI 8) dX0_isProduct_17 (by decide) ?_
        refine n_imul (pc := 19) dX0_isProduct_19 ?_
        refine j_iload_n (pc := 20) (i := 3) dX0_isProduct_20 rfl rfl ?_
        refine n_iadd (pc := 21) dX0_isProduct_21 ?_
        refine d_ld_cubes (pc := 22) dX0_isProduct_22 (by omega) ?_
        refine j_istore (pc := 23) (i := 4) (lv' := [.ref (Y.2.1 0), .int (nI c), .int (nI g), .int (nI k), .int (nI (X 2 ((g * 8) + k)))]) dX0_isProduct_23 rfl ⟨(Nat.le_of_ble_eq_true rfl), (Nat.le_of_ble_eq_true rfl)⟩ ?_
        refine j_iload (pc := 25) dX0_isProduct_25 rfl ?_
        refine j_iload_n (pc := 27) (i := 1) dX0_isProduct_27 rfl rfl ?_
        refine n_andn (pc := 28) dX0_isProduct_28 dX0_isProduct_29 dX0_isProduct_30 ?_
        refine n_if_ne (pc := 31) (tgt := 49) dX0_isProduct_31 (by decide) (Nat.lt_of_le_of_lt (nd_le _ _) (by have := hcg k hk; omega)) (fun h31 => ?_) (fun h31 => ?_)
        · skip
          refine n_iinc (pc := 49) (n := 1) (lv' := [.ref (Y.2.1 0), .int (nI c), .int (nI g), .int (nI (k + 1)), .int (nI (X 2 ((g * 8) + k)))]) dX0_isProduct_49 rfl rfl (Nat.le_of_ble_eq_true rfl) ?_
          refine j_goto (pc := 52) (tgt := 2) dX0_isProduct_52 (by decide) ?_
          refine j_take 4 (lv' := [.ref (Y.2.1 0), .int (nI c), .int (nI g), .int (nI (k + 1))]) rfl ?_
          exact ih (lt_s hno (by show (decide (nd (X 2 (g * 8 + k)) c = 0) && anyN (fun i => decide (X 3 i = nd c (X 2 (g * 8 + k)))) (X 0 0)) = false; first | (rw [h44, Bool.and_false]; done) | (rw [decide_eq_false h31]; rfl)))
        · skip
          refine j_aload_n (pc := 34) (i := 0) dX0_isProduct_34 rfl rfl ?_
          refine j_iload_n (pc := 35) (i := 1) dX0_isProduct_35 rfl rfl ?_
          refine j_iload (pc := 36) dX0_isProduct_36 rfl ?_
          refine n_andn (pc := 38) dX0_isProduct_38 dX0_isProduct_39 dX0_isProduct_40 ?_
          refine d_calli (pc := 41) (st := []) (met_isMade (kl G) Y X (nd c (X 2 ((g * 8) + k))) (Nat.lt_of_le_of_lt (nd_le _ _) (by omega)) hX0 h3) hG (by decide) dX0_isProduct_41 cpD_X0_isMade (Nat.le_of_ble_eq_true rfl) rfl (fun r41 X41 hr41 => ?_)
          obtain ⟨hE41, hr41⟩ := hr41
          rw [hE41]
          subst hr41
          refine b_if_eq (pc := 44) (tgt := 49) dX0_isProduct_44 (by decide) (fun h44 => ?_) (fun h44 => ?_)
          · skip
            refine n_iinc (pc := 49) (n := 1) (lv' := [.ref (Y.2.1 0), .int (nI c), .int (nI g), .int (nI (k + 1)), .int (nI (X 2 ((g * 8) + k)))]) dX0_isProduct_49 rfl rfl (Nat.le_of_ble_eq_true rfl) ?_
            refine j_goto (pc := 52) (tgt := 2) dX0_isProduct_52 (by decide) ?_
            refine j_take 4 (lv' := [.ref (Y.2.1 0), .int (nI c), .int (nI g), .int (nI (k + 1))]) rfl ?_
            exact ih (lt_s hno (by show (decide (nd (X 2 (g * 8 + k)) c = 0) && anyN (fun i => decide (X 3 i = nd c (X 2 (g * 8 + k)))) (X 0 0)) = false; first | (rw [h44, Bool.and_false]; done) | (rw [decide_eq_false h31]; rfl)))
          · skip
            refine j_iconst (pc := 47) (v := nI 1) dX0_isProduct_47 (by decide) ?_
            exact ret _ _ _ _ dX0_isProduct_48 rfl ⟨rfl, by rw [anyN_t hk (show (fun k => decide (nd (gr X g k) c = 0) && anyN (fun i => decide (X 3 i = nd c (gr X g k))) (X 0 0)) k = true from by show (decide (nd (X 2 (g * 8 + k)) c = 0) && anyN (fun i => decide (X 3 i = nd c (X 2 (g * 8 + k)))) (X 0 0)) = true; rw [h44, decide_eq_true h31]; rfl)]; rfl⟩
  refine j_iconst (pc := 0) (v := nI 0) dX0_isProduct_0 (by decide) ?_
  refine j_istore_n (pc := 1) (i := 3) (lv' := [.ref (Y.2.1 0), .int (nI c), .int (nI g), .int (nI 0)]) dX0_isProduct_1 rfl rfl ⟨(Nat.le_of_ble_eq_true rfl), (Nat.le_of_ble_eq_true rfl)⟩ ?_
  exact loop 0 (Nat.zero_le _) lt_0

theorem dX0_defer_0 : decode cX0_defer 0 = .ok (.aload_n 0, 1) := by decide +kernel
theorem dX0_defer_1 : decode cX0_defer 1 = .ok (.getfield 27, 3) := by decide +kernel
theorem dX0_defer_4 : decode cX0_defer 4 = .ok (.aload_n 0, 1) := by decide +kernel
theorem dX0_defer_5 : decode cX0_defer 5 = .ok (.getfield 91, 3) := by decide +kernel
theorem dX0_defer_8 : decode cX0_defer 8 = .ok (.iload_n 1, 1) := by decide +kernel
theorem dX0_defer_9 : decode cX0_defer 9 = .ok (.i2b, 1) := by decide +kernel
theorem dX0_defer_10 : decode cX0_defer 10 = .ok (.bastore, 1) := by decide +kernel
theorem dX0_defer_11 : decode cX0_defer 11 = .ok (.aload_n 0, 1) := by decide +kernel
theorem dX0_defer_12 : decode cX0_defer 12 = .ok (.getfield 30, 3) := by decide +kernel
theorem dX0_defer_15 : decode cX0_defer 15 = .ok (.aload_n 0, 1) := by decide +kernel
theorem dX0_defer_16 : decode cX0_defer 16 = .ok (.getfield 91, 3) := by decide +kernel
theorem dX0_defer_19 : decode cX0_defer 19 = .ok (.iload_n 2, 1) := by decide +kernel
theorem dX0_defer_20 : decode cX0_defer 20 = .ok (.i2b, 1) := by decide +kernel
theorem dX0_defer_21 : decode cX0_defer 21 = .ok (.bastore, 1) := by decide +kernel
theorem dX0_defer_22 : decode cX0_defer 22 = .ok (.aload_n 0, 1) := by decide +kernel
theorem dX0_defer_23 : decode cX0_defer 23 = .ok (.dup, 1) := by decide +kernel
theorem dX0_defer_24 : decode cX0_defer 24 = .ok (.getfield 91, 3) := by decide +kernel
theorem dX0_defer_27 : decode cX0_defer 27 = .ok (.iconst 1, 1) := by decide +kernel
theorem dX0_defer_28 : decode cX0_defer 28 = .ok (.iadd, 1) := by decide +kernel
theorem dX0_defer_29 : decode cX0_defer 29 = .ok (.putfield 91, 3) := by decide +kernel
theorem dX0_defer_32 : decode cX0_defer 32 = .ok (.return_, 1) := by decide +kernel
set_option maxRecDepth 100000 in
set_option maxHeartbeats 4000000 in
theorem met_defer (l : Launch) (Y : dL) (X : Nat → Nat → Nat) (c b : Nat) (hc : c < 128) (hb : b < 128) (hw : X 0 1 < 128) : dMv l yX0_defer cX0_defer 3 1 Y [.int (nI c), .int (nI b)] X (fun X' => X' = up2 (up2 (up2 X 6 (X 0 1) c) 7 (X 0 1) b) 0 1 (X 0 1 + 1)) := by
  refine d_ofv (own := RX0) rfl (by decide) (Nat.le_of_ble_eq_true rfl) (by simp [lcat, Value.category]) ?_
  intro G hG ret
  refine j_aload_n (pc := 0) (i := 0) dX0_defer_0 rfl rfl ?_
  refine d_get_waitCube (pc := 1) dX0_defer_1 ?_
  refine j_aload_n (pc := 4) (i := 0) dX0_defer_4 rfl rfl ?_
  refine d_get_waiting (pc := 5) dX0_defer_5 ?_
  refine j_iload_n (pc := 8) (i := 1) dX0_defer_8 rfl rfl ?_
  refine n_i2b (pc := 9) dX0_defer_9 (by omega) ?_
  refine d_st_waitCube (pc := 10) dX0_defer_10 (by omega) (by omega) (fun X10 hX10 => ?_)
  have e1 : X10 0 1 = X 0 1 := by rw [hX10, up2_k _ _ _ (by decide)]
  refine j_aload_n (pc := 11) (i := 0) dX0_defer_11 rfl rfl ?_
  refine d_get_waitLetter (pc := 12) dX0_defer_12 ?_
  refine j_aload_n (pc := 15) (i := 0) dX0_defer_15 rfl rfl ?_
  refine d_get_waiting (pc := 16) dX0_defer_16 ?_
  refine j_iload_n (pc := 19) (i := 2) dX0_defer_19 rfl rfl ?_
  refine n_i2b (pc := 20) dX0_defer_20 (by omega) ?_
  refine d_st_waitLetter (pc := 21) dX0_defer_21 (by omega) (by omega) (fun X21 hX21 => ?_)
  have e2 : X21 0 1 = X 0 1 := by rw [hX21, up2_k _ _ _ (by decide), e1]
  refine j_aload_n (pc := 22) (i := 0) dX0_defer_22 rfl rfl ?_
  refine j_dup (pc := 23) dX0_defer_23 rfl ?_
  refine d_get_waiting (pc := 24) dX0_defer_24 ?_
  refine j_iconst (pc := 27) (v := nI 1) dX0_defer_27 (by decide) ?_
  refine n_iadd (pc := 28) dX0_defer_28 ?_
  refine d_put_waiting (pc := 29) dX0_defer_29 (fun X29 hX29 => ?_)
  exact ret _ _ _ dX0_defer_32 (by rw [hX29, hX21, hX10] ; rw [hX10] at e1; rw [e1]; rw [hX21, hX10] at e2; rw [e1] at e2; rw [e2])

theorem dX0_quotientBy_0 : decode cX0_quotientBy 0 = .ok (.aload_n 0, 1) := by decide +kernel
theorem dX0_quotientBy_1 : decode cX0_quotientBy 1 = .ok (.iconst 0, 1) := by decide +kernel
theorem dX0_quotientBy_2 : decode cX0_quotientBy 2 = .ok (.putfield 44, 3) := by decide +kernel
theorem dX0_quotientBy_5 : decode cX0_quotientBy 5 = .ok (.iconst 0, 1) := by decide +kernel
theorem dX0_quotientBy_6 : decode cX0_quotientBy 6 = .ok (.istore_n 3, 1) := by decide +kernel
theorem dX0_quotientBy_7 : decode cX0_quotientBy 7 = .ok (.iload_n 3, 1) := by decide +kernel
theorem dX0_quotientBy_8 : decode cX0_quotientBy 8 = .ok (.aload_n 0, 1) := by decide +kernel
theorem dX0_quotientBy_9 : decode cX0_quotientBy 9 = .ok (.getfield 7, 3) := by decide +kernel
theorem dX0_quotientBy_12 : decode cX0_quotientBy 12 = .ok (.iload_n 1, 1) := by decide +kernel
theorem dX0_quotientBy_13 : decode cX0_quotientBy 13 = .ok (.baload, 1) := by decide +kernel
theorem dX0_quotientBy_14 : decode cX0_quotientBy 14 = .ok (.if_icmp .ge 57, 3) := by decide +kernel
theorem dX0_quotientBy_17 : decode cX0_quotientBy 17 = .ok (.aload_n 0, 1) := by decide +kernel
theorem dX0_quotientBy_18 : decode cX0_quotientBy 18 = .ok (.getfield 13, 3) := by decide +kernel
theorem dX0_quotientBy_21 : decode cX0_quotientBy 21 = .ok (.iload_n 1, 1) := by decide +kernel
theorem dX0_quotientBy_22 : decode cX0_quotientBy 22 = .ok (.bipush 8, 2) := by decide +kernel
theorem dX0_quotientBy_24 : decode cX0_quotientBy 24 = .ok (.imul, 1) := by decide +kernel
theorem dX0_quotientBy_25 : decode cX0_quotientBy 25 = .ok (.iload_n 3, 1) := by decide +kernel
theorem dX0_quotientBy_26 : decode cX0_quotientBy 26 = .ok (.iadd, 1) := by decide +kernel
theorem dX0_quotientBy_27 : decode cX0_quotientBy 27 = .ok (.baload, 1) := by decide +kernel
theorem dX0_quotientBy_28 : decode cX0_quotientBy 28 = .ok (.istore 4, 2) := by decide +kernel
theorem dX0_quotientBy_30 : decode cX0_quotientBy 30 = .ok (.iload_n 2, 1) := by decide +kernel
theorem dX0_quotientBy_31 : decode cX0_quotientBy 31 = .ok (.iload 4, 2) := by decide +kernel
theorem dX0_quotientBy_33 : decode cX0_quotientBy 33 = .ok (.iconst (-1), 1) := by decide +kernel
theorem dX0_quotientBy_34 : decode cX0_quotientBy 34 = .ok (.ixor, 1) := by decide +kernel
theorem dX0_quotientBy_35 : decode cX0_quotientBy 35 = .ok (.iand, 1) := by decide +kernel
theorem dX0_quotientBy_36 : decode cX0_quotientBy 36 = .ok (.ifCond .ne 29, 3) := by decide +kernel
theorem dX0_quotientBy_39 : decode cX0_quotientBy 39 = .ok (.aload_n 0, 1) := by decide +kernel
theorem dX0_quotientBy_40 : decode cX0_quotientBy 40 = .ok (.getfield 16, 3) := by decide +kernel
theorem dX0_quotientBy_43 : decode cX0_quotientBy 43 = .ok (.aload_n 0, 1) := by decide +kernel
theorem dX0_quotientBy_44 : decode cX0_quotientBy 44 = .ok (.getfield 44, 3) := by decide +kernel
theorem dX0_quotientBy_47 : decode cX0_quotientBy 47 = .ok (.iload 4, 2) := by decide +kernel
theorem dX0_quotientBy_49 : decode cX0_quotientBy 49 = .ok (.iload_n 2, 1) := by decide +kernel
theorem dX0_quotientBy_50 : decode cX0_quotientBy 50 = .ok (.iconst (-1), 1) := by decide +kernel
theorem dX0_quotientBy_51 : decode cX0_quotientBy 51 = .ok (.ixor, 1) := by decide +kernel
theorem dX0_quotientBy_52 : decode cX0_quotientBy 52 = .ok (.iand, 1) := by decide +kernel
theorem dX0_quotientBy_53 : decode cX0_quotientBy 53 = .ok (.i2b, 1) := by decide +kernel
theorem dX0_quotientBy_54 : decode cX0_quotientBy 54 = .ok (.bastore, 1) := by decide +kernel
theorem dX0_quotientBy_55 : decode cX0_quotientBy 55 = .ok (.aload_n 0, 1) := by decide +kernel
theorem dX0_quotientBy_56 : decode cX0_quotientBy 56 = .ok (.dup, 1) := by decide +kernel
theorem dX0_quotientBy_57 : decode cX0_quotientBy 57 = .ok (.getfield 44, 3) := by decide +kernel
theorem dX0_quotientBy_60 : decode cX0_quotientBy 60 = .ok (.iconst 1, 1) := by decide +kernel
theorem dX0_quotientBy_61 : decode cX0_quotientBy 61 = .ok (.iadd, 1) := by decide +kernel
theorem dX0_quotientBy_62 : decode cX0_quotientBy 62 = .ok (.putfield 44, 3) := by decide +kernel
theorem dX0_quotientBy_65 : decode cX0_quotientBy 65 = .ok (.iinc 3 1, 3) := by decide +kernel
theorem dX0_quotientBy_68 : decode cX0_quotientBy 68 = .ok (.goto (-61), 3) := by decide +kernel
theorem dX0_quotientBy_71 : decode cX0_quotientBy 71 = .ok (.return_, 1) := by decide +kernel
set_option maxRecDepth 100000 in
set_option maxHeartbeats 4000000 in
theorem met_quotientBy (l : Launch) (Y : dL) (X : Nat → Nat → Nat) (f c : Nat) (hf : f < 4) (hX : X 1 f ≤ 8) (hc : c < 128) (hcf : ∀ i, i < X 1 f → X 2 (f * 8 + i) < 128) : dMv l yX0_quotientBy cX0_quotientBy 5 1 Y [.int (nI f), .int (nI c)] X (fun X' => X' 1 = X 1 ∧ X' 2 = X 2 ∧ hm X' (qb (gr X f) c (X 1 f))) := by
  refine d_ofv (own := RX0) rfl (by decide) (Nat.le_of_ble_eq_true rfl) (by simp [lcat, Value.category]) ?_
  intro G hG ret
  have loop : ∀ i, i ≤ X 1 f → ∀ X', X' 1 = X 1 ∧ X' 2 = X 2 ∧ hm X' (qb (gr X f) c i) → J cX0_quotientBy 5 RX0 G (dV G Y (dA Y) X') 7 [.ref (Y.2.1 0), .int (nI f), .int (nI c), .int (nI i)] [] := by
    refine up_loop _ (X 1 f) (fun X' hI => ?_) (fun i hi ih X' hI => ?_)
    · skip
      obtain ⟨hI1, hI2, hI3⟩ := hI
      have hs1 : X' 1 f = X 1 f := by rw [hI1]
      refine j_iload_n (pc := 7) (i := 3) dX0_quotientBy_7 rfl rfl ?_
      refine j_aload_n (pc := 8) (i := 0) dX0_quotientBy_8 rfl rfl ?_
      refine d_get_sizes (pc := 9) dX0_quotientBy_9 ?_
      refine j_iload_n (pc := 12) (i := 1) dX0_quotientBy_12 rfl rfl ?_
      refine d_ld_sizes (pc := 13) dX0_quotientBy_13 (by omega) ?_
      refine n_icmp_ge (pc := 14) (tgt := 71) dX0_quotientBy_14 (by decide) (by omega) (fun h14 => ?_) (fun h14 => ?_)
      · skip
        exact ret _ _ _ dX0_quotientBy_71 ⟨hI1, hI2, hI3⟩
      · skip
        exact absurd h14 (by omega)
    · skip
      obtain ⟨hI1, hI2, hI3⟩ := hI
      have hs1 : X' 1 f = X 1 f := by rw [hI1]
      refine j_iload_n (pc := 7) (i := 3) dX0_quotientBy_7 rfl rfl ?_
      refine j_aload_n (pc := 8) (i := 0) dX0_quotientBy_8 rfl rfl ?_
      refine d_get_sizes (pc := 9) dX0_quotientBy_9 ?_
      refine j_iload_n (pc := 12) (i := 1) dX0_quotientBy_12 rfl rfl ?_
      refine d_ld_sizes (pc := 13) dX0_quotientBy_13 (by omega) ?_
      refine n_icmp_ge (pc := 14) (tgt := 71) dX0_quotientBy_14 (by decide) (by omega) (fun h14 => ?_) (fun h14 => ?_)
      · skip
        exact absurd h14 (by omega)
      · skip
        refine j_aload_n (pc := 17) (i := 0) dX0_quotientBy_17 rfl rfl ?_
        refine d_get_cubes (pc := 18) dX0_quotientBy_18 ?_
        refine j_iload_n (pc := 21) (i := 1) dX0_quotientBy_21 rfl rfl ?_
        refine j_bipush (pc := 22) (v := nI 8) dX0_quotientBy_22 (by decide) ?_
        refine n_imul (pc := 24) dX0_quotientBy_24 ?_
        refine j_iload_n (pc := 25) (i := 3) dX0_quotientBy_25 rfl rfl ?_
        refine n_iadd (pc := 26) dX0_quotientBy_26 ?_
        refine d_ld_cubes (pc := 27) dX0_quotientBy_27 (by omega) ?_
        refine j_istore (pc := 28) (i := 4) (lv' := [.ref (Y.2.1 0), .int (nI f), .int (nI c), .int (nI i), .int (nI (X' 2 ((f * 8) + i)))]) dX0_quotientBy_28 rfl ⟨(Nat.le_of_ble_eq_true rfl), (Nat.le_of_ble_eq_true rfl)⟩ ?_
        refine j_iload_n (pc := 30) (i := 2) dX0_quotientBy_30 rfl rfl ?_
        refine j_iload (pc := 31) dX0_quotientBy_31 rfl ?_
        refine n_andn (pc := 33) dX0_quotientBy_33 dX0_quotientBy_34 dX0_quotientBy_35 ?_
        refine n_if_ne (pc := 36) (tgt := 65) dX0_quotientBy_36 (by decide) (Nat.lt_of_le_of_lt (nd_le _ _) (by omega)) (fun h36 => ?_) (fun h36 => ?_)
        · skip
          skip
          refine n_iinc (pc := 65) (n := 1) (lv' := [.ref (Y.2.1 0), .int (nI f), .int (nI c), .int (nI (i + 1)), .int (nI (X' 2 ((f * 8) + i)))]) dX0_quotientBy_65 rfl rfl (Nat.le_of_ble_eq_true rfl) ?_
          refine j_goto (pc := 68) (tgt := 7) dX0_quotientBy_68 (by decide) ?_
          refine j_take 4 (lv' := [.ref (Y.2.1 0), .int (nI f), .int (nI c), .int (nI (i + 1))]) rfl ?_
          refine ih X' ⟨hI1, hI2, ?_⟩
          rw [qb_n (by show nd c (X 2 (f * 8 + i)) ≠ 0; rw [← hI2]; exact h36)]
          exact hI3
        · skip
          have hq1 := qb_len (gr X f) c i
          have hm1 := hI3.1
          have hcc : X' 2 (f * 8 + i) < 128 := by rw [hI2]; exact hcf i hi
          refine j_aload_n (pc := 39) (i := 0) dX0_quotientBy_39 rfl rfl ?_
          refine d_get_made (pc := 40) dX0_quotientBy_40 ?_
          refine j_aload_n (pc := 43) (i := 0) dX0_quotientBy_43 rfl rfl ?_
          refine d_get_madeSize (pc := 44) dX0_quotientBy_44 ?_
          refine j_iload (pc := 47) dX0_quotientBy_47 rfl ?_
          refine j_iload_n (pc := 49) (i := 2) dX0_quotientBy_49 rfl rfl ?_
          refine n_andn (pc := 50) dX0_quotientBy_50 dX0_quotientBy_51 dX0_quotientBy_52 ?_
          refine n_i2b (pc := 53) dX0_quotientBy_53 (Nat.lt_of_le_of_lt (nd_le _ _) hcc) ?_
          refine d_st_made (pc := 54) dX0_quotientBy_54 (by omega) (Nat.lt_of_le_of_lt (nd_le _ _) hcc) (fun X54 hX54 => ?_)
          have e1 : X54 0 0 = X' 0 0 := by rw [hX54, up2_k _ _ _ (by decide)]
          refine j_aload_n (pc := 55) (i := 0) dX0_quotientBy_55 rfl rfl ?_
          refine j_dup (pc := 56) dX0_quotientBy_56 rfl ?_
          refine d_get_madeSize (pc := 57) dX0_quotientBy_57 ?_
          refine j_iconst (pc := 60) (v := nI 1) dX0_quotientBy_60 (by decide) ?_
          refine n_iadd (pc := 61) dX0_quotientBy_61 ?_
          refine d_put_madeSize (pc := 62) dX0_quotientBy_62 (fun X62 hX62 => ?_)
          skip
          refine n_iinc (pc := 65) (n := 1) (lv' := [.ref (Y.2.1 0), .int (nI f), .int (nI c), .int (nI (i + 1)), .int (nI (X' 2 ((f * 8) + i)))]) dX0_quotientBy_65 rfl rfl (Nat.le_of_ble_eq_true rfl) ?_
          refine j_goto (pc := 68) (tgt := 7) dX0_quotientBy_68 (by decide) ?_
          refine j_take 4 (lv' := [.ref (Y.2.1 0), .int (nI f), .int (nI c), .int (nI (i + 1))]) rfl ?_
          refine ih X62 ⟨?_, ?_, ?_⟩
          · rw [hX62, up2_k _ _ _ (by decide), hX54, up2_k _ _ _ (by decide), hI1]
          · rw [hX62, up2_k _ _ _ (by decide), hX54, up2_k _ _ _ (by decide), hI2]
          · rw [qb_y (by show nd c (X 2 (f * 8 + i)) = 0; rw [← hI2]; exact h36)]
            refine hm_push hI3 ?_ ?_ ?_
            · rw [hX62, up2_s, e1]
            · rw [hX62, up2_k _ _ _ (by decide), hX54, up2_s]
              show nd (X' 2 (f * 8 + i)) c = nd (X 2 (f * 8 + i)) c
              rw [hI2]
            · intro j hj
              rw [hX62, up2_k _ _ _ (by decide), hX54, up2_n _ _ _ (by omega)]
  refine j_aload_n (pc := 0) (i := 0) dX0_quotientBy_0 rfl rfl ?_
  refine j_iconst (pc := 1) (v := nI 0) dX0_quotientBy_1 (by decide) ?_
  refine d_put_madeSize (pc := 2) dX0_quotientBy_2 (fun X2 hX2 => ?_)
  refine j_iconst (pc := 5) (v := nI 0) dX0_quotientBy_5 (by decide) ?_
  refine j_istore_n (pc := 6) (i := 3) (lv' := [.ref (Y.2.1 0), .int (nI f), .int (nI c), .int (nI 0)]) dX0_quotientBy_6 rfl rfl ⟨(Nat.le_of_ble_eq_true rfl), (Nat.le_of_ble_eq_true rfl)⟩ ?_
  exact loop 0 (Nat.zero_le _) X2 ⟨by rw [hX2, up2_k _ _ _ (by decide)], by rw [hX2, up2_k _ _ _ (by decide)], hm_0 (by rw [hX2, up2_s])⟩
end
section
/-! the desk: put, take, clear, size, cube, canDivide -/
def shf (X : Nat → Nat → Nat) (b n i : Nat) (X' : Nat → Nat → Nat) : Prop := (∀ k, k ≠ 2 → X' k = X k) ∧ ∀ j, X' 2 j = if b + i < j ∧ j ≤ b + n then X 2 (j - 1) else X 2 j
theorem shf_0 (X : Nat → Nat → Nat) (b n : Nat) : shf X b n n X := ⟨fun _ _ => rfl, fun j => by rw [if_neg (by omega)]⟩
theorem shf_step {X X' X'' : Nat → Nat → Nat} {b n i : Nat} (h : shf X b n (i + 1) X') (hi : i + 1 ≤ n) (h2 : X'' = up2 X' 2 (b + (i + 1)) (X' 2 (b + (i + 1) - 1))) : shf X b n i X'' := by
  refine ⟨fun k hk => by rw [h2, up2_k _ _ _ hk]; exact h.1 k hk, fun j => ?_⟩
  rw [h2]
  by_cases e : j = b + (i + 1)
  · subst e
    rw [up2_s, h.2, if_neg (by omega), if_pos (by omega)]
  · rw [up2_n _ _ _ e, h.2]
    by_cases c : b + (i + 1) < j ∧ j ≤ b + n
    · rw [if_pos c, if_pos (by omega)]
    · rw [if_neg c, if_neg (by omega)]
/-- X' is X with the cube c put among the cubes of e -/
def putQ (X : Nat → Nat → Nat) (e c : Nat) (X' : Nat → Nat → Nat) : Prop := ∃ p, p ≤ X 1 e ∧ (p = 0 ∨ X 2 (e * 8 + p - 1) ≤ c) ∧ (∀ j, p ≤ j → j < X 1 e → c < X 2 (e * 8 + j)) ∧ (∀ f, X' 1 f = if f = e then X 1 e + 1 else X 1 f) ∧ (∀ j, X' 2 j = if j = e * 8 + p then c else if e * 8 + p < j ∧ j ≤ e * 8 + X 1 e then X 2 (j - 1) else X 2 j) ∧ ∀ k, k ≠ 1 → k ≠ 2 → X' k = X k
theorem putQ_of {X X1 X2 X3 : Nat → Nat → Nat} {e c i : Nat} (hi : i ≤ X 1 e) (h : shf X (e * 8) (X 1 e) i X1) (hp : i = 0 ∨ X 2 (e * 8 + i - 1) ≤ c) (hg : ∀ j, i ≤ j → j < X 1 e → c < X 2 (e * 8 + j)) (h2 : X2 = up2 X1 2 (e * 8 + i) c) (h3 : X3 = up2 X2 1 e (X2 1 e + 1)) : putQ X e c X3 := by
  have a1 : X2 1 = X 1 := by rw [h2, up2_k _ _ _ (by decide)]; exact h.1 1 (by decide)
  refine ⟨i, hi, hp, hg, fun f => ?_, fun j => ?_, fun k k1 k2 => ?_⟩
  · rw [h3]
    by_cases q : f = e
    · subst q
      rw [up2_s, if_pos rfl, a1]
    · rw [up2_n _ _ _ q, if_neg q, a1]
  · rw [h3, up2_k _ _ _ (by decide), h2]
    by_cases q : j = e * 8 + i
    · subst q
      rw [up2_s, if_pos rfl]
    · rw [up2_n _ _ _ q, if_neg q]
      exact h.2 j
  · rw [h3, up2_k _ _ _ k1, h2, up2_k _ _ _ k2]
    exact h.1 k k2
/-- what put answers and does -/
def putP (X : Nat → Nat → Nat) (x c : Int32) (r : Int32) (X' : Nat → Nat → Nat) : Prop :=
  (r = nI 0 ∧ X' = X ∧ ∀ k, k < 4 → x ≠ nI k) ∨ (r = nI 0 ∧ X' = X ∧ ∀ k, k < 128 → c ≠ nI k) ∨
  ∃ e k, e < 4 ∧ k < 128 ∧ x = nI e ∧ c = nI k ∧ ((r = nI 1 ∧ X' = X ∧ ∃ i, i < X 1 e ∧ X 2 (e * 8 + i) = k) ∨ ((∀ i, i < X 1 e → X 2 (e * 8 + i) ≠ k) ∧ ((r = nI 0 ∧ X' = X ∧ 8 ≤ X 1 e) ∨ (r = nI 1 ∧ X 1 e < 8 ∧ putQ X e k X'))))

theorem dX0_put_0 : decode cX0_put 0 = .ok (.iload_n 1, 1) := by decide +kernel
theorem dX0_put_1 : decode cX0_put 1 = .ok (.invokestatic 33, 3) := by decide +kernel
theorem dX0_put_4 : decode cX0_put 4 = .ok (.ifCond .eq 10, 3) := by decide +kernel
theorem dX0_put_7 : decode cX0_put 7 = .ok (.iload_n 2, 1) := by decide +kernel
theorem dX0_put_8 : decode cX0_put 8 = .ok (.invokestatic 37, 3) := by decide +kernel
theorem dX0_put_11 : decode cX0_put 11 = .ok (.ifCond .ne 5, 3) := by decide +kernel
theorem dX0_put_14 : decode cX0_put 14 = .ok (.iconst 0, 1) := by decide +kernel
theorem dX0_put_15 : decode cX0_put 15 = .ok (.ireturn, 1) := by decide +kernel
theorem dX0_put_16 : decode cX0_put 16 = .ok (.aload_n 0, 1) := by decide +kernel
theorem dX0_put_17 : decode cX0_put 17 = .ok (.iload_n 1, 1) := by decide +kernel
theorem dX0_put_18 : decode cX0_put 18 = .ok (.iload_n 2, 1) := by decide +kernel
theorem dX0_put_19 : decode cX0_put 19 = .ok (.invokevirtual 40, 3) := by decide +kernel
theorem dX0_put_22 : decode cX0_put 22 = .ok (.ifCond .lt 5, 3) := by decide +kernel
theorem dX0_put_25 : decode cX0_put 25 = .ok (.iconst 1, 1) := by decide +kernel
theorem dX0_put_26 : decode cX0_put 26 = .ok (.ireturn, 1) := by decide +kernel
theorem dX0_put_27 : decode cX0_put 27 = .ok (.aload_n 0, 1) := by decide +kernel
theorem dX0_put_28 : decode cX0_put 28 = .ok (.getfield 7, 3) := by decide +kernel
theorem dX0_put_31 : decode cX0_put 31 = .ok (.iload_n 1, 1) := by decide +kernel
theorem dX0_put_32 : decode cX0_put 32 = .ok (.baload, 1) := by decide +kernel
theorem dX0_put_33 : decode cX0_put 33 = .ok (.bipush 8, 2) := by decide +kernel
theorem dX0_put_35 : decode cX0_put 35 = .ok (.if_icmp .lt 5, 3) := by decide +kernel
theorem dX0_put_38 : decode cX0_put 38 = .ok (.iconst 0, 1) := by decide +kernel
theorem dX0_put_39 : decode cX0_put 39 = .ok (.ireturn, 1) := by decide +kernel
theorem dX0_put_40 : decode cX0_put 40 = .ok (.aload_n 0, 1) := by decide +kernel
theorem dX0_put_41 : decode cX0_put 41 = .ok (.getfield 7, 3) := by decide +kernel
theorem dX0_put_44 : decode cX0_put 44 = .ok (.iload_n 1, 1) := by decide +kernel
theorem dX0_put_45 : decode cX0_put 45 = .ok (.baload, 1) := by decide +kernel
theorem dX0_put_46 : decode cX0_put 46 = .ok (.istore_n 3, 1) := by decide +kernel
theorem dX0_put_47 : decode cX0_put 47 = .ok (.iload_n 3, 1) := by decide +kernel
theorem dX0_put_48 : decode cX0_put 48 = .ok (.ifCond .le 50, 3) := by decide +kernel
theorem dX0_put_51 : decode cX0_put 51 = .ok (.aload_n 0, 1) := by decide +kernel
theorem dX0_put_52 : decode cX0_put 52 = .ok (.getfield 13, 3) := by decide +kernel
theorem dX0_put_55 : decode cX0_put 55 = .ok (.iload_n 1, 1) := by decide +kernel
theorem dX0_put_56 : decode cX0_put 56 = .ok (.bipush 8, 2) := by decide +kernel
theorem dX0_put_58 : decode cX0_put 58 = .ok (.imul, 1) := by decide +kernel
theorem dX0_put_59 : decode cX0_put 59 = .ok (.iload_n 3, 1) := by decide +kernel
theorem dX0_put_60 : decode cX0_put 60 = .ok (.iadd, 1) := by decide +kernel
theorem dX0_put_61 : decode cX0_put 61 = .ok (.iconst 1, 1) := by decide +kernel
theorem dX0_put_62 : decode cX0_put 62 = .ok (.isub, 1) := by decide +kernel
theorem dX0_put_63 : decode cX0_put 63 = .ok (.baload, 1) := by decide +kernel
theorem dX0_put_64 : decode cX0_put 64 = .ok (.iload_n 2, 1) := by decide +kernel
theorem dX0_put_65 : decode cX0_put 65 = .ok (.if_icmp .le 33, 3) := by decide +kernel
theorem dX0_put_68 : decode cX0_put 68 = .ok (.aload_n 0, 1) := by decide +kernel
theorem dX0_put_69 : decode cX0_put 69 = .ok (.getfield 13, 3) := by decide +kernel
theorem dX0_put_72 : decode cX0_put 72 = .ok (.iload_n 1, 1) := by decide +kernel
theorem dX0_put_73 : decode cX0_put 73 = .ok (.bipush 8, 2) := by decide +kernel
theorem dX0_put_75 : decode cX0_put 75 = .ok (.imul, 1) := by decide +kernel
theorem dX0_put_76 : decode cX0_put 76 = .ok (.iload_n 3, 1) := by decide +kernel
theorem dX0_put_77 : decode cX0_put 77 = .ok (.iadd, 1) := by decide +kernel
theorem dX0_put_78 : decode cX0_put 78 = .ok (.aload_n 0, 1) := by decide +kernel
theorem dX0_put_79 : decode cX0_put 79 = .ok (.getfield 13, 3) := by decide +kernel
theorem dX0_put_82 : decode cX0_put 82 = .ok (.iload_n 1, 1) := by decide +kernel
theorem dX0_put_83 : decode cX0_put 83 = .ok (.bipush 8, 2) := by decide +kernel
theorem dX0_put_85 : decode cX0_put 85 = .ok (.imul, 1) := by decide +kernel
theorem dX0_put_86 : decode cX0_put 86 = .ok (.iload_n 3, 1) := by decide +kernel
theorem dX0_put_87 : decode cX0_put 87 = .ok (.iadd, 1) := by decide +kernel
theorem dX0_put_88 : decode cX0_put 88 = .ok (.iconst 1, 1) := by decide +kernel
theorem dX0_put_89 : decode cX0_put 89 = .ok (.isub, 1) := by decide +kernel
theorem dX0_put_90 : decode cX0_put 90 = .ok (.baload, 1) := by decide +kernel
theorem dX0_put_91 : decode cX0_put 91 = .ok (.bastore, 1) := by decide +kernel
theorem dX0_put_92 : decode cX0_put 92 = .ok (.iinc 3 (-1), 3) := by decide +kernel
theorem dX0_put_95 : decode cX0_put 95 = .ok (.goto (-48), 3) := by decide +kernel
theorem dX0_put_98 : decode cX0_put 98 = .ok (.aload_n 0, 1) := by decide +kernel
theorem dX0_put_99 : decode cX0_put 99 = .ok (.getfield 13, 3) := by decide +kernel
theorem dX0_put_102 : decode cX0_put 102 = .ok (.iload_n 1, 1) := by decide +kernel
theorem dX0_put_103 : decode cX0_put 103 = .ok (.bipush 8, 2) := by decide +kernel
theorem dX0_put_105 : decode cX0_put 105 = .ok (.imul, 1) := by decide +kernel
theorem dX0_put_106 : decode cX0_put 106 = .ok (.iload_n 3, 1) := by decide +kernel
theorem dX0_put_107 : decode cX0_put 107 = .ok (.iadd, 1) := by decide +kernel
theorem dX0_put_108 : decode cX0_put 108 = .ok (.iload_n 2, 1) := by decide +kernel
theorem dX0_put_109 : decode cX0_put 109 = .ok (.i2b, 1) := by decide +kernel
theorem dX0_put_110 : decode cX0_put 110 = .ok (.bastore, 1) := by decide +kernel
theorem dX0_put_111 : decode cX0_put 111 = .ok (.aload_n 0, 1) := by decide +kernel
theorem dX0_put_112 : decode cX0_put 112 = .ok (.getfield 7, 3) := by decide +kernel
theorem dX0_put_115 : decode cX0_put 115 = .ok (.iload_n 1, 1) := by decide +kernel
theorem dX0_put_116 : decode cX0_put 116 = .ok (.dup2, 1) := by decide +kernel
theorem dX0_put_117 : decode cX0_put 117 = .ok (.baload, 1) := by decide +kernel
theorem dX0_put_118 : decode cX0_put 118 = .ok (.iconst 1, 1) := by decide +kernel
theorem dX0_put_119 : decode cX0_put 119 = .ok (.iadd, 1) := by decide +kernel
theorem dX0_put_120 : decode cX0_put 120 = .ok (.i2b, 1) := by decide +kernel
theorem dX0_put_121 : decode cX0_put 121 = .ok (.bastore, 1) := by decide +kernel
theorem dX0_put_122 : decode cX0_put 122 = .ok (.iconst 1, 1) := by decide +kernel
theorem dX0_put_123 : decode cX0_put 123 = .ok (.ireturn, 1) := by decide +kernel
set_option maxRecDepth 100000 in
set_option maxHeartbeats 4000000 in
theorem met_put (l : Launch) (Y : dL) (X : Nat → Nat → Nat) (x c : Int32) (hok : okX X) : dMi l yX0_put cX0_put 4 (some .boolean) 2 Y [.int x, .int c] X (putP X x c) := by
  refine d_ofi .boolean (own := RX0) rfl rfl (by decide) (Nat.le_of_ble_eq_true rfl) (by simp [lcat, Value.category]) ?_
  intro G hG ret
  refine j_iload_n (pc := 0) (i := 1) dX0_put_0 rfl rfl ?_
  refine s_calli (pc := 1) (st := []) (met_isExpression (kl G) Y.1 x) hG (by decide) dX0_put_1 cpD_X0_isExpression (Nat.le_of_ble_eq_true rfl) rfl (fun r1 hr1 => ?_)
  rcases hr1 with ⟨rfl, hq1⟩ | ⟨rfl, hbx⟩
  · skip
    obtain ⟨x0, hx0, rfl⟩ := hq1
    refine n_if_eq (pc := 4) (tgt := 14) dX0_put_4 (by decide) (by decide) (fun h => absurd h (by decide)) (fun _ => ?_)
    refine j_iload_n (pc := 7) (i := 2) dX0_put_7 rfl rfl ?_
    refine s_calli (pc := 8) (st := []) (met_isCube (kl G) Y.1 c) hG (by decide) dX0_put_8 cpD_X0_isCube (Nat.le_of_ble_eq_true rfl) rfl (fun r8 hr8 => ?_)
    rcases hr8 with ⟨rfl, hq8⟩ | ⟨rfl, hbc⟩
    · skip
      obtain ⟨c0, hc0, rfl⟩ := hq8
      refine n_if_ne (pc := 11) (tgt := 16) dX0_put_11 (by decide) (by decide) (fun _ => ?_) (fun h => absurd h (by decide))
      obtain ⟨hs, hcb⟩ := hok x0 hx0
      refine j_aload_n (pc := 16) (i := 0) dX0_put_16 rfl rfl ?_
      refine j_iload_n (pc := 17) (i := 1) dX0_put_17 rfl rfl ?_
      refine j_iload_n (pc := 18) (i := 2) dX0_put_18 rfl rfl ?_
      refine d_calli (pc := 19) (st := []) (met_find (kl G) Y X x0 (nI c0) (by omega) hs) hG (by decide) dX0_put_19 cpD_X0_find (Nat.le_of_ble_eq_true rfl) rfl (fun r19 X19 hr19 => ?_)
      obtain ⟨hE19, hf19⟩ := hr19
      rw [hE19]
      rcases hf19 with ⟨i19, hi19, hc19, rfl⟩ | ⟨rfl, hno19⟩
      · skip
        skip
        refine n_if_lt (pc := 22) (tgt := 27) dX0_put_22 (by decide) (by omega) ?_
        refine j_iconst (pc := 25) (v := nI 1) dX0_put_25 (by decide) ?_
        exact ret _ _ _ _ dX0_put_26 rfl (Or.inr (Or.inr ⟨x0, c0, hx0, hc0, rfl, rfl, Or.inl ⟨rfl, rfl, i19, hi19, (nI_eq (by have := hcb i19 hi19; omega) (by omega)).mp hc19⟩⟩))
      · skip
        skip
        refine j_if_lt (pc := 22) (tgt := 27) dX0_put_22 (by decide) (fun _ => ?_) (fun h => absurd (by decide) h)
        have hno : ∀ i, i < X 1 x0 → X 2 (x0 * 8 + i) ≠ c0 := fun i hi e => hno19 i hi (by rw [e])
        refine j_aload_n (pc := 27) (i := 0) dX0_put_27 rfl rfl ?_
        refine d_get_sizes (pc := 28) dX0_put_28 ?_
        refine j_iload_n (pc := 31) (i := 1) dX0_put_31 rfl rfl ?_
        refine d_ld_sizes (pc := 32) dX0_put_32 (by omega) ?_
        refine j_bipush (pc := 33) (v := nI 8) dX0_put_33 (by decide) ?_
        refine n_icmp_lt (pc := 35) (tgt := 40) dX0_put_35 (by decide) (by omega) (fun h35 => ?_) (fun h35 => ?_)
        · skip
          refine j_aload_n (pc := 40) (i := 0) dX0_put_40 rfl rfl ?_
          refine d_get_sizes (pc := 41) dX0_put_41 ?_
          refine j_iload_n (pc := 44) (i := 1) dX0_put_44 rfl rfl ?_
          refine d_ld_sizes (pc := 45) dX0_put_45 (by omega) ?_
          refine j_istore_n (pc := 46) (i := 3) (lv' := [.ref (Y.2.1 0), .int (nI x0), .int (nI c0), .int (nI (X 1 x0))]) dX0_put_46 rfl rfl ⟨(Nat.le_of_ble_eq_true rfl), (Nat.le_of_ble_eq_true rfl)⟩ ?_
          have K98 : ∀ i X', i ≤ X 1 x0 → shf X (x0 * 8) (X 1 x0) i X' → (i = 0 ∨ X 2 (x0 * 8 + i - 1) ≤ c0) → (∀ j, i ≤ j → j < X 1 x0 → c0 < X 2 (x0 * 8 + j)) → J cX0_put 4 RX0 G (dV G Y (dA Y) X') 98 [.ref (Y.2.1 0), .int (nI x0), .int (nI c0), .int (nI i)] [] := by
            intro i X' hi hI hp hg
            refine j_aload_n (pc := 98) (i := 0) dX0_put_98 rfl rfl ?_
            refine d_get_cubes (pc := 99) dX0_put_99 ?_
            refine j_iload_n (pc := 102) (i := 1) dX0_put_102 rfl rfl ?_
            refine j_bipush (pc := 103) (v := nI 8) dX0_put_103 (by decide) ?_
            refine n_imul (pc := 105) dX0_put_105 ?_
            refine j_iload_n (pc := 106) (i := 3) dX0_put_106 rfl rfl ?_
            refine n_iadd (pc := 107) dX0_put_107 ?_
            refine j_iload_n (pc := 108) (i := 2) dX0_put_108 rfl rfl ?_
            refine n_i2b (pc := 109) dX0_put_109 (by omega) ?_
            refine d_st_cubes (pc := 110) dX0_put_110 (by omega) (by omega) (fun X110 hX110 => ?_)
            refine j_aload_n (pc := 111) (i := 0) dX0_put_111 rfl rfl ?_
            refine d_get_sizes (pc := 112) dX0_put_112 ?_
            refine j_iload_n (pc := 115) (i := 1) dX0_put_115 rfl rfl ?_
            have s110 : X110 1 x0 = X 1 x0 := by rw [hX110, up2_k _ _ _ (by decide), hI.1 1 (by decide)]
            refine j_dup2 (pc := 116) dX0_put_116 rfl rfl ?_
            refine d_ld_sizes (pc := 117) dX0_put_117 (by omega) ?_
            refine j_iconst (pc := 118) (v := nI 1) dX0_put_118 (by decide) ?_
            refine n_iadd (pc := 119) dX0_put_119 ?_
            refine n_i2b (pc := 120) dX0_put_120 (by omega) ?_
            refine d_st_sizes (pc := 121) dX0_put_121 (by omega) (by omega) (fun X121 hX121 => ?_)
            refine j_iconst (pc := 122) (v := nI 1) dX0_put_122 (by decide) ?_
            exact ret _ _ _ _ dX0_put_123 rfl (Or.inr (Or.inr ⟨x0, c0, hx0, hc0, rfl, rfl, Or.inr ⟨hno, Or.inr ⟨rfl, h35, putQ_of hi hI hp hg hX110 hX121⟩⟩⟩))
          have loop : ∀ i X', i ≤ X 1 x0 → shf X (x0 * 8) (X 1 x0) i X' → (∀ j, i ≤ j → j < X 1 x0 → c0 < X 2 (x0 * 8 + j)) → J cX0_put 4 RX0 G (dV G Y (dA Y) X') 47 [.ref (Y.2.1 0), .int (nI x0), .int (nI c0), .int (nI i)] [] := by
            intro i
            induction i with
            | zero =>
              intro X' hi hI hg
              refine j_iload_n (pc := 47) (i := 3) dX0_put_47 rfl rfl ?_
              refine n_if_le (pc := 48) (tgt := 98) dX0_put_48 (by decide) (by decide) (fun _ => ?_) (fun h => absurd h (by decide))
              exact K98 0 X' hi hI (Or.inl rfl) hg
            | succ i ih =>
              intro X' hi hI hg
              have hv91 : X' 2 (x0 * 8 + (i + 1) - 1) < 128 := by rw [hI.2, if_neg (by omega)]; exact hcb i (by omega)
              have hx' : X' 2 (x0 * 8 + (i + 1) - 1) = X 2 (x0 * 8 + (i + 1) - 1) := by rw [hI.2, if_neg (by omega)]
              refine j_iload_n (pc := 47) (i := 3) dX0_put_47 rfl rfl ?_
              refine n_if_le (pc := 48) (tgt := 98) dX0_put_48 (by decide) (by omega) (fun h48 => ?_) (fun h48 => ?_)
              · skip
                exact absurd h48 (by omega)
              · skip
                refine j_aload_n (pc := 51) (i := 0) dX0_put_51 rfl rfl ?_
                refine d_get_cubes (pc := 52) dX0_put_52 ?_
                refine j_iload_n (pc := 55) (i := 1) dX0_put_55 rfl rfl ?_
                refine j_bipush (pc := 56) (v := nI 8) dX0_put_56 (by decide) ?_
                refine n_imul (pc := 58) dX0_put_58 ?_
                refine j_iload_n (pc := 59) (i := 3) dX0_put_59 rfl rfl ?_
                refine n_iadd (pc := 60) dX0_put_60 ?_
                refine j_iconst (pc := 61) (v := nI 1) dX0_put_61 (by decide) ?_
                refine n_isub (pc := 62) dX0_put_62 (by omega) ?_
                refine d_ld_cubes (pc := 63) dX0_put_63 (by omega) ?_
                refine j_iload_n (pc := 64) (i := 2) dX0_put_64 rfl rfl ?_
                refine n_icmp_le (pc := 65) (tgt := 98) dX0_put_65 (by decide) (by omega) (fun h65 => ?_) (fun h65 => ?_)
                · skip
                  exact K98 (i + 1) X' hi hI (Or.inr (by rw [← hx']; exact h65)) hg
                · skip
                  refine j_aload_n (pc := 68) (i := 0) dX0_put_68 rfl rfl ?_
                  refine d_get_cubes (pc := 69) dX0_put_69 ?_
                  refine j_iload_n (pc := 72) (i := 1) dX0_put_72 rfl rfl ?_
                  refine j_bipush (pc := 73) (v := nI 8) dX0_put_73 (by decide) ?_
                  refine n_imul (pc := 75) dX0_put_75 ?_
                  refine j_iload_n (pc := 76) (i := 3) dX0_put_76 rfl rfl ?_
                  refine n_iadd (pc := 77) dX0_put_77 ?_
                  refine j_aload_n (pc := 78) (i := 0) dX0_put_78 rfl rfl ?_
                  refine d_get_cubes (pc := 79) dX0_put_79 ?_
                  refine j_iload_n (pc := 82) (i := 1) dX0_put_82 rfl rfl ?_
                  refine j_bipush (pc := 83) (v := nI 8) dX0_put_83 (by decide) ?_
                  refine n_imul (pc := 85) dX0_put_85 ?_
                  refine j_iload_n (pc := 86) (i := 3) dX0_put_86 rfl rfl ?_
                  refine n_iadd (pc := 87) dX0_put_87 ?_
                  refine j_iconst (pc := 88) (v := nI 1) dX0_put_88 (by decide) ?_
                  refine n_isub (pc := 89) dX0_put_89 (by omega) ?_
                  refine d_ld_cubes (pc := 90) dX0_put_90 (by omega) ?_
                  refine d_st_cubes (pc := 91) dX0_put_91 (by omega) hv91 (fun X91 hX91 => ?_)
                  refine n_idec (pc := 92) (lv' := [.ref (Y.2.1 0), .int (nI x0), .int (nI c0), .int (nI i)]) dX0_put_92 rfl rfl (Nat.le_of_ble_eq_true rfl) ?_
                  refine j_goto (pc := 95) (tgt := 47) dX0_put_95 (by decide) ?_
                  refine ih X91 (by omega) (shf_step hI hi hX91) (fun j h1 h2 => ?_)
                  rcases Nat.lt_or_ge i j with z | z
                  · exact hg j (by omega) h2
                  · rw [show x0 * 8 + j = x0 * 8 + (i + 1) - 1 by omega, ← hx']
                    exact h65
          exact loop _ X (Nat.le_refl _) (shf_0 X _ _) (fun j h1 h2 => absurd h1 (by omega))
        · skip
          refine j_iconst (pc := 38) (v := nI 0) dX0_put_38 (by decide) ?_
          exact ret _ _ _ _ dX0_put_39 rfl (Or.inr (Or.inr ⟨x0, c0, hx0, hc0, rfl, rfl, Or.inr ⟨hno, Or.inl ⟨rfl, rfl, h35⟩⟩⟩))
    · skip
      skip
      refine n_if_ne (pc := 11) (tgt := 16) dX0_put_11 (by decide) (by decide) (fun h => absurd h (by decide)) (fun _ => ?_)
      refine j_iconst (pc := 14) (v := nI 0) dX0_put_14 (by decide) ?_
      first | exact ret _ _ _ _ dX0_put_15 rfl (Or.inl ⟨rfl, rfl, hbx⟩) | exact ret _ _ _ _ dX0_put_15 rfl (Or.inr (Or.inl ⟨rfl, rfl, hbc⟩))
  · skip
    skip
    refine n_if_eq (pc := 4) (tgt := 14) dX0_put_4 (by decide) (by decide) (fun _ => ?_) (fun h => absurd h (by decide))
    refine j_iconst (pc := 14) (v := nI 0) dX0_put_14 (by decide) ?_
    first | exact ret _ _ _ _ dX0_put_15 rfl (Or.inl ⟨rfl, rfl, hbx⟩) | exact ret _ _ _ _ dX0_put_15 rfl (Or.inr (Or.inl ⟨rfl, rfl, hbc⟩))

/-- X' is X with the i-th cube of e taken out -/
def takeQ (X : Nat → Nat → Nat) (e i : Nat) (X' : Nat → Nat → Nat) : Prop := (∀ f, X' 1 f = if f = e then X 1 e - 1 else X 1 f) ∧ (∀ j, X' 2 j = if e * 8 + i ≤ j ∧ j < e * 8 + (X 1 e - 1) then X 2 (j + 1) else X 2 j) ∧ ∀ k, k ≠ 1 → k ≠ 2 → X' k = X k
def takeS (X : Nat → Nat → Nat) (e i j : Nat) (X' : Nat → Nat → Nat) : Prop := (∀ f, X' 1 f = if f = e then X 1 e - 1 else X 1 f) ∧ (∀ q, X' 2 q = if e * 8 + i ≤ q ∧ q < e * 8 + j then X 2 (q + 1) else X 2 q) ∧ ∀ k, k ≠ 1 → k ≠ 2 → X' k = X k
theorem takeS_step {X X' X'' : Nat → Nat → Nat} {e i j : Nat} (hij : i ≤ j) (h : takeS X e i j X') (h2 : X'' = up2 X' 2 (e * 8 + j) (X' 2 (e * 8 + j + 1))) : takeS X e i (j + 1) X'' := by
  refine ⟨fun f => by rw [h2, up2_k _ _ _ (by decide)]; exact h.1 f, fun q => ?_, fun k k1 k2 => by rw [h2, up2_k _ _ _ k2]; exact h.2.2 k k1 k2⟩
  rw [h2]
  by_cases c : q = e * 8 + j
  · subst c
    rw [up2_s, h.2.1, if_neg (by omega), if_pos (by omega)]
  · rw [up2_n _ _ _ c, h.2.1]
    by_cases d : e * 8 + i ≤ q ∧ q < e * 8 + j
    · rw [if_pos d, if_pos (by omega)]
    · rw [if_neg d, if_neg (by omega)]
def takeP (X : Nat → Nat → Nat) (x c : Int32) (r : Int32) (X' : Nat → Nat → Nat) : Prop :=
  (r = nI 0 ∧ X' = X ∧ ∀ k, k < 4 → x ≠ nI k) ∨
  ∃ e, e < 4 ∧ x = nI e ∧ ((r = nI 0 ∧ X' = X ∧ ∀ i, i < X 1 e → nI (X 2 (e * 8 + i)) ≠ c) ∨ (r = nI 1 ∧ ∃ i, i < X 1 e ∧ nI (X 2 (e * 8 + i)) = c ∧ takeQ X e i X'))

theorem dX0_take_0 : decode cX0_take 0 = .ok (.iload_n 1, 1) := by decide +kernel
theorem dX0_take_1 : decode cX0_take 1 = .ok (.invokestatic 33, 3) := by decide +kernel
theorem dX0_take_4 : decode cX0_take 4 = .ok (.ifCond .eq 12, 3) := by decide +kernel
theorem dX0_take_7 : decode cX0_take 7 = .ok (.aload_n 0, 1) := by decide +kernel
theorem dX0_take_8 : decode cX0_take 8 = .ok (.iload_n 1, 1) := by decide +kernel
theorem dX0_take_9 : decode cX0_take 9 = .ok (.iload_n 2, 1) := by decide +kernel
theorem dX0_take_10 : decode cX0_take 10 = .ok (.invokevirtual 40, 3) := by decide +kernel
theorem dX0_take_13 : decode cX0_take 13 = .ok (.goto 4, 3) := by decide +kernel
theorem dX0_take_16 : decode cX0_take 16 = .ok (.iconst (-1), 1) := by decide +kernel
theorem dX0_take_17 : decode cX0_take 17 = .ok (.istore_n 3, 1) := by decide +kernel
theorem dX0_take_18 : decode cX0_take 18 = .ok (.iload_n 3, 1) := by decide +kernel
theorem dX0_take_19 : decode cX0_take 19 = .ok (.ifCond .ge 5, 3) := by decide +kernel
theorem dX0_take_22 : decode cX0_take 22 = .ok (.iconst 0, 1) := by decide +kernel
theorem dX0_take_23 : decode cX0_take 23 = .ok (.ireturn, 1) := by decide +kernel
theorem dX0_take_24 : decode cX0_take 24 = .ok (.aload_n 0, 1) := by decide +kernel
theorem dX0_take_25 : decode cX0_take 25 = .ok (.getfield 7, 3) := by decide +kernel
theorem dX0_take_28 : decode cX0_take 28 = .ok (.iload_n 1, 1) := by decide +kernel
theorem dX0_take_29 : decode cX0_take 29 = .ok (.dup2, 1) := by decide +kernel
theorem dX0_take_30 : decode cX0_take 30 = .ok (.baload, 1) := by decide +kernel
theorem dX0_take_31 : decode cX0_take 31 = .ok (.iconst 1, 1) := by decide +kernel
theorem dX0_take_32 : decode cX0_take 32 = .ok (.isub, 1) := by decide +kernel
theorem dX0_take_33 : decode cX0_take 33 = .ok (.i2b, 1) := by decide +kernel
theorem dX0_take_34 : decode cX0_take 34 = .ok (.bastore, 1) := by decide +kernel
theorem dX0_take_35 : decode cX0_take 35 = .ok (.iload_n 3, 1) := by decide +kernel
theorem dX0_take_36 : decode cX0_take 36 = .ok (.istore 4, 2) := by decide +kernel
theorem dX0_take_38 : decode cX0_take 38 = .ok (.iload 4, 2) := by decide +kernel
theorem dX0_take_40 : decode cX0_take 40 = .ok (.aload_n 0, 1) := by decide +kernel
theorem dX0_take_41 : decode cX0_take 41 = .ok (.getfield 7, 3) := by decide +kernel
theorem dX0_take_44 : decode cX0_take 44 = .ok (.iload_n 1, 1) := by decide +kernel
theorem dX0_take_45 : decode cX0_take 45 = .ok (.baload, 1) := by decide +kernel
theorem dX0_take_46 : decode cX0_take 46 = .ok (.if_icmp .ge 35, 3) := by decide +kernel
theorem dX0_take_49 : decode cX0_take 49 = .ok (.aload_n 0, 1) := by decide +kernel
theorem dX0_take_50 : decode cX0_take 50 = .ok (.getfield 13, 3) := by decide +kernel
theorem dX0_take_53 : decode cX0_take 53 = .ok (.iload_n 1, 1) := by decide +kernel
theorem dX0_take_54 : decode cX0_take 54 = .ok (.bipush 8, 2) := by decide +kernel
theorem dX0_take_56 : decode cX0_take 56 = .ok (.imul, 1) := by decide +kernel
theorem dX0_take_57 : decode cX0_take 57 = .ok (.iload 4, 2) := by decide +kernel
theorem dX0_take_59 : decode cX0_take 59 = .ok (.iadd, 1) := by decide +kernel
theorem dX0_take_60 : decode cX0_take 60 = .ok (.aload_n 0, 1) := by decide +kernel
theorem dX0_take_61 : decode cX0_take 61 = .ok (.getfield 13, 3) := by decide +kernel
theorem dX0_take_64 : decode cX0_take 64 = .ok (.iload_n 1, 1) := by decide +kernel
theorem dX0_take_65 : decode cX0_take 65 = .ok (.bipush 8, 2) := by decide +kernel
theorem dX0_take_67 : decode cX0_take 67 = .ok (.imul, 1) := by decide +kernel
theorem dX0_take_68 : decode cX0_take 68 = .ok (.iload 4, 2) := by decide +kernel
theorem dX0_take_70 : decode cX0_take 70 = .ok (.iadd, 1) := by decide +kernel
theorem dX0_take_71 : decode cX0_take 71 = .ok (.iconst 1, 1) := by decide +kernel
theorem dX0_take_72 : decode cX0_take 72 = .ok (.iadd, 1) := by decide +kernel
theorem dX0_take_73 : decode cX0_take 73 = .ok (.baload, 1) := by decide +kernel
theorem dX0_take_74 : decode cX0_take 74 = .ok (.bastore, 1) := by decide +kernel
theorem dX0_take_75 : decode cX0_take 75 = .ok (.iinc 4 1, 3) := by decide +kernel
theorem dX0_take_78 : decode cX0_take 78 = .ok (.goto (-40), 3) := by decide +kernel
theorem dX0_take_81 : decode cX0_take 81 = .ok (.iconst 1, 1) := by decide +kernel
theorem dX0_take_82 : decode cX0_take 82 = .ok (.ireturn, 1) := by decide +kernel
set_option maxRecDepth 100000 in
set_option maxHeartbeats 4000000 in
theorem met_take (l : Launch) (Y : dL) (X : Nat → Nat → Nat) (x c : Int32) (hok : okX X) : dMi l yX0_take cX0_take 5 (some .boolean) 2 Y [.int x, .int c] X (takeP X x c) := by
  refine d_ofi .boolean (own := RX0) rfl rfl (by decide) (Nat.le_of_ble_eq_true rfl) (by simp [lcat, Value.category]) ?_
  intro G hG ret
  refine j_iload_n (pc := 0) (i := 1) dX0_take_0 rfl rfl ?_
  refine s_calli (pc := 1) (st := []) (met_isExpression (kl G) Y.1 x) hG (by decide) dX0_take_1 cpD_X0_isExpression (Nat.le_of_ble_eq_true rfl) rfl (fun r1 hr1 => ?_)
  rcases hr1 with ⟨rfl, hq1⟩ | ⟨rfl, hbx⟩
  · skip
    obtain ⟨x0, hx0, rfl⟩ := hq1
    refine n_if_eq (pc := 4) (tgt := 16) dX0_take_4 (by decide) (by decide) (fun h => absurd h (by decide)) (fun _ => ?_)
    obtain ⟨hs, hcb⟩ := hok x0 hx0
    refine j_aload_n (pc := 7) (i := 0) dX0_take_7 rfl rfl ?_
    refine j_iload_n (pc := 8) (i := 1) dX0_take_8 rfl rfl ?_
    refine j_iload_n (pc := 9) (i := 2) dX0_take_9 rfl rfl ?_
    refine d_calli (pc := 10) (st := []) (met_find (kl G) Y X x0 c (by omega) hs) hG (by decide) dX0_take_10 cpD_X0_find (Nat.le_of_ble_eq_true rfl) rfl (fun r10 X10 hr10 => ?_)
    obtain ⟨hE10, hf10⟩ := hr10
    rw [hE10]
    rcases hf10 with ⟨i10, hi10, hc10, rfl⟩ | ⟨rfl, hno10⟩
    · skip
      skip
      refine j_goto (pc := 13) (tgt := 17) dX0_take_13 (by decide) ?_
      refine j_istore_n (pc := 17) (i := 3) (lv' := [.ref (Y.2.1 0), .int (nI x0), .int c, .int (nI i10)]) dX0_take_17 rfl rfl ⟨(Nat.le_of_ble_eq_true rfl), (Nat.le_of_ble_eq_true rfl)⟩ ?_
      refine j_iload_n (pc := 18) (i := 3) dX0_take_18 rfl rfl ?_
      refine n_if_ge (pc := 19) (tgt := 24) dX0_take_19 (by decide) (by omega) ?_
      refine j_aload_n (pc := 24) (i := 0) dX0_take_24 rfl rfl ?_
      refine d_get_sizes (pc := 25) dX0_take_25 ?_
      refine j_iload_n (pc := 28) (i := 1) dX0_take_28 rfl rfl ?_
      refine j_dup2 (pc := 29) dX0_take_29 rfl rfl ?_
      refine d_ld_sizes (pc := 30) dX0_take_30 (by omega) ?_
      refine j_iconst (pc := 31) (v := nI 1) dX0_take_31 (by decide) ?_
      refine n_isub (pc := 32) dX0_take_32 (by omega) ?_
      refine n_i2b (pc := 33) dX0_take_33 (by omega) ?_
      refine d_st_sizes (pc := 34) dX0_take_34 (by omega) (by omega) (fun X34 hX34 => ?_)
      refine j_iload_n (pc := 35) (i := 3) dX0_take_35 rfl rfl ?_
      refine j_istore (pc := 36) (i := 4) (lv' := [.ref (Y.2.1 0), .int (nI x0), .int c, .int (nI i10), .int (nI i10)]) dX0_take_36 rfl ⟨(Nat.le_of_ble_eq_true rfl), (Nat.le_of_ble_eq_true rfl)⟩ ?_
      have hS0 : takeS X x0 i10 i10 X34 := ⟨fun f => by
          rw [hX34]
          by_cases q : f = x0
          · subst q; rw [up2_s, if_pos rfl]
          · rw [up2_n _ _ _ q, if_neg q], fun q => by rw [hX34, up2_k _ _ _ (by decide), if_neg (by omega)], fun k k1 k2 => by rw [hX34, up2_k _ _ _ k1]⟩
      have loop : ∀ j, j ≤ X 1 x0 - 1 → i10 ≤ j → ∀ X', takeS X x0 i10 j X' → J cX0_take 5 RX0 G (dV G Y (dA Y) X') 38 [.ref (Y.2.1 0), .int (nI x0), .int c, .int (nI i10), .int (nI j)] [] := by
        refine up_loop _ (X 1 x0 - 1) (fun hij X' hI => ?_) (fun j hj ih hij X' hI => ?_)
        · have s1 : X' 1 x0 = X 1 x0 - 1 := by rw [hI.1, if_pos rfl]
          refine j_iload (pc := 38) dX0_take_38 rfl ?_
          refine j_aload_n (pc := 40) (i := 0) dX0_take_40 rfl rfl ?_
          refine d_get_sizes (pc := 41) dX0_take_41 ?_
          refine j_iload_n (pc := 44) (i := 1) dX0_take_44 rfl rfl ?_
          refine d_ld_sizes (pc := 45) dX0_take_45 (by omega) ?_
          refine n_icmp_ge (pc := 46) (tgt := 81) dX0_take_46 (by decide) (by omega) (fun h46 => ?_) (fun h46 => ?_)
          · skip
            refine j_iconst (pc := 81) (v := nI 1) dX0_take_81 (by decide) ?_
            exact ret _ _ _ _ dX0_take_82 rfl (Or.inr ⟨x0, hx0, rfl, Or.inr ⟨rfl, i10, hi10, hc10, hI⟩⟩)
          · skip
            exact absurd h46 (by omega)
        · have s1 : X' 1 x0 = X 1 x0 - 1 := by rw [hI.1, if_pos rfl]
          have hv : X' 2 (x0 * 8 + j + 1) < 128 := by rw [hI.2.1, if_neg (by omega)]; exact hcb (j + 1) (by omega)
          refine j_iload (pc := 38) dX0_take_38 rfl ?_
          refine j_aload_n (pc := 40) (i := 0) dX0_take_40 rfl rfl ?_
          refine d_get_sizes (pc := 41) dX0_take_41 ?_
          refine j_iload_n (pc := 44) (i := 1) dX0_take_44 rfl rfl ?_
          refine d_ld_sizes (pc := 45) dX0_take_45 (by omega) ?_
          refine n_icmp_ge (pc := 46) (tgt := 81) dX0_take_46 (by decide) (by omega) (fun h46 => ?_) (fun h46 => ?_)
          · skip
            exact absurd h46 (by omega)
          · skip
            refine j_aload_n (pc := 49) (i := 0) dX0_take_49 rfl rfl ?_
            refine d_get_cubes (pc := 50) dX0_take_50 ?_
            refine j_iload_n (pc := 53) (i := 1) dX0_take_53 rfl rfl ?_
            refine j_bipush (pc := 54) (v := nI 8) dX0_take_54 (by decide) ?_
            refine n_imul (pc := 56) dX0_take_56 ?_
            refine j_iload (pc := 57) dX0_take_57 rfl ?_
            refine n_iadd (pc := 59) dX0_take_59 ?_
            refine j_aload_n (pc := 60) (i := 0) dX0_take_60 rfl rfl ?_
            refine d_get_cubes (pc := 61) dX0_take_61 ?_
            refine j_iload_n (pc := 64) (i := 1) dX0_take_64 rfl rfl ?_
            refine j_bipush (pc := 65) (v := nI 8) dX0_take_65 (by decide) ?_
            refine n_imul (pc := 67) dX0_take_67 ?_
            refine j_iload (pc := 68) dX0_take_68 rfl ?_
            refine n_iadd (pc := 70) dX0_take_70 ?_
            refine j_iconst (pc := 71) (v := nI 1) dX0_take_71 (by decide) ?_
            refine n_iadd (pc := 72) dX0_take_72 ?_
            refine d_ld_cubes (pc := 73) dX0_take_73 (by omega) ?_
            refine d_st_cubes (pc := 74) dX0_take_74 (by omega) hv (fun X74 hX74 => ?_)
            refine n_iinc (pc := 75) (n := 1) (lv' := [.ref (Y.2.1 0), .int (nI x0), .int c, .int (nI i10), .int (nI (j + 1))]) dX0_take_75 rfl rfl (Nat.le_of_ble_eq_true rfl) ?_
            refine j_goto (pc := 78) (tgt := 38) dX0_take_78 (by decide) ?_
            exact ih (by omega) X74 (takeS_step hij hI hX74)
      exact loop i10 (by omega) (Nat.le_refl _) X34 hS0
    · skip
      skip
      refine j_goto (pc := 13) (tgt := 17) dX0_take_13 (by decide) ?_
      refine j_istore_n (pc := 17) (i := 3) (lv' := [.ref (Y.2.1 0), .int (nI x0), .int c, .int (-1)]) dX0_take_17 rfl rfl ⟨(Nat.le_of_ble_eq_true rfl), (Nat.le_of_ble_eq_true rfl)⟩ ?_
      refine j_iload_n (pc := 18) (i := 3) dX0_take_18 rfl rfl ?_
      refine j_if_ge (pc := 19) (tgt := 24) dX0_take_19 (by decide) (fun h => absurd h (by decide)) (fun _ => ?_)
      refine j_iconst (pc := 22) (v := nI 0) dX0_take_22 (by decide) ?_
      first | exact ret _ _ _ _ dX0_take_23 rfl (Or.inl ⟨rfl, rfl, hbx⟩) | exact ret _ _ _ _ dX0_take_23 rfl (Or.inr ⟨x0, hx0, rfl, Or.inl ⟨rfl, rfl, hno10⟩⟩)
  · skip
    skip
    refine n_if_eq (pc := 4) (tgt := 16) dX0_take_4 (by decide) (by decide) (fun _ => ?_) (fun h => absurd h (by decide))
    refine j_iconst (pc := 16) (v := -1) dX0_take_16 (by decide) ?_
    refine j_istore_n (pc := 17) (i := 3) (lv' := [.ref (Y.2.1 0), .int x, .int c, .int (-1)]) dX0_take_17 rfl rfl ⟨(Nat.le_of_ble_eq_true rfl), (Nat.le_of_ble_eq_true rfl)⟩ ?_
    refine j_iload_n (pc := 18) (i := 3) dX0_take_18 rfl rfl ?_
    refine j_if_ge (pc := 19) (tgt := 24) dX0_take_19 (by decide) (fun h => absurd h (by decide)) (fun _ => ?_)
    refine j_iconst (pc := 22) (v := nI 0) dX0_take_22 (by decide) ?_
    first | exact ret _ _ _ _ dX0_take_23 rfl (Or.inl ⟨rfl, rfl, hbx⟩) | exact ret _ _ _ _ dX0_take_23 rfl (Or.inr ⟨x0, hx0, rfl, Or.inl ⟨rfl, rfl, hno10⟩⟩)

theorem dX0_clear_0 : decode cX0_clear 0 = .ok (.iload_n 1, 1) := by decide +kernel
theorem dX0_clear_1 : decode cX0_clear 1 = .ok (.invokestatic 33, 3) := by decide +kernel
theorem dX0_clear_4 : decode cX0_clear 4 = .ok (.ifCond .ne 5, 3) := by decide +kernel
theorem dX0_clear_7 : decode cX0_clear 7 = .ok (.iconst 0, 1) := by decide +kernel
theorem dX0_clear_8 : decode cX0_clear 8 = .ok (.ireturn, 1) := by decide +kernel
theorem dX0_clear_9 : decode cX0_clear 9 = .ok (.aload_n 0, 1) := by decide +kernel
theorem dX0_clear_10 : decode cX0_clear 10 = .ok (.getfield 7, 3) := by decide +kernel
theorem dX0_clear_13 : decode cX0_clear 13 = .ok (.iload_n 1, 1) := by decide +kernel
theorem dX0_clear_14 : decode cX0_clear 14 = .ok (.iconst 0, 1) := by decide +kernel
theorem dX0_clear_15 : decode cX0_clear 15 = .ok (.bastore, 1) := by decide +kernel
theorem dX0_clear_16 : decode cX0_clear 16 = .ok (.iconst 1, 1) := by decide +kernel
theorem dX0_clear_17 : decode cX0_clear 17 = .ok (.ireturn, 1) := by decide +kernel
set_option maxRecDepth 100000 in
set_option maxHeartbeats 4000000 in
theorem met_clear (l : Launch) (Y : dL) (X : Nat → Nat → Nat) (x : Int32) : dMi l yX0_clear cX0_clear 2 (some .boolean) 2 Y [.int x] X (fun r X' => (r = nI 0 ∧ X' = X ∧ ∀ k, k < 4 → x ≠ nI k) ∨ ∃ e, e < 4 ∧ x = nI e ∧ r = nI 1 ∧ X' = up2 X 1 e 0) := by
  refine d_ofi .boolean (own := RX0) rfl rfl (by decide) (Nat.le_of_ble_eq_true rfl) (by simp [lcat, Value.category]) ?_
  intro G hG ret
  refine j_iload_n (pc := 0) (i := 1) dX0_clear_0 rfl rfl ?_
  refine s_calli (pc := 1) (st := []) (met_isExpression (kl G) Y.1 x) hG (by decide) dX0_clear_1 cpD_X0_isExpression (Nat.le_of_ble_eq_true rfl) rfl (fun r1 hr1 => ?_)
  rcases hr1 with ⟨rfl, hq1⟩ | ⟨rfl, hbx⟩
  · skip
    obtain ⟨x0, hx0, rfl⟩ := hq1
    refine n_if_ne (pc := 4) (tgt := 9) dX0_clear_4 (by decide) (by decide) (fun _ => ?_) (fun h => absurd h (by decide))
    refine j_aload_n (pc := 9) (i := 0) dX0_clear_9 rfl rfl ?_
    refine d_get_sizes (pc := 10) dX0_clear_10 ?_
    refine j_iload_n (pc := 13) (i := 1) dX0_clear_13 rfl rfl ?_
    refine j_iconst (pc := 14) (v := nI 0) dX0_clear_14 (by decide) ?_
    refine d_st_sizes (pc := 15) dX0_clear_15 (by omega) (by omega) (fun X15 hX15 => ?_)
    refine j_iconst (pc := 16) (v := nI 1) dX0_clear_16 (by decide) ?_
    exact ret _ _ _ _ dX0_clear_17 rfl (Or.inr ⟨x0, hx0, rfl, rfl, hX15⟩)
  · skip
    skip
    refine n_if_ne (pc := 4) (tgt := 9) dX0_clear_4 (by decide) (by decide) (fun h => absurd h (by decide)) (fun _ => ?_)
    refine j_iconst (pc := 7) (v := nI 0) dX0_clear_7 (by decide) ?_
    exact ret _ _ _ _ dX0_clear_8 rfl (Or.inl ⟨rfl, rfl, hbx⟩)

theorem dX0_size_0 : decode cX0_size 0 = .ok (.iload_n 1, 1) := by decide +kernel
theorem dX0_size_1 : decode cX0_size 1 = .ok (.invokestatic 33, 3) := by decide +kernel
theorem dX0_size_4 : decode cX0_size 4 = .ok (.ifCond .eq 12, 3) := by decide +kernel
theorem dX0_size_7 : decode cX0_size 7 = .ok (.aload_n 0, 1) := by decide +kernel
theorem dX0_size_8 : decode cX0_size 8 = .ok (.getfield 7, 3) := by decide +kernel
theorem dX0_size_11 : decode cX0_size 11 = .ok (.iload_n 1, 1) := by decide +kernel
theorem dX0_size_12 : decode cX0_size 12 = .ok (.baload, 1) := by decide +kernel
theorem dX0_size_13 : decode cX0_size 13 = .ok (.goto 4, 3) := by decide +kernel
theorem dX0_size_16 : decode cX0_size 16 = .ok (.iconst (-1), 1) := by decide +kernel
theorem dX0_size_17 : decode cX0_size 17 = .ok (.ireturn, 1) := by decide +kernel
set_option maxRecDepth 100000 in
set_option maxHeartbeats 4000000 in
theorem met_size (l : Launch) (Y : dL) (X : Nat → Nat → Nat) (x : Int32) : dMi l yX0_size cX0_size 2 (some .int) 2 Y [.int x] X (fun r X' => X' = X ∧ ((r = -1 ∧ ∀ k, k < 4 → x ≠ nI k) ∨ ∃ e, e < 4 ∧ x = nI e ∧ r = nI (X 1 e))) := by
  refine d_ofi .int (own := RX0) rfl rfl (by decide) (Nat.le_of_ble_eq_true rfl) (by simp [lcat, Value.category]) ?_
  intro G hG ret
  refine j_iload_n (pc := 0) (i := 1) dX0_size_0 rfl rfl ?_
  refine s_calli (pc := 1) (st := []) (met_isExpression (kl G) Y.1 x) hG (by decide) dX0_size_1 cpD_X0_isExpression (Nat.le_of_ble_eq_true rfl) rfl (fun r1 hr1 => ?_)
  rcases hr1 with ⟨rfl, hq1⟩ | ⟨rfl, hbx⟩
  · skip
    obtain ⟨x0, hx0, rfl⟩ := hq1
    refine n_if_eq (pc := 4) (tgt := 16) dX0_size_4 (by decide) (by decide) (fun h => absurd h (by decide)) (fun _ => ?_)
    refine j_aload_n (pc := 7) (i := 0) dX0_size_7 rfl rfl ?_
    refine d_get_sizes (pc := 8) dX0_size_8 ?_
    refine j_iload_n (pc := 11) (i := 1) dX0_size_11 rfl rfl ?_
    refine d_ld_sizes (pc := 12) dX0_size_12 (by omega) ?_
    refine j_goto (pc := 13) (tgt := 17) dX0_size_13 (by decide) ?_
    first | exact ret _ _ _ _ dX0_size_17 rfl ⟨rfl, Or.inl ⟨rfl, hbx⟩⟩ | exact ret _ _ _ _ dX0_size_17 rfl ⟨rfl, Or.inr ⟨x0, hx0, rfl, rfl⟩⟩
  · skip
    skip
    refine n_if_eq (pc := 4) (tgt := 16) dX0_size_4 (by decide) (by decide) (fun _ => ?_) (fun h => absurd h (by decide))
    refine j_iconst (pc := 16) (v := -1) dX0_size_16 (by decide) ?_
    first | exact ret _ _ _ _ dX0_size_17 rfl ⟨rfl, Or.inl ⟨rfl, hbx⟩⟩ | exact ret _ _ _ _ dX0_size_17 rfl ⟨rfl, Or.inr ⟨x0, hx0, rfl, rfl⟩⟩

theorem dX0_cube_0 : decode cX0_cube 0 = .ok (.iload_n 1, 1) := by decide +kernel
theorem dX0_cube_1 : decode cX0_cube 1 = .ok (.invokestatic 33, 3) := by decide +kernel
theorem dX0_cube_4 : decode cX0_cube 4 = .ok (.ifCond .eq 31, 3) := by decide +kernel
theorem dX0_cube_7 : decode cX0_cube 7 = .ok (.iload_n 2, 1) := by decide +kernel
theorem dX0_cube_8 : decode cX0_cube 8 = .ok (.ifCond .lt 27, 3) := by decide +kernel
theorem dX0_cube_11 : decode cX0_cube 11 = .ok (.iload_n 2, 1) := by decide +kernel
theorem dX0_cube_12 : decode cX0_cube 12 = .ok (.aload_n 0, 1) := by decide +kernel
theorem dX0_cube_13 : decode cX0_cube 13 = .ok (.getfield 7, 3) := by decide +kernel
theorem dX0_cube_16 : decode cX0_cube 16 = .ok (.iload_n 1, 1) := by decide +kernel
theorem dX0_cube_17 : decode cX0_cube 17 = .ok (.baload, 1) := by decide +kernel
theorem dX0_cube_18 : decode cX0_cube 18 = .ok (.if_icmp .ge 17, 3) := by decide +kernel
theorem dX0_cube_21 : decode cX0_cube 21 = .ok (.aload_n 0, 1) := by decide +kernel
theorem dX0_cube_22 : decode cX0_cube 22 = .ok (.getfield 13, 3) := by decide +kernel
theorem dX0_cube_25 : decode cX0_cube 25 = .ok (.iload_n 1, 1) := by decide +kernel
theorem dX0_cube_26 : decode cX0_cube 26 = .ok (.bipush 8, 2) := by decide +kernel
theorem dX0_cube_28 : decode cX0_cube 28 = .ok (.imul, 1) := by decide +kernel
theorem dX0_cube_29 : decode cX0_cube 29 = .ok (.iload_n 2, 1) := by decide +kernel
theorem dX0_cube_30 : decode cX0_cube 30 = .ok (.iadd, 1) := by decide +kernel
theorem dX0_cube_31 : decode cX0_cube 31 = .ok (.baload, 1) := by decide +kernel
theorem dX0_cube_32 : decode cX0_cube 32 = .ok (.goto 4, 3) := by decide +kernel
theorem dX0_cube_35 : decode cX0_cube 35 = .ok (.iconst (-1), 1) := by decide +kernel
theorem dX0_cube_36 : decode cX0_cube 36 = .ok (.ireturn, 1) := by decide +kernel
set_option maxRecDepth 100000 in
set_option maxHeartbeats 4000000 in
theorem met_cube (l : Launch) (Y : dL) (X : Nat → Nat → Nat) (x i : Int32) (hok : okX X) : dMi l yX0_cube cX0_cube 3 (some .int) 2 Y [.int x, .int i] X (fun r X' => X' = X ∧ ((r = -1 ∧ ∀ k, k < 4 → x ≠ nI k) ∨ ∃ e, e < 4 ∧ x = nI e ∧ ((r = -1 ∧ ∀ k, k < X 1 e → i ≠ nI k) ∨ ∃ k, k < X 1 e ∧ i = nI k ∧ r = nI (X 2 (e * 8 + k))))) := by
  refine d_ofi .int (own := RX0) rfl rfl (by decide) (Nat.le_of_ble_eq_true rfl) (by simp [lcat, Value.category]) ?_
  intro G hG ret
  refine j_iload_n (pc := 0) (i := 1) dX0_cube_0 rfl rfl ?_
  refine s_calli (pc := 1) (st := []) (met_isExpression (kl G) Y.1 x) hG (by decide) dX0_cube_1 cpD_X0_isExpression (Nat.le_of_ble_eq_true rfl) rfl (fun r1 hr1 => ?_)
  rcases hr1 with ⟨rfl, hq1⟩ | ⟨rfl, hbx⟩
  · skip
    obtain ⟨x0, hx0, rfl⟩ := hq1
    refine n_if_eq (pc := 4) (tgt := 35) dX0_cube_4 (by decide) (by decide) (fun h => absurd h (by decide)) (fun _ => ?_)
    obtain ⟨hs, hcb⟩ := hok x0 hx0
    refine j_iload_n (pc := 7) (i := 2) dX0_cube_7 rfl rfl ?_
    refine j_if_lt (pc := 8) (tgt := 35) dX0_cube_8 (by decide) (fun h8 => ?_) (fun h8 => ?_)
    · skip
      have hbi := rg_neg (N := X 1 x0) (by omega) h8
      refine j_iconst (pc := 35) (v := -1) dX0_cube_35 (by decide) ?_
      first | exact ret _ _ _ _ dX0_cube_36 rfl ⟨rfl, Or.inl ⟨rfl, hbx⟩⟩ | exact ret _ _ _ _ dX0_cube_36 rfl ⟨rfl, Or.inr ⟨x0, hx0, rfl, Or.inl ⟨rfl, hbi⟩⟩⟩
    · skip
      refine j_iload_n (pc := 11) (i := 2) dX0_cube_11 rfl rfl ?_
      refine j_aload_n (pc := 12) (i := 0) dX0_cube_12 rfl rfl ?_
      refine d_get_sizes (pc := 13) dX0_cube_13 ?_
      refine j_iload_n (pc := 16) (i := 1) dX0_cube_16 rfl rfl ?_
      refine d_ld_sizes (pc := 17) dX0_cube_17 (by omega) ?_
      refine j_icmp_ge (pc := 18) (tgt := 35) dX0_cube_18 (by decide) (fun h18 => ?_) (fun h18 => ?_)
      · skip
        have hbi := rg_hi (by omega) h18
        refine j_iconst (pc := 35) (v := -1) dX0_cube_35 (by decide) ?_
        first | exact ret _ _ _ _ dX0_cube_36 rfl ⟨rfl, Or.inl ⟨rfl, hbx⟩⟩ | exact ret _ _ _ _ dX0_cube_36 rfl ⟨rfl, Or.inr ⟨x0, hx0, rfl, Or.inl ⟨rfl, hbi⟩⟩⟩
      · skip
        obtain ⟨k, hk, rfl⟩ := rg_in (by omega) h8 h18
        refine j_aload_n (pc := 21) (i := 0) dX0_cube_21 rfl rfl ?_
        refine d_get_cubes (pc := 22) dX0_cube_22 ?_
        refine j_iload_n (pc := 25) (i := 1) dX0_cube_25 rfl rfl ?_
        refine j_bipush (pc := 26) (v := nI 8) dX0_cube_26 (by decide) ?_
        refine n_imul (pc := 28) dX0_cube_28 ?_
        refine j_iload_n (pc := 29) (i := 2) dX0_cube_29 rfl rfl ?_
        refine n_iadd (pc := 30) dX0_cube_30 ?_
        refine d_ld_cubes (pc := 31) dX0_cube_31 (by omega) ?_
        refine j_goto (pc := 32) (tgt := 36) dX0_cube_32 (by decide) ?_
        exact ret _ _ _ _ dX0_cube_36 rfl ⟨rfl, Or.inr ⟨x0, hx0, rfl, Or.inr ⟨k, hk, rfl, rfl⟩⟩⟩
  · skip
    skip
    refine n_if_eq (pc := 4) (tgt := 35) dX0_cube_4 (by decide) (by decide) (fun _ => ?_) (fun h => absurd h (by decide))
    refine j_iconst (pc := 35) (v := -1) dX0_cube_35 (by decide) ?_
    first | exact ret _ _ _ _ dX0_cube_36 rfl ⟨rfl, Or.inl ⟨rfl, hbx⟩⟩ | exact ret _ _ _ _ dX0_cube_36 rfl ⟨rfl, Or.inr ⟨x0, hx0, rfl, Or.inl ⟨rfl, hbi⟩⟩⟩

theorem dX0_canDivide_0 : decode cX0_canDivide 0 = .ok (.iload_n 1, 1) := by decide +kernel
theorem dX0_canDivide_1 : decode cX0_canDivide 1 = .ok (.invokestatic 33, 3) := by decide +kernel
theorem dX0_canDivide_4 : decode cX0_canDivide 4 = .ok (.ifCond .eq 23, 3) := by decide +kernel
theorem dX0_canDivide_7 : decode cX0_canDivide 7 = .ok (.iload_n 2, 1) := by decide +kernel
theorem dX0_canDivide_8 : decode cX0_canDivide 8 = .ok (.invokestatic 33, 3) := by decide +kernel
theorem dX0_canDivide_11 : decode cX0_canDivide 11 = .ok (.ifCond .eq 16, 3) := by decide +kernel
theorem dX0_canDivide_14 : decode cX0_canDivide 14 = .ok (.aload_n 0, 1) := by decide +kernel
theorem dX0_canDivide_15 : decode cX0_canDivide 15 = .ok (.getfield 7, 3) := by decide +kernel
theorem dX0_canDivide_18 : decode cX0_canDivide 18 = .ok (.iload_n 2, 1) := by decide +kernel
theorem dX0_canDivide_19 : decode cX0_canDivide 19 = .ok (.baload, 1) := by decide +kernel
theorem dX0_canDivide_20 : decode cX0_canDivide 20 = .ok (.ifCond .le 7, 3) := by decide +kernel
theorem dX0_canDivide_23 : decode cX0_canDivide 23 = .ok (.iconst 1, 1) := by decide +kernel
theorem dX0_canDivide_24 : decode cX0_canDivide 24 = .ok (.goto 4, 3) := by decide +kernel
theorem dX0_canDivide_27 : decode cX0_canDivide 27 = .ok (.iconst 0, 1) := by decide +kernel
theorem dX0_canDivide_28 : decode cX0_canDivide 28 = .ok (.ireturn, 1) := by decide +kernel
set_option maxRecDepth 100000 in
set_option maxHeartbeats 4000000 in
theorem met_canDivide (l : Launch) (Y : dL) (X : Nat → Nat → Nat) (x y : Int32) (hok : okX X) : dMi l yX0_canDivide cX0_canDivide 3 (some .boolean) 2 Y [.int x, .int y] X (fun r X' => X' = X ∧ ((r = nI 1 ∧ ∃ f g, f < 4 ∧ g < 4 ∧ x = nI f ∧ y = nI g ∧ 0 < X 1 g) ∨ (r = nI 0 ∧ ∀ f g, f < 4 → g < 4 → x = nI f → y = nI g → X 1 g = 0))) := by
  refine d_ofi .boolean (own := RX0) rfl rfl (by decide) (Nat.le_of_ble_eq_true rfl) (by simp [lcat, Value.category]) ?_
  intro G hG ret
  refine j_iload_n (pc := 0) (i := 1) dX0_canDivide_0 rfl rfl ?_
  refine s_calli (pc := 1) (st := []) (met_isExpression (kl G) Y.1 x) hG (by decide) dX0_canDivide_1 cpD_X0_isExpression (Nat.le_of_ble_eq_true rfl) rfl (fun r1 hr1 => ?_)
  rcases hr1 with ⟨rfl, hq1⟩ | ⟨rfl, hbx⟩
  · skip
    obtain ⟨x0, hx0, rfl⟩ := hq1
    refine n_if_eq (pc := 4) (tgt := 27) dX0_canDivide_4 (by decide) (by decide) (fun h => absurd h (by decide)) (fun _ => ?_)
    refine j_iload_n (pc := 7) (i := 2) dX0_canDivide_7 rfl rfl ?_
    refine s_calli (pc := 8) (st := []) (met_isExpression (kl G) Y.1 y) hG (by decide) dX0_canDivide_8 cpD_X0_isExpression (Nat.le_of_ble_eq_true rfl) rfl (fun r8 hr8 => ?_)
    rcases hr8 with ⟨rfl, hq8⟩ | ⟨rfl, hby⟩
    · skip
      obtain ⟨y0, hy0, rfl⟩ := hq8
      refine n_if_eq (pc := 11) (tgt := 27) dX0_canDivide_11 (by decide) (by decide) (fun h => absurd h (by decide)) (fun _ => ?_)
      obtain ⟨hs, hcb⟩ := hok y0 hy0
      refine j_aload_n (pc := 14) (i := 0) dX0_canDivide_14 rfl rfl ?_
      refine d_get_sizes (pc := 15) dX0_canDivide_15 ?_
      refine j_iload_n (pc := 18) (i := 2) dX0_canDivide_18 rfl rfl ?_
      refine d_ld_sizes (pc := 19) dX0_canDivide_19 (by omega) ?_
      refine n_if_le (pc := 20) (tgt := 27) dX0_canDivide_20 (by decide) (by omega) (fun h20 => ?_) (fun h20 => ?_)
      · skip
        refine j_iconst (pc := 27) (v := nI 0) dX0_canDivide_27 (by decide) ?_
        first | exact ret _ _ _ _ dX0_canDivide_28 rfl ⟨rfl, Or.inr ⟨rfl, fun f g hf hg e1 e2 => absurd e1 (hbx f hf)⟩⟩ | exact ret _ _ _ _ dX0_canDivide_28 rfl ⟨rfl, Or.inr ⟨rfl, fun f g hf hg e1 e2 => absurd e2 (hby g hg)⟩⟩ | exact ret _ _ _ _ dX0_canDivide_28 rfl ⟨rfl, Or.inr ⟨rfl, fun f g hf hg e1 e2 => by rw [← (nI_eq (by omega) (by omega)).mp e2]; exact h20⟩⟩
      · skip
        refine j_iconst (pc := 23) (v := nI 1) dX0_canDivide_23 (by decide) ?_
        refine j_goto (pc := 24) (tgt := 28) dX0_canDivide_24 (by decide) ?_
        exact ret _ _ _ _ dX0_canDivide_28 rfl ⟨rfl, Or.inl ⟨rfl, x0, y0, hx0, hy0, rfl, rfl, h20⟩⟩
    · skip
      skip
      refine n_if_eq (pc := 11) (tgt := 27) dX0_canDivide_11 (by decide) (by decide) (fun _ => ?_) (fun h => absurd h (by decide))
      refine j_iconst (pc := 27) (v := nI 0) dX0_canDivide_27 (by decide) ?_
      first | exact ret _ _ _ _ dX0_canDivide_28 rfl ⟨rfl, Or.inr ⟨rfl, fun f g hf hg e1 e2 => absurd e1 (hbx f hf)⟩⟩ | exact ret _ _ _ _ dX0_canDivide_28 rfl ⟨rfl, Or.inr ⟨rfl, fun f g hf hg e1 e2 => absurd e2 (hby g hg)⟩⟩ | exact ret _ _ _ _ dX0_canDivide_28 rfl ⟨rfl, Or.inr ⟨rfl, fun f g hf hg e1 e2 => by rw [← (nI_eq (by omega) (by omega)).mp e2]; exact h20⟩⟩
  · skip
    skip
    refine n_if_eq (pc := 4) (tgt := 27) dX0_canDivide_4 (by decide) (by decide) (fun _ => ?_) (fun h => absurd h (by decide))
    refine j_iconst (pc := 27) (v := nI 0) dX0_canDivide_27 (by decide) ?_
    first | exact ret _ _ _ _ dX0_canDivide_28 rfl ⟨rfl, Or.inr ⟨rfl, fun f g hf hg e1 e2 => absurd e1 (hbx f hf)⟩⟩ | exact ret _ _ _ _ dX0_canDivide_28 rfl ⟨rfl, Or.inr ⟨rfl, fun f g hf hg e1 e2 => absurd e2 (hby g hg)⟩⟩ | exact ret _ _ _ _ dX0_canDivide_28 rfl ⟨rfl, Or.inr ⟨rfl, fun f g hf hg e1 e2 => by rw [← (nI_eq (by omega) (by omega)).mp e2]; exact h20⟩⟩
end
section
/-! plain: rows sorted; what put and take do to them -/
def sg (g : Nat → Nat) (n : Nat) : Prop := ∀ i j, i < j → j < n → g i < g j
def mg (g : Nat → Nat) (n x : Nat) : Prop := ∃ i, i < n ∧ g i = x
def Good (X : Nat → Nat → Nat) : Prop := ∀ e, e < 4 → X 1 e ≤ 8 ∧ (∀ i, i < X 1 e → gr X e i < 128) ∧ sg (gr X e) (X 1 e)
theorem Good.ok {X : Nat → Nat → Nat} (h : Good X) : okX X := fun e he => ⟨(h e he).1, (h e he).2.1⟩
theorem Good.of {X X' : Nat → Nat → Nat} (h : Good X) (h1 : X' 1 = X 1) (h2 : X' 2 = X 2) : Good X' := by
  intro e he
  have := h e he
  unfold gr at this ⊢
  rw [h1, h2]
  exact this
def rsame (X X' : Nat → Nat → Nat) (f : Nat) : Prop := X' 1 f = X 1 f ∧ ∀ i, i < X 1 f → gr X' f i = gr X f i
theorem rsame.rf {X : Nat → Nat → Nat} {f : Nat} : rsame X X f := ⟨rfl, fun _ _ => rfl⟩
theorem rsame.tr {X X' X'' : Nat → Nat → Nat} {f : Nat} (h : rsame X X' f) (h' : rsame X' X'' f) : rsame X X'' f := ⟨h'.1.trans h.1, fun i hi => (h'.2 i (by rw [h.1]; exact hi)).trans (h.2 i hi)⟩
theorem rsame.of {X X' : Nat → Nat → Nat} {f : Nat} (h1 : X' 1 = X 1) (h2 : X' 2 = X 2) : rsame X X' f := ⟨by rw [h1], fun i _ => by unfold gr; rw [h2]⟩
theorem sg_of {g g' : Nat → Nat} {n : Nat} (h : sg g n) (e : ∀ i, i < n → g' i = g i) : sg g' n := fun i j h1 h2 => by rw [e i (by omega), e j h2]; exact h i j h1 h2
theorem rsame.good {X X' : Nat → Nat → Nat} {f : Nat} (h : rsame X X' f) (hg : X 1 f ≤ 8 ∧ (∀ i, i < X 1 f → gr X f i < 128) ∧ sg (gr X f) (X 1 f)) : X' 1 f ≤ 8 ∧ (∀ i, i < X' 1 f → gr X' f i < 128) ∧ sg (gr X' f) (X' 1 f) := by
  rw [h.1]
  exact ⟨hg.1, fun i hi => by rw [h.2 i hi]; exact hg.2.1 i hi, sg_of hg.2.2 h.2⟩
theorem rsame.mg {X X' : Nat → Nat → Nat} {f : Nat} (h : rsame X X' f) (x : Nat) : mg (gr X' f) (X' 1 f) x ↔ mg (gr X f) (X 1 f) x := by
  constructor
  · rintro ⟨i, hi, e⟩
    rw [h.1] at hi
    exact ⟨i, hi, by rw [← h.2 i hi]; exact e⟩
  · rintro ⟨i, hi, e⟩
    exact ⟨i, by rw [h.1]; exact hi, by rw [h.2 i hi]; exact e⟩
theorem putQ_good {X X' : Nat → Nat → Nat} {e c : Nat} (hG : Good X) (he : e < 4) (hc : c < 128) (h8 : X 1 e < 8) (hno : ∀ i, i < X 1 e → X 2 (e * 8 + i) ≠ c) (h : putQ X e c X') : Good X' ∧ (∀ x, mg (gr X' e) (X' 1 e) x ↔ x = c ∨ mg (gr X e) (X 1 e) x) ∧ (∀ f, f < 4 → f ≠ e → rsame X X' f) ∧ X' 1 e = X 1 e + 1 ∧ X' 0 = X 0 ∧ X' 3 = X 3 := by
  obtain ⟨p, hp, hlo, hhi, h1, h2, hk⟩ := h
  have hn : X' 1 e = X 1 e + 1 := by rw [h1, if_pos rfl]
  have gl : ∀ i, i < p → gr X' e i = gr X e i := fun i hi => by
    unfold gr
    rw [h2, if_neg (by omega), if_neg (by omega)]
  have gp : gr X' e p = c := by
    unfold gr
    rw [h2, if_pos rfl]
  have gh : ∀ i, p < i → i ≤ X 1 e → gr X' e i = gr X e (i - 1) := fun i hi hi2 => by
    unfold gr
    rw [h2, if_neg (by omega), if_pos (by omega), show e * 8 + i - 1 = e * 8 + (i - 1) by omega]
  have hs := hG e he
  have hlt : ∀ i, i < p → gr X e i < c := by
    intro i hi
    have h3 : X 2 (e * 8 + p - 1) ≤ c := by
      rcases hlo with z | z
      · omega
      · exact z
    have h4 : gr X e (p - 1) < c := by
      have h5 := hno (p - 1) (by omega)
      unfold gr
      rw [show e * 8 + (p - 1) = e * 8 + p - 1 by omega] at h5 ⊢
      omega
    rcases Nat.lt_or_ge i (p - 1) with z | z
    · exact Nat.lt_trans (hs.2.2 i (p - 1) z (by omega)) h4
    · rw [show i = p - 1 by omega]; exact h4
  have hgt : ∀ i, p ≤ i → i < X 1 e → c < gr X e i := fun i a b => hhi i a b
  have oth : ∀ f, f < 4 → f ≠ e → rsame X X' f := by
    intro f hf hne
    refine ⟨by rw [h1, if_neg hne], fun i hi => ?_⟩
    have := (hG f hf).1
    unfold gr
    rw [h2, if_neg (by omega), if_neg (by omega)]
  refine ⟨fun f hf => ?_, fun x => ?_, oth, hn, hk 0 (by decide) (by decide), hk 3 (by decide) (by decide)⟩
  · by_cases q : f = e
    · subst q
      rw [hn]
      refine ⟨by omega, fun i hi => ?_, fun i j hij hj => ?_⟩
      · rcases Nat.lt_trichotomy i p with z | z | z
        · rw [gl i z]; exact hs.2.1 i (by omega)
        · rw [z, gp]; exact hc
        · rw [gh i z (by omega)]; exact hs.2.1 (i - 1) (by omega)
      · rcases Nat.lt_trichotomy j p with z | z | z
        · rw [gl i (by omega), gl j z]; exact hs.2.2 i j hij (by omega)
        · rw [gl i (by omega), z, gp]; exact hlt i (by omega)
        · rw [gh j z (by omega)]
          rcases Nat.lt_trichotomy i p with y | y | y
          · rw [gl i y]; exact hs.2.2 i (j - 1) (by omega) (by omega)
          · rw [y, gp]; exact hgt (j - 1) (by omega) (by omega)
          · rw [gh i y (by omega)]; exact hs.2.2 (i - 1) (j - 1) (by omega) (by omega)
    · exact (oth f hf q).good (hG f hf)
  · rw [hn]
    constructor
    · rintro ⟨i, hi, rfl⟩
      rcases Nat.lt_trichotomy i p with z | z | z
      · exact Or.inr ⟨i, by omega, (gl i z).symm⟩
      · exact Or.inl (by rw [z, gp])
      · exact Or.inr ⟨i - 1, by omega, (gh i z (by omega)).symm⟩
    · rintro (rfl | ⟨i, hi, rfl⟩)
      · exact ⟨p, by omega, gp⟩
      · rcases Nat.lt_or_ge i p with z | z
        · exact ⟨i, by omega, gl i z⟩
        · exact ⟨i + 1, by omega, by rw [gh (i + 1) (by omega) (by omega)]; rfl⟩
theorem takeQ_good {X X' : Nat → Nat → Nat} {e i : Nat} (hG : Good X) (he : e < 4) (hi : i < X 1 e) (h : takeQ X e i X') : Good X' ∧ (∀ x, mg (gr X' e) (X' 1 e) x ↔ x ≠ gr X e i ∧ mg (gr X e) (X 1 e) x) ∧ (∀ f, f < 4 → f ≠ e → rsame X X' f) := by
  obtain ⟨h1, h2, hk⟩ := h
  have hn : X' 1 e = X 1 e - 1 := by rw [h1, if_pos rfl]
  have gl : ∀ j, j < i → gr X' e j = gr X e j := fun j hj => by
    unfold gr
    rw [h2, if_neg (by omega)]
  have gh : ∀ j, i ≤ j → j < X 1 e - 1 → gr X' e j = gr X e (j + 1) := fun j a b => by
    unfold gr
    rw [h2, if_pos (by omega)]
    rfl
  have hs := hG e he
  have oth : ∀ f, f < 4 → f ≠ e → rsame X X' f := by
    intro f hf hne
    refine ⟨by rw [h1, if_neg hne], fun j hj => ?_⟩
    have := (hG f hf).1
    unfold gr
    rw [h2, if_neg (by omega)]
  refine ⟨fun f hf => ?_, fun x => ?_, oth⟩
  · by_cases q : f = e
    · subst q
      rw [hn]
      refine ⟨by omega, fun j hj => ?_, fun j k hjk hkn => ?_⟩
      · rcases Nat.lt_or_ge j i with z | z
        · rw [gl j z]; exact hs.2.1 j (by omega)
        · rw [gh j z hj]; exact hs.2.1 (j + 1) (by omega)
      · rcases Nat.lt_or_ge k i with z | z
        · rw [gl j (by omega), gl k z]; exact hs.2.2 j k hjk (by omega)
        · rw [gh k z hkn]
          rcases Nat.lt_or_ge j i with y | y
          · rw [gl j y]; exact hs.2.2 j (k + 1) (by omega) (by omega)
          · rw [gh j y (by omega)]; exact hs.2.2 (j + 1) (k + 1) (by omega) (by omega)
    · exact (oth f hf q).good (hG f hf)
  · rw [hn]
    constructor
    · rintro ⟨j, hj, rfl⟩
      rcases Nat.lt_or_ge j i with z | z
      · rw [gl j z]
        exact ⟨Nat.ne_of_lt (hs.2.2 j i z hi), j, by omega, rfl⟩
      · rw [gh j z hj]
        exact ⟨fun q => absurd q.symm (Nat.ne_of_lt (hs.2.2 i (j + 1) (by omega) (by omega))), j + 1, by omega, rfl⟩
    · rintro ⟨hne, j, hj, rfl⟩
      rcases Nat.lt_trichotomy j i with z | z | z
      · exact ⟨j, by omega, gl j z⟩
      · exact absurd (by rw [z]) hne
      · exact ⟨j - 1, by omega, by rw [gh (j - 1) (by omega) (by omega), show j - 1 + 1 = j by omega]⟩
/-- more of hm: an element by its place -/
theorem hm_at {X : Nat → Nat → Nat} {l : List Nat} (h : hm X l) {i : Nat} (hi : i < X 0 0) : X 3 i ∈ l := (hm_mem h _).mpr ⟨i, hi, rfl⟩
theorem hm_of {X X' : Nat → Nat → Nat} {l : List Nat} (h : hm X l) (h0 : X' 0 0 = X 0 0) (h3 : X' 3 = X 3) : hm X' l := ⟨by rw [h0]; exact h.1, fun j hj => by rw [h3]; exact h.2 j hj⟩
/-- all the letters of g 0 .. g (n - 1) -/
def orN (g : Nat → Nat) : Nat → Nat
  | 0 => 0
  | i + 1 => orN g i ||| g i
theorem orN_lt {g : Nat → Nat} : ∀ n, (∀ i, i < n → g i < 128) → orN g n < 128
  | 0, _ => by simp [orN]
  | n + 1, h => Nat.or_lt_two_pow (n := 7) (orN_lt n (fun i hi => h i (by omega))) (h n (by omega))
theorem orN_bit (g : Nat → Nat) (b : Nat) : ∀ n, (orN g n).testBit b = true ↔ ∃ i, i < n ∧ (g i).testBit b = true
  | 0 => by simp [orN]
  | n + 1 => by
    unfold orN
    rw [Nat.testBit_or, Bool.or_eq_true, orN_bit g b n]
    constructor
    · rintro (⟨i, h1, h2⟩ | h)
      · exact ⟨i, by omega, h2⟩
      · exact ⟨n, by omega, h⟩
    · rintro ⟨i, h1, h2⟩
      rcases Nat.lt_or_ge i n with c | c
      · exact Or.inl ⟨i, c, h2⟩
      · rw [show i = n by omega] at h2
        exact Or.inr h2
def allN (q : Nat → Bool) (n : Nat) : Bool := (List.range n).all q
theorem allN_iff {q : Nat → Bool} {n : Nat} : allN q n = true ↔ ∀ i, i < n → q i = true := by
  unfold allN
  rw [List.all_eq_true]
  exact ⟨fun h i hi => h i (List.mem_range.mpr hi), fun h i hi => h i (List.mem_range.mp hi)⟩
theorem allN_s (q : Nat → Bool) (n : Nat) : allN q (n + 1) = (allN q n && q n) := by
  unfold allN
  rw [List.range_succ, List.all_append]
  simp
theorem allN_f {q : Nat → Bool} {n i : Nat} (hi : i < n) (h : q i = false) : allN q n = false := by
  cases e : allN q n with
  | false => rfl
  | true => rw [allN_iff.mp e i hi] at h; cases h
theorem allN_le {q : Nat → Bool} {k n : Nat} (hk : k ≤ n) (h : allN q k = false) : allN q n = false := by
  cases e : allN q n with
  | false => rfl
  | true => rw [allN_iff.mpr (fun i hi => allN_iff.mp e i (by omega))] at h; cases h
/-- of the made cubes x: shares no letter with g's, and its joins with all of g's are in f -/
def qgood (X : Nat → Nat → Nat) (f g x : Nat) : Bool := decide (x &&& orN (gr X g) (X 1 g) = 0) && allN (fun k => anyN (fun i => decide (gr X f i = x ||| gr X g k)) (X 1 f)) (X 1 g)
/-- whether a cube is a join of a made one and one of g -/
def isPr (X : Nat → Nat → Nat) (g c : Nat) : Bool := anyN (fun k => decide (nd (gr X g k) c = 0) && anyN (fun i => decide (X 3 i = nd c (gr X g k))) (X 0 0)) (X 1 g)
theorem mem_take_s {l : List Nat} {i v x : Nat} (h : l[i]? = some v) : x ∈ l.take (i + 1) ↔ x ∈ l.take i ∨ x = v := by
  rw [List.take_add_one, h]
  simp
theorem filt_s {l : List Nat} {q : Nat → Bool} {i v : Nat} (h : l[i]? = some v) : (l.take (i + 1)).filter q = (l.take i).filter q ++ (if q v then [v] else []) := by
  rw [List.take_add_one, h, List.filter_append]
  cases e : q v <;> simp [e]
theorem filt_len (l : List Nat) (q : Nat → Bool) (i : Nat) : ((l.take i).filter q).length ≤ i := Nat.le_trans (List.length_filter_le _ _) (by rw [List.length_take]; omega)
theorem qb_mem_lt {g : Nat → Nat} {c n : Nat} (h : ∀ i, i < n → g i < 128) {x : Nat} (hx : x ∈ qb g c n) : x < 128 := by
  unfold qb at hx
  obtain ⟨i, hi, rfl⟩ := List.mem_map.mp hx
  exact Nat.lt_of_le_of_lt (nd_le _ _) (h i (List.mem_range.mp (List.mem_filter.mp hi).1))
/-- the store loop: i of the made cubes L are put into e -/
def sInv (X : Nat → Nat → Nat) (e : Nat) (L : List Nat) (i : Nat) (X' : Nat → Nat → Nat) : Prop := Good X' ∧ hm X' L ∧ (∀ x, mg (gr X' e) (X' 1 e) x ↔ x ∈ L.take i) ∧ X' 1 e ≤ i ∧ ∀ f, f < 4 → f ≠ e → rsame X X' f
theorem sInv_step {X X' X'' : Nat → Nat → Nat} {e i : Nat} {L : List Nat} {r : Int32} (he : e < 4) (hL : L.length ≤ 8) (hLc : ∀ x ∈ L, x < 128) (hi : i < L.length) (h : sInv X e L i X') (hp : putP X' (nI e) (nI (X' 3 i)) r X'') : sInv X e L (i + 1) X'' := by
  obtain ⟨hG, hm1, hmem, hle, hoth⟩ := h
  have hv : L[i]? = some (X' 3 i) := hm1.2 i hi
  have hvl : X' 3 i < 128 := hLc _ (List.mem_of_getElem? hv)
  rcases hp with ⟨-, -, hb⟩ | ⟨-, -, hb⟩ | ⟨e', k, he', hk, h1, h2, hp⟩
  · exact absurd rfl (hb e he)
  · exact absurd rfl (hb _ hvl)
  · have e1 := (nI_eq (by omega) (by omega)).mp h1
    have e2 := (nI_eq (by omega) (by omega)).mp h2
    subst e1
    subst e2
    rcases hp with ⟨-, rfl, j, hj, hjv⟩ | ⟨hno, ⟨-, -, h8⟩ | ⟨-, h8, hq⟩⟩
    · refine ⟨hG, hm1, fun x => ?_, by omega, hoth⟩
      rw [mem_take_s hv, hmem x]
      constructor
      · exact Or.inl
      · rintro (z | z)
        · exact z
        · exact (hmem x).mp ⟨j, hj, by rw [z]; exact hjv⟩
    · omega
    · obtain ⟨g1, g2, g3, g4, g5, g6⟩ := putQ_good hG he hvl h8 hno hq
      refine ⟨g1, hm_of hm1 (by rw [g5]) g6, fun x => ?_, by omega, fun f hf hne => (hoth f hf hne).tr (g3 f hf hne)⟩
      rw [mem_take_s hv, g2 x, hmem x]
      exact Or.comm
def storeP (X : Nat → Nat → Nat) (e : Nat) (L : List Nat) (r : Int32) (X' : Nat → Nat → Nat) : Prop := Good X' ∧ r = nI (X' 1 e) ∧ (∀ x, mg (gr X' e) (X' 1 e) x ↔ x ∈ L) ∧ ∀ f, f < 4 → f ≠ e → rsame X X' f
theorem sInv_0 {X X' : Nat → Nat → Nat} {e : Nat} {L : List Nat} (hG : Good X) (he : e < 4) (hm1 : hm X L) (h : X' = up2 X 1 e 0) : sInv X e L 0 X' := by
  have h0 : X' 1 e = 0 := by rw [h, up2_s]
  have h2 : X' 2 = X 2 := by rw [h, up2_k _ _ _ (by decide)]
  have hs : ∀ f, f < 4 → f ≠ e → rsame X X' f := fun f hf hne => ⟨by rw [h, up2_n _ _ _ hne], fun i _ => by unfold gr; rw [h2]⟩
  refine ⟨fun f hf => ?_, hm_of hm1 (by rw [h, up2_k _ _ _ (by decide)]) (by rw [h, up2_k _ _ _ (by decide)]), fun x => ?_, by omega, hs⟩
  · by_cases q : f = e
    · subst q
      rw [h0]
      exact ⟨by omega, fun i hi => absurd hi (by omega), fun i j _ hj => absurd hj (by omega)⟩
    · exact (hs f hf q).good (hG f hf)
  · rw [h0]
    constructor
    · rintro ⟨i, hi, -⟩
      omega
    · intro z
      simp at z
/-- the quotient's filter loop: i of the cubes Q looked at -/
def qInv (X : Nat → Nat → Nat) (q : Nat → Bool) (Q : List Nat) (i : Nat) (X' : Nat → Nat → Nat) : Prop := X' 1 = X 1 ∧ X' 2 = X 2 ∧ X' 0 0 = Q.length ∧ (∀ j, j < ((Q.take i).filter q).length → ((Q.take i).filter q)[j]? = some (X' 3 j)) ∧ ∀ j, i ≤ j → j < Q.length → Q[j]? = some (X' 3 j)
theorem qInv_0 {X X' : Nat → Nat → Nat} {q : Nat → Bool} {Q : List Nat} (h1 : X' 1 = X 1) (h2 : X' 2 = X 2) (h : hm X' Q) : qInv X q Q 0 X' := ⟨h1, h2, h.1, fun j hj => by simp at hj, fun j _ hj => h.2 j hj⟩
theorem qInv_n {X X' : Nat → Nat → Nat} {q : Nat → Bool} {Q : List Nat} {i v : Nat} (h : qInv X q Q i X') (hv : Q[i]? = some v) (hq : q v = false) : qInv X q Q (i + 1) X' ∧ (Q.take (i + 1)).filter q = (Q.take i).filter q := by
  have e : (Q.take (i + 1)).filter q = (Q.take i).filter q := by rw [filt_s hv, hq]; simp
  refine ⟨⟨h.1, h.2.1, h.2.2.1, ?_, fun j hj => h.2.2.2.2 j (by omega)⟩, e⟩
  rw [e]
  exact h.2.2.2.1
theorem qInv_y {X X' X'' : Nat → Nat → Nat} {q : Nat → Bool} {Q : List Nat} {i v : Nat} (h : qInv X q Q i X') (hv : Q[i]? = some v) (hq : q v = true) (h2 : X'' = up2 X' 3 (((Q.take i).filter q).length) v) : qInv X q Q (i + 1) X'' ∧ ((Q.take (i + 1)).filter q).length = ((Q.take i).filter q).length + 1 := by
  have e : (Q.take (i + 1)).filter q = (Q.take i).filter q ++ [v] := by rw [filt_s hv, hq]; simp
  have hl := filt_len Q q i
  have e2 : ((Q.take (i + 1)).filter q).length = ((Q.take i).filter q).length + 1 := by rw [e]; simp
  refine ⟨⟨by rw [h2, up2_k _ _ _ (by decide)]; exact h.1, by rw [h2, up2_k _ _ _ (by decide)]; exact h.2.1, by rw [h2, up2_k _ _ _ (by decide)]; exact h.2.2.1, fun j hj => ?_, fun j hj hj2 => ?_⟩, e2⟩
  · rw [e2] at hj
    rw [e, h2]
    rcases Nat.lt_or_ge j ((Q.take i).filter q).length with c | c
    · rw [List.getElem?_append_left c, up2_n _ _ _ (by omega)]
      exact h.2.2.2.1 j c
    · rw [show j = ((Q.take i).filter q).length by omega, List.getElem?_append_right (Nat.le_refl _), up2_s]
      simp
  · rw [h2, up2_n _ _ _ (by omega)]
    exact h.2.2.2.2 j (by omega) hj2
end
section
/-! the desk: store, quotient, remainder and what calls them -/

theorem dX0_store_0 : decode cX0_store 0 = .ok (.aload_n 0, 1) := by decide +kernel
theorem dX0_store_1 : decode cX0_store 1 = .ok (.getfield 7, 3) := by decide +kernel
theorem dX0_store_4 : decode cX0_store 4 = .ok (.iload_n 1, 1) := by decide +kernel
theorem dX0_store_5 : decode cX0_store 5 = .ok (.iconst 0, 1) := by decide +kernel
theorem dX0_store_6 : decode cX0_store 6 = .ok (.bastore, 1) := by decide +kernel
theorem dX0_store_7 : decode cX0_store 7 = .ok (.iconst 0, 1) := by decide +kernel
theorem dX0_store_8 : decode cX0_store 8 = .ok (.istore_n 2, 1) := by decide +kernel
theorem dX0_store_9 : decode cX0_store 9 = .ok (.iload_n 2, 1) := by decide +kernel
theorem dX0_store_10 : decode cX0_store 10 = .ok (.aload_n 0, 1) := by decide +kernel
theorem dX0_store_11 : decode cX0_store 11 = .ok (.getfield 44, 3) := by decide +kernel
theorem dX0_store_14 : decode cX0_store 14 = .ok (.if_icmp .ge 21, 3) := by decide +kernel
theorem dX0_store_17 : decode cX0_store 17 = .ok (.aload_n 0, 1) := by decide +kernel
theorem dX0_store_18 : decode cX0_store 18 = .ok (.iload_n 1, 1) := by decide +kernel
theorem dX0_store_19 : decode cX0_store 19 = .ok (.aload_n 0, 1) := by decide +kernel
theorem dX0_store_20 : decode cX0_store 20 = .ok (.getfield 16, 3) := by decide +kernel
theorem dX0_store_23 : decode cX0_store 23 = .ok (.iload_n 2, 1) := by decide +kernel
theorem dX0_store_24 : decode cX0_store 24 = .ok (.baload, 1) := by decide +kernel
theorem dX0_store_25 : decode cX0_store 25 = .ok (.invokevirtual 48, 3) := by decide +kernel
theorem dX0_store_28 : decode cX0_store 28 = .ok (.pop, 1) := by decide +kernel
theorem dX0_store_29 : decode cX0_store 29 = .ok (.iinc 2 1, 3) := by decide +kernel
theorem dX0_store_32 : decode cX0_store 32 = .ok (.goto (-23), 3) := by decide +kernel
theorem dX0_store_35 : decode cX0_store 35 = .ok (.aload_n 0, 1) := by decide +kernel
theorem dX0_store_36 : decode cX0_store 36 = .ok (.getfield 7, 3) := by decide +kernel
theorem dX0_store_39 : decode cX0_store 39 = .ok (.iload_n 1, 1) := by decide +kernel
theorem dX0_store_40 : decode cX0_store 40 = .ok (.baload, 1) := by decide +kernel
theorem dX0_store_41 : decode cX0_store 41 = .ok (.ireturn, 1) := by decide +kernel
set_option maxRecDepth 100000 in
set_option maxHeartbeats 4000000 in
theorem met_store (l : Launch) (Y : dL) (X : Nat → Nat → Nat) (e : Nat) (L : List Nat) (he : e < 4) (hG0 : Good X) (hmL : hm X L) (hL : L.length ≤ 8) (hLc : ∀ x ∈ L, x < 128) : dMi l yX0_store cX0_store 3 (some .int) 3 Y [.int (nI e)] X (storeP X e L) := by
  refine d_ofi .int (own := RX0) rfl rfl (by decide) (Nat.le_of_ble_eq_true rfl) (by simp [lcat, Value.category]) ?_
  intro G hG ret
  have loop : ∀ i, i ≤ L.length → ∀ X', sInv X e L i X' → J cX0_store 3 RX0 G (dV G Y (dA Y) X') 9 [.ref (Y.2.1 0), .int (nI e), .int (nI i)] [] := by
    refine up_loop _ L.length (fun X' hI => ?_) (fun i hi ih X' hI => ?_)
    · skip
      obtain ⟨hG1, hm1, hmem, hle, hoth⟩ := hI
      have hl0 := hm1.1
      refine j_iload_n (pc := 9) (i := 2) dX0_store_9 rfl rfl ?_
      refine j_aload_n (pc := 10) (i := 0) dX0_store_10 rfl rfl ?_
      refine d_get_madeSize (pc := 11) dX0_store_11 ?_
      refine n_icmp_ge (pc := 14) (tgt := 35) dX0_store_14 (by decide) (by omega) (fun h14 => ?_) (fun h14 => ?_)
      · skip
        refine j_aload_n (pc := 35) (i := 0) dX0_store_35 rfl rfl ?_
        refine d_get_sizes (pc := 36) dX0_store_36 ?_
        refine j_iload_n (pc := 39) (i := 1) dX0_store_39 rfl rfl ?_
        refine d_ld_sizes (pc := 40) dX0_store_40 (by omega) ?_
        exact ret _ _ _ _ dX0_store_41 rfl ⟨hG1, rfl, fun x => by rw [hmem x, List.take_length], hoth⟩
      · skip
        exact absurd h14 (by omega)
    · skip
      have hI0 := hI
      obtain ⟨hG1, hm1, hmem, hle, hoth⟩ := hI
      have hl0 := hm1.1
      refine j_iload_n (pc := 9) (i := 2) dX0_store_9 rfl rfl ?_
      refine j_aload_n (pc := 10) (i := 0) dX0_store_10 rfl rfl ?_
      refine d_get_madeSize (pc := 11) dX0_store_11 ?_
      refine n_icmp_ge (pc := 14) (tgt := 35) dX0_store_14 (by decide) (by omega) (fun h14 => ?_) (fun h14 => ?_)
      · skip
        exact absurd h14 (by omega)
      · skip
        refine j_aload_n (pc := 17) (i := 0) dX0_store_17 rfl rfl ?_
        refine j_iload_n (pc := 18) (i := 1) dX0_store_18 rfl rfl ?_
        refine j_aload_n (pc := 19) (i := 0) dX0_store_19 rfl rfl ?_
        refine d_get_made (pc := 20) dX0_store_20 ?_
        refine j_iload_n (pc := 23) (i := 2) dX0_store_23 rfl rfl ?_
        refine d_ld_made (pc := 24) dX0_store_24 (by omega) ?_
        refine d_calli (pc := 25) (st := []) (met_put (kl G) Y X' (nI e) (nI (X' 3 i)) hG1.ok) hG (by decide) dX0_store_25 cpD_X0_put (Nat.le_of_ble_eq_true rfl) rfl (fun r25 X25 hr25 => ?_)
        refine j_pop (pc := 28) dX0_store_28 rfl ?_
        refine n_iinc (pc := 29) (n := 1) (lv' := [.ref (Y.2.1 0), .int (nI e), .int (nI (i + 1))]) dX0_store_29 rfl rfl (Nat.le_of_ble_eq_true rfl) ?_
        refine j_goto (pc := 32) (tgt := 9) dX0_store_32 (by decide) ?_
        exact ih X25 (sInv_step he hL hLc hi hI0 hr25)
  refine j_aload_n (pc := 0) (i := 0) dX0_store_0 rfl rfl ?_
  refine d_get_sizes (pc := 1) dX0_store_1 ?_
  refine j_iload_n (pc := 4) (i := 1) dX0_store_4 rfl rfl ?_
  refine j_iconst (pc := 5) (v := nI 0) dX0_store_5 (by decide) ?_
  refine d_st_sizes (pc := 6) dX0_store_6 (by omega) (by omega) (fun X6 hX6 => ?_)
  refine j_iconst (pc := 7) (v := nI 0) dX0_store_7 (by decide) ?_
  refine j_istore_n (pc := 8) (i := 2) (lv' := [.ref (Y.2.1 0), .int (nI e), .int (nI 0)]) dX0_store_8 rfl rfl ⟨(Nat.le_of_ble_eq_true rfl), (Nat.le_of_ble_eq_true rfl)⟩ ?_
  exact loop 0 (Nat.zero_le _) X6 (sInv_0 hG0 he hmL hX6)

theorem dX0_quotient_0 : decode cX0_quotient 0 = .ok (.iconst 0, 1) := by decide +kernel
theorem dX0_quotient_1 : decode cX0_quotient 1 = .ok (.istore_n 3, 1) := by decide +kernel
theorem dX0_quotient_2 : decode cX0_quotient 2 = .ok (.iconst 0, 1) := by decide +kernel
theorem dX0_quotient_3 : decode cX0_quotient 3 = .ok (.istore 4, 2) := by decide +kernel
theorem dX0_quotient_5 : decode cX0_quotient 5 = .ok (.iload 4, 2) := by decide +kernel
theorem dX0_quotient_7 : decode cX0_quotient 7 = .ok (.aload_n 0, 1) := by decide +kernel
theorem dX0_quotient_8 : decode cX0_quotient 8 = .ok (.getfield 7, 3) := by decide +kernel
theorem dX0_quotient_11 : decode cX0_quotient 11 = .ok (.iload_n 2, 1) := by decide +kernel
theorem dX0_quotient_12 : decode cX0_quotient 12 = .ok (.baload, 1) := by decide +kernel
theorem dX0_quotient_13 : decode cX0_quotient 13 = .ok (.if_icmp .ge 24, 3) := by decide +kernel
theorem dX0_quotient_16 : decode cX0_quotient 16 = .ok (.iload_n 3, 1) := by decide +kernel
theorem dX0_quotient_17 : decode cX0_quotient 17 = .ok (.aload_n 0, 1) := by decide +kernel
theorem dX0_quotient_18 : decode cX0_quotient 18 = .ok (.getfield 13, 3) := by decide +kernel
theorem dX0_quotient_21 : decode cX0_quotient 21 = .ok (.iload_n 2, 1) := by decide +kernel
theorem dX0_quotient_22 : decode cX0_quotient 22 = .ok (.bipush 8, 2) := by decide +kernel
theorem dX0_quotient_24 : decode cX0_quotient 24 = .ok (.imul, 1) := by decide +kernel
theorem dX0_quotient_25 : decode cX0_quotient 25 = .ok (.iload 4, 2) := by decide +kernel
theorem dX0_quotient_27 : decode cX0_quotient 27 = .ok (.iadd, 1) := by decide +kernel
theorem dX0_quotient_28 : decode cX0_quotient 28 = .ok (.baload, 1) := by decide +kernel
theorem dX0_quotient_29 : decode cX0_quotient 29 = .ok (.ior, 1) := by decide +kernel
theorem dX0_quotient_30 : decode cX0_quotient 30 = .ok (.istore_n 3, 1) := by decide +kernel
theorem dX0_quotient_31 : decode cX0_quotient 31 = .ok (.iinc 4 1, 3) := by decide +kernel
theorem dX0_quotient_34 : decode cX0_quotient 34 = .ok (.goto (-29), 3) := by decide +kernel
theorem dX0_quotient_37 : decode cX0_quotient 37 = .ok (.aload_n 0, 1) := by decide +kernel
theorem dX0_quotient_38 : decode cX0_quotient 38 = .ok (.iload_n 1, 1) := by decide +kernel
theorem dX0_quotient_39 : decode cX0_quotient 39 = .ok (.aload_n 0, 1) := by decide +kernel
theorem dX0_quotient_40 : decode cX0_quotient 40 = .ok (.getfield 13, 3) := by decide +kernel
theorem dX0_quotient_43 : decode cX0_quotient 43 = .ok (.iload_n 2, 1) := by decide +kernel
theorem dX0_quotient_44 : decode cX0_quotient 44 = .ok (.bipush 8, 2) := by decide +kernel
theorem dX0_quotient_46 : decode cX0_quotient 46 = .ok (.imul, 1) := by decide +kernel
theorem dX0_quotient_47 : decode cX0_quotient 47 = .ok (.baload, 1) := by decide +kernel
theorem dX0_quotient_48 : decode cX0_quotient 48 = .ok (.invokevirtual 52, 3) := by decide +kernel
theorem dX0_quotient_51 : decode cX0_quotient 51 = .ok (.iconst 0, 1) := by decide +kernel
theorem dX0_quotient_52 : decode cX0_quotient 52 = .ok (.istore 4, 2) := by decide +kernel
theorem dX0_quotient_54 : decode cX0_quotient 54 = .ok (.iconst 0, 1) := by decide +kernel
theorem dX0_quotient_55 : decode cX0_quotient 55 = .ok (.istore 5, 2) := by decide +kernel
theorem dX0_quotient_57 : decode cX0_quotient 57 = .ok (.iload 5, 2) := by decide +kernel
theorem dX0_quotient_59 : decode cX0_quotient 59 = .ok (.aload_n 0, 1) := by decide +kernel
theorem dX0_quotient_60 : decode cX0_quotient 60 = .ok (.getfield 44, 3) := by decide +kernel
theorem dX0_quotient_63 : decode cX0_quotient 63 = .ok (.if_icmp .ge 109, 3) := by decide +kernel
theorem dX0_quotient_66 : decode cX0_quotient 66 = .ok (.aload_n 0, 1) := by decide +kernel
theorem dX0_quotient_67 : decode cX0_quotient 67 = .ok (.getfield 16, 3) := by decide +kernel
theorem dX0_quotient_70 : decode cX0_quotient 70 = .ok (.iload 5, 2) := by decide +kernel
theorem dX0_quotient_72 : decode cX0_quotient 72 = .ok (.baload, 1) := by decide +kernel
theorem dX0_quotient_73 : decode cX0_quotient 73 = .ok (.istore 6, 2) := by decide +kernel
theorem dX0_quotient_75 : decode cX0_quotient 75 = .ok (.iload 6, 2) := by decide +kernel
theorem dX0_quotient_77 : decode cX0_quotient 77 = .ok (.iload_n 3, 1) := by decide +kernel
theorem dX0_quotient_78 : decode cX0_quotient 78 = .ok (.iand, 1) := by decide +kernel
theorem dX0_quotient_79 : decode cX0_quotient 79 = .ok (.ifCond .ne 7, 3) := by decide +kernel
theorem dX0_quotient_82 : decode cX0_quotient 82 = .ok (.iconst 1, 1) := by decide +kernel
theorem dX0_quotient_83 : decode cX0_quotient 83 = .ok (.goto 4, 3) := by decide +kernel
theorem dX0_quotient_86 : decode cX0_quotient 86 = .ok (.iconst 0, 1) := by decide +kernel
theorem dX0_quotient_87 : decode cX0_quotient 87 = .ok (.istore 7, 2) := by decide +kernel
theorem dX0_quotient_89 : decode cX0_quotient 89 = .ok (.iconst 0, 1) := by decide +kernel
theorem dX0_quotient_90 : decode cX0_quotient 90 = .ok (.istore 8, 2) := by decide +kernel
theorem dX0_quotient_92 : decode cX0_quotient 92 = .ok (.iload 8, 2) := by decide +kernel
theorem dX0_quotient_94 : decode cX0_quotient 94 = .ok (.aload_n 0, 1) := by decide +kernel
theorem dX0_quotient_95 : decode cX0_quotient 95 = .ok (.getfield 7, 3) := by decide +kernel
theorem dX0_quotient_98 : decode cX0_quotient 98 = .ok (.iload_n 2, 1) := by decide +kernel
theorem dX0_quotient_99 : decode cX0_quotient 99 = .ok (.baload, 1) := by decide +kernel
theorem dX0_quotient_100 : decode cX0_quotient 100 = .ok (.if_icmp .ge 48, 3) := by decide +kernel
theorem dX0_quotient_103 : decode cX0_quotient 103 = .ok (.iload 7, 2) := by decide +kernel
theorem dX0_quotient_105 : decode cX0_quotient 105 = .ok (.ifCond .eq 43, 3) := by decide +kernel
theorem dX0_quotient_108 : decode cX0_quotient 108 = .ok (.iload 6, 2) := by decide +kernel
theorem dX0_quotient_110 : decode cX0_quotient 110 = .ok (.aload_n 0, 1) := by decide +kernel
theorem dX0_quotient_111 : decode cX0_quotient 111 = .ok (.getfield 13, 3) := by decide +kernel
theorem dX0_quotient_114 : decode cX0_quotient 114 = .ok (.iload_n 2, 1) := by decide +kernel
theorem dX0_quotient_115 : decode cX0_quotient 115 = .ok (.bipush 8, 2) := by decide +kernel
theorem dX0_quotient_117 : decode cX0_quotient 117 = .ok (.imul, 1) := by decide +kernel
theorem dX0_quotient_118 : decode cX0_quotient 118 = .ok (.iload 8, 2) := by decide +kernel
theorem dX0_quotient_120 : decode cX0_quotient 120 = .ok (.iadd, 1) := by decide +kernel
theorem dX0_quotient_121 : decode cX0_quotient 121 = .ok (.baload, 1) := by decide +kernel
theorem dX0_quotient_122 : decode cX0_quotient 122 = .ok (.ior, 1) := by decide +kernel
theorem dX0_quotient_123 : decode cX0_quotient 123 = .ok (.istore 9, 2) := by decide +kernel
theorem dX0_quotient_125 : decode cX0_quotient 125 = .ok (.aload_n 0, 1) := by decide +kernel
theorem dX0_quotient_126 : decode cX0_quotient 126 = .ok (.iload_n 1, 1) := by decide +kernel
theorem dX0_quotient_127 : decode cX0_quotient 127 = .ok (.iload 9, 2) := by decide +kernel
theorem dX0_quotient_129 : decode cX0_quotient 129 = .ok (.invokevirtual 40, 3) := by decide +kernel
theorem dX0_quotient_132 : decode cX0_quotient 132 = .ok (.ifCond .lt 7, 3) := by decide +kernel
theorem dX0_quotient_135 : decode cX0_quotient 135 = .ok (.iconst 1, 1) := by decide +kernel
theorem dX0_quotient_136 : decode cX0_quotient 136 = .ok (.goto 4, 3) := by decide +kernel
theorem dX0_quotient_139 : decode cX0_quotient 139 = .ok (.iconst 0, 1) := by decide +kernel
theorem dX0_quotient_140 : decode cX0_quotient 140 = .ok (.istore 7, 2) := by decide +kernel
theorem dX0_quotient_142 : decode cX0_quotient 142 = .ok (.iinc 8 1, 3) := by decide +kernel
theorem dX0_quotient_145 : decode cX0_quotient 145 = .ok (.goto (-53), 3) := by decide +kernel
theorem dX0_quotient_148 : decode cX0_quotient 148 = .ok (.iload 7, 2) := by decide +kernel
theorem dX0_quotient_150 : decode cX0_quotient 150 = .ok (.ifCond .eq 16, 3) := by decide +kernel
theorem dX0_quotient_153 : decode cX0_quotient 153 = .ok (.aload_n 0, 1) := by decide +kernel
theorem dX0_quotient_154 : decode cX0_quotient 154 = .ok (.getfield 16, 3) := by decide +kernel
theorem dX0_quotient_157 : decode cX0_quotient 157 = .ok (.iload 4, 2) := by decide +kernel
theorem dX0_quotient_159 : decode cX0_quotient 159 = .ok (.iload 6, 2) := by decide +kernel
theorem dX0_quotient_161 : decode cX0_quotient 161 = .ok (.i2b, 1) := by decide +kernel
theorem dX0_quotient_162 : decode cX0_quotient 162 = .ok (.bastore, 1) := by decide +kernel
theorem dX0_quotient_163 : decode cX0_quotient 163 = .ok (.iinc 4 1, 3) := by decide +kernel
theorem dX0_quotient_166 : decode cX0_quotient 166 = .ok (.iinc 5 1, 3) := by decide +kernel
theorem dX0_quotient_169 : decode cX0_quotient 169 = .ok (.goto (-112), 3) := by decide +kernel
theorem dX0_quotient_172 : decode cX0_quotient 172 = .ok (.aload_n 0, 1) := by decide +kernel
theorem dX0_quotient_173 : decode cX0_quotient 173 = .ok (.iload 4, 2) := by decide +kernel
theorem dX0_quotient_175 : decode cX0_quotient 175 = .ok (.putfield 44, 3) := by decide +kernel
theorem dX0_quotient_178 : decode cX0_quotient 178 = .ok (.return_, 1) := by decide +kernel
set_option maxRecDepth 100000 in
set_option maxHeartbeats 4000000 in
theorem met_quotient (l : Launch) (Y : dL) (X : Nat → Nat → Nat) (f g : Nat) (hf : f < 4) (hg : g < 4) (hG0 : Good X) (h0 : 0 < X 1 g) : dMv l yX0_quotient cX0_quotient 10 2 Y [.int (nI f), .int (nI g)] X (fun X' => X' 1 = X 1 ∧ X' 2 = X 2 ∧ hm X' ((qb (gr X f) (X 2 (g * 8)) (X 1 f)).filter (qgood X f g))) := by
  refine d_ofv (own := RX0) rfl (by decide) (Nat.le_of_ble_eq_true rfl) (by simp [lcat, Value.category]) ?_
  intro G hG ret
  obtain ⟨hfs, hfc, hfg⟩ := hG0 f hf
  obtain ⟨hgs, hgc, hgg⟩ := hG0 g hg
  have horl := orN_lt (g := gr X g) (X 1 g) hgc
  have hQl := qb_len (gr X f) (X 2 (g * 8)) (X 1 f)
  have outer : ∀ i, i ≤ (qb (gr X f) (X 2 (g * 8)) (X 1 f)).length → ∀ X', qInv X (qgood X f g) (qb (gr X f) (X 2 (g * 8)) (X 1 f)) i X' → J cX0_quotient 10 RX0 G (dV G Y (dA Y) X') 57 [.ref (Y.2.1 0), .int (nI f), .int (nI g), .int (nI (orN (gr X g) (X 1 g))), .int (nI ((((qb (gr X f) (X 2 (g * 8)) (X 1 f)).take i).filter (qgood X f g)).length)), .int (nI i)] [] := by
    refine up_loop _ (qb (gr X f) (X 2 (g * 8)) (X 1 f)).length (fun X' hI => ?_) (fun i hi ih X' hI => ?_)
    · skip
      have hl0 := hI.2.2.1
      refine j_iload (pc := 57) dX0_quotient_57 rfl ?_
      refine j_aload_n (pc := 59) (i := 0) dX0_quotient_59 rfl rfl ?_
      refine d_get_madeSize (pc := 60) dX0_quotient_60 ?_
      refine n_icmp_ge (pc := 63) (tgt := 172) dX0_quotient_63 (by decide) (by omega) (fun h63 => ?_) (fun h63 => ?_)
      · skip
        refine j_aload_n (pc := 172) (i := 0) dX0_quotient_172 rfl rfl ?_
        refine j_iload (pc := 173) dX0_quotient_173 rfl ?_
        refine d_put_madeSize (pc := 175) dX0_quotient_175 (fun X175 hX175 => ?_)
        refine ret _ _ _ dX0_quotient_178 ⟨by rw [hX175, up2_k _ _ _ (by decide)]; exact hI.1, by rw [hX175, up2_k _ _ _ (by decide)]; exact hI.2.1, by rw [hX175, up2_s, List.take_length], fun j hj => ?_⟩
        have h4 := hI.2.2.2.1 j
        rw [List.take_length] at h4
        rw [hX175, up2_k _ _ _ (by decide)]
        exact h4 hj
      · skip
        exact absurd h63 (by omega)
    · skip
      have hl0 := hI.2.2.1
      have hkl := filt_len (qb (gr X f) (X 2 (g * 8)) (X 1 f)) (qgood X f g) i
      have hs1 := hI.1
      have hs2 := hI.2.1
      have hg1 : X' 1 g = X 1 g := by rw [hs1]
      obtain ⟨v, hvd⟩ : ∃ v, v = X' 3 i := ⟨_, rfl⟩
      have hv : (qb (gr X f) (X 2 (g * 8)) (X 1 f))[i]? = some v := by rw [hvd]; exact hI.2.2.2.2 i (Nat.le_refl _) hi
      have hvl : v < 128 := qb_mem_lt hfc (List.mem_of_getElem? hv)
      have hvo : v &&& orN (gr X g) (X 1 g) < 128 := Nat.lt_of_le_of_lt Nat.and_le_left hvl
      have K148 : ∀ b, b = (qgood X f g) v → J cX0_quotient 10 RX0 G (dV G Y (dA Y) X') 148 [.ref (Y.2.1 0), .int (nI f), .int (nI g), .int (nI (orN (gr X g) (X 1 g))), .int (nI ((((qb (gr X f) (X 2 (g * 8)) (X 1 f)).take i).filter (qgood X f g)).length)), .int (nI i), .int (nI v), .int (nI b.toNat)] [] := by
        intro b hb
        refine j_iload (pc := 148) dX0_quotient_148 rfl ?_
        refine b_if_eq (pc := 150) (tgt := 166) dX0_quotient_150 (by decide) (fun h150 => ?_) (fun h150 => ?_)
        · skip
          refine n_iinc (pc := 166) (n := 1) (lv' := [.ref (Y.2.1 0), .int (nI f), .int (nI g), .int (nI (orN (gr X g) (X 1 g))), .int (nI ((((qb (gr X f) (X 2 (g * 8)) (X 1 f)).take i).filter (qgood X f g)).length)), .int (nI (i + 1)), .int (nI v), .int (nI b.toNat)]) dX0_quotient_166 rfl rfl (Nat.le_of_ble_eq_true rfl) ?_
          refine j_goto (pc := 169) (tgt := 57) dX0_quotient_169 (by decide) ?_
          refine j_take 6 (lv' := [.ref (Y.2.1 0), .int (nI f), .int (nI g), .int (nI (orN (gr X g) (X 1 g))), .int (nI ((((qb (gr X f) (X 2 (g * 8)) (X 1 f)).take i).filter (qgood X f g)).length)), .int (nI (i + 1))]) rfl ?_
          obtain ⟨g1, g2⟩ := qInv_n hI hv (by rw [← hb]; exact h150)
          have g3 := ih X' g1
          rw [g2] at g3
          exact g3
        · skip
          refine j_aload_n (pc := 153) (i := 0) dX0_quotient_153 rfl rfl ?_
          refine d_get_made (pc := 154) dX0_quotient_154 ?_
          refine j_iload (pc := 157) dX0_quotient_157 rfl ?_
          refine j_iload (pc := 159) dX0_quotient_159 rfl ?_
          refine n_i2b (pc := 161) dX0_quotient_161 hvl ?_
          refine d_st_made (pc := 162) dX0_quotient_162 (by omega) hvl (fun X162 hX162 => ?_)
          refine n_iinc (pc := 163) (n := 1) (lv' := [.ref (Y.2.1 0), .int (nI f), .int (nI g), .int (nI (orN (gr X g) (X 1 g))), .int (nI ((((qb (gr X f) (X 2 (g * 8)) (X 1 f)).take i).filter (qgood X f g)).length + 1)), .int (nI i), .int (nI v), .int (nI b.toNat)]) dX0_quotient_163 rfl rfl (Nat.le_of_ble_eq_true rfl) ?_
          refine n_iinc (pc := 166) (n := 1) (lv' := [.ref (Y.2.1 0), .int (nI f), .int (nI g), .int (nI (orN (gr X g) (X 1 g))), .int (nI ((((qb (gr X f) (X 2 (g * 8)) (X 1 f)).take i).filter (qgood X f g)).length + 1)), .int (nI (i + 1)), .int (nI v), .int (nI b.toNat)]) dX0_quotient_166 rfl rfl (Nat.le_of_ble_eq_true rfl) ?_
          refine j_goto (pc := 169) (tgt := 57) dX0_quotient_169 (by decide) ?_
          refine j_take 6 (lv' := [.ref (Y.2.1 0), .int (nI f), .int (nI g), .int (nI (orN (gr X g) (X 1 g))), .int (nI ((((qb (gr X f) (X 2 (g * 8)) (X 1 f)).take i).filter (qgood X f g)).length + 1)), .int (nI (i + 1))]) rfl ?_
          obtain ⟨g1, g2⟩ := qInv_y hI hv (by rw [← hb]; exact h150) hX162
          have g3 := ih X162 g1
          rw [g2] at g3
          exact g3
      have inner : ∀ k, k ≤ X 1 g → J cX0_quotient 10 RX0 G (dV G Y (dA Y) X') 92 [.ref (Y.2.1 0), .int (nI f), .int (nI g), .int (nI (orN (gr X g) (X 1 g))), .int (nI ((((qb (gr X f) (X 2 (g * 8)) (X 1 f)).take i).filter (qgood X f g)).length)), .int (nI i), .int (nI v), .int (nI ((decide (v &&& orN (gr X g) (X 1 g) = 0) && allN (fun k => anyN (fun i => decide (gr X f i = v ||| gr X g k)) (X 1 f)) k)).toNat), .int (nI k)] [] := by
        refine up_loop _ (X 1 g) ?_ (fun k hk ihk => ?_)
        · skip
          refine j_iload (pc := 92) dX0_quotient_92 rfl ?_
          refine j_aload_n (pc := 94) (i := 0) dX0_quotient_94 rfl rfl ?_
          refine d_get_sizes (pc := 95) dX0_quotient_95 ?_
          refine j_iload_n (pc := 98) (i := 2) dX0_quotient_98 rfl rfl ?_
          refine d_ld_sizes (pc := 99) dX0_quotient_99 (by omega) ?_
          refine n_icmp_ge (pc := 100) (tgt := 148) dX0_quotient_100 (by decide) (by omega) (fun h100 => ?_) (fun h100 => ?_)
          · skip
            refine j_take 8 (lv' := [.ref (Y.2.1 0), .int (nI f), .int (nI g), .int (nI (orN (gr X g) (X 1 g))), .int (nI ((((qb (gr X f) (X 2 (g * 8)) (X 1 f)).take i).filter (qgood X f g)).length)), .int (nI i), .int (nI v), .int (nI ((decide (v &&& orN (gr X g) (X 1 g) = 0) && allN (fun k => anyN (fun i => decide (gr X f i = v ||| gr X g k)) (X 1 f)) (X 1 g))).toNat)]) rfl ?_
            exact K148 _ rfl
          · skip
            exact absurd h100 (by omega)
        · skip
          have hgk : X' 2 (g * 8 + k) < 128 := by rw [hs2]; exact hgc k hk
          have hpl : v ||| X' 2 (g * 8 + k) < 128 := Nat.or_lt_two_pow (n := 7) hvl hgk
          have hf1 : X' 1 f = X 1 f := by rw [hs1]
          refine j_iload (pc := 92) dX0_quotient_92 rfl ?_
          refine j_aload_n (pc := 94) (i := 0) dX0_quotient_94 rfl rfl ?_
          refine d_get_sizes (pc := 95) dX0_quotient_95 ?_
          refine j_iload_n (pc := 98) (i := 2) dX0_quotient_98 rfl rfl ?_
          refine d_ld_sizes (pc := 99) dX0_quotient_99 (by omega) ?_
          refine n_icmp_ge (pc := 100) (tgt := 148) dX0_quotient_100 (by decide) (by omega) (fun h100 => ?_) (fun h100 => ?_)
          · skip
            exact absurd h100 (by omega)
          · skip
            refine j_iload (pc := 103) dX0_quotient_103 rfl ?_
            refine b_if_eq (pc := 105) (tgt := 148) dX0_quotient_105 (by decide) (fun h105 => ?_) (fun h105 => ?_)
            · skip
              refine j_take 8 (lv' := [.ref (Y.2.1 0), .int (nI f), .int (nI g), .int (nI (orN (gr X g) (X 1 g))), .int (nI ((((qb (gr X f) (X 2 (g * 8)) (X 1 f)).take i).filter (qgood X f g)).length)), .int (nI i), .int (nI v), .int (nI ((decide (v &&& orN (gr X g) (X 1 g) = 0) && allN (fun k => anyN (fun i => decide (gr X f i = v ||| gr X g k)) (X 1 f)) k)).toNat)]) rfl ?_
              refine K148 _ ?_
              rw [h105]
              unfold qgood
              cases e1 : decide (v &&& orN (gr X g) (X 1 g) = 0) with
              | false => rfl
              | true =>
                rw [e1] at h105
                rw [allN_le (Nat.le_of_lt hk) (by simpa using h105)]
                rfl
            · skip
              refine j_iload (pc := 108) dX0_quotient_108 rfl ?_
              refine j_aload_n (pc := 110) (i := 0) dX0_quotient_110 rfl rfl ?_
              refine d_get_cubes (pc := 111) dX0_quotient_111 ?_
              refine j_iload_n (pc := 114) (i := 2) dX0_quotient_114 rfl rfl ?_
              refine j_bipush (pc := 115) (v := nI 8) dX0_quotient_115 (by decide) ?_
              refine n_imul (pc := 117) dX0_quotient_117 ?_
              refine j_iload (pc := 118) dX0_quotient_118 rfl ?_
              refine n_iadd (pc := 120) dX0_quotient_120 ?_
              refine d_ld_cubes (pc := 121) dX0_quotient_121 (by omega) ?_
              refine n_ior (pc := 122) dX0_quotient_122 ?_
              refine j_istore (pc := 123) (i := 9) (lv' := [.ref (Y.2.1 0), .int (nI f), .int (nI g), .int (nI (orN (gr X g) (X 1 g))), .int (nI ((((qb (gr X f) (X 2 (g * 8)) (X 1 f)).take i).filter (qgood X f g)).length)), .int (nI i), .int (nI v), .int (nI ((decide (v &&& orN (gr X g) (X 1 g) = 0) && allN (fun k => anyN (fun i => decide (gr X f i = v ||| gr X g k)) (X 1 f)) k)).toNat), .int (nI k), .int (nI (v ||| (X' 2 ((g * 8) + k))))]) dX0_quotient_123 rfl ⟨(Nat.le_of_ble_eq_true rfl), (Nat.le_of_ble_eq_true rfl)⟩ ?_
              refine j_aload_n (pc := 125) (i := 0) dX0_quotient_125 rfl rfl ?_
              refine j_iload_n (pc := 126) (i := 1) dX0_quotient_126 rfl rfl ?_
              refine j_iload (pc := 127) dX0_quotient_127 rfl ?_
              refine d_calli (pc := 129) (st := []) (met_find (kl G) Y X' f (nI (v ||| (X' 2 ((g * 8) + k)))) (by omega) (by omega)) hG (by decide) dX0_quotient_129 cpD_X0_find (Nat.le_of_ble_eq_true rfl) rfl (fun r129 X129 hr129 => ?_)
              obtain ⟨hE129, hf129⟩ := hr129
              rw [hE129]
              rcases hf129 with ⟨i129, hi129, hc129, rfl⟩ | ⟨rfl, hno129⟩
              · skip
                skip
                refine n_if_lt (pc := 132) (tgt := 139) dX0_quotient_132 (by decide) (by omega) ?_
                refine j_iconst (pc := 135) (v := nI 1) dX0_quotient_135 (by decide) ?_
                refine j_goto (pc := 136) (tgt := 140) dX0_quotient_136 (by decide) ?_
                refine j_istore (pc := 140) (i := 7) (lv' := [.ref (Y.2.1 0), .int (nI f), .int (nI g), .int (nI (orN (gr X g) (X 1 g))), .int (nI ((((qb (gr X f) (X 2 (g * 8)) (X 1 f)).take i).filter (qgood X f g)).length)), .int (nI i), .int (nI v), .int (nI 1), .int (nI k), .int (nI (v ||| (X' 2 ((g * 8) + k))))]) dX0_quotient_140 rfl ⟨(Nat.le_of_ble_eq_true rfl), (Nat.le_of_ble_eq_true rfl)⟩ ?_
                refine n_iinc (pc := 142) (n := 1) (lv' := [.ref (Y.2.1 0), .int (nI f), .int (nI g), .int (nI (orN (gr X g) (X 1 g))), .int (nI ((((qb (gr X f) (X 2 (g * 8)) (X 1 f)).take i).filter (qgood X f g)).length)), .int (nI i), .int (nI v), .int (nI 1), .int (nI (k + 1)), .int (nI (v ||| (X' 2 ((g * 8) + k))))]) dX0_quotient_142 rfl rfl (Nat.le_of_ble_eq_true rfl) ?_
                refine j_goto (pc := 145) (tgt := 92) dX0_quotient_145 (by decide) ?_
                refine j_take 9 (lv' := [.ref (Y.2.1 0), .int (nI f), .int (nI g), .int (nI (orN (gr X g) (X 1 g))), .int (nI ((((qb (gr X f) (X 2 (g * 8)) (X 1 f)).take i).filter (qgood X f g)).length)), .int (nI i), .int (nI v), .int (nI 1), .int (nI (k + 1))]) rfl ?_
                have z := ihk
                rw [allN_s, ← Bool.and_assoc, h105, Bool.true_and, anyN_t (by rw [← hf1]; exact hi129) (decide_eq_true (show gr X f i129 = v ||| gr X g k from by have z := (nI_eq (by rw [hs2]; exact Nat.lt_trans (hfc i129 (by rw [← hf1]; exact hi129)) (by decide)) (by omega)).mp hc129; rw [hs2] at z; exact z))] at z
                exact z
              · skip
                skip
                refine j_if_lt (pc := 132) (tgt := 139) dX0_quotient_132 (by decide) (fun _ => ?_) (fun h => absurd (by decide) h)
                refine j_iconst (pc := 139) (v := nI 0) dX0_quotient_139 (by decide) ?_
                refine j_istore (pc := 140) (i := 7) (lv' := [.ref (Y.2.1 0), .int (nI f), .int (nI g), .int (nI (orN (gr X g) (X 1 g))), .int (nI ((((qb (gr X f) (X 2 (g * 8)) (X 1 f)).take i).filter (qgood X f g)).length)), .int (nI i), .int (nI v), .int (nI 0), .int (nI k), .int (nI (v ||| (X' 2 ((g * 8) + k))))]) dX0_quotient_140 rfl ⟨(Nat.le_of_ble_eq_true rfl), (Nat.le_of_ble_eq_true rfl)⟩ ?_
                refine n_iinc (pc := 142) (n := 1) (lv' := [.ref (Y.2.1 0), .int (nI f), .int (nI g), .int (nI (orN (gr X g) (X 1 g))), .int (nI ((((qb (gr X f) (X 2 (g * 8)) (X 1 f)).take i).filter (qgood X f g)).length)), .int (nI i), .int (nI v), .int (nI 0), .int (nI (k + 1)), .int (nI (v ||| (X' 2 ((g * 8) + k))))]) dX0_quotient_142 rfl rfl (Nat.le_of_ble_eq_true rfl) ?_
                refine j_goto (pc := 145) (tgt := 92) dX0_quotient_145 (by decide) ?_
                refine j_take 9 (lv' := [.ref (Y.2.1 0), .int (nI f), .int (nI g), .int (nI (orN (gr X g) (X 1 g))), .int (nI ((((qb (gr X f) (X 2 (g * 8)) (X 1 f)).take i).filter (qgood X f g)).length)), .int (nI i), .int (nI v), .int (nI 0), .int (nI (k + 1))]) rfl ?_
                have z := ihk
                rw [allN_s, ← Bool.and_assoc, h105, Bool.true_and, anyN_f (fun i hi => decide_eq_false (show ¬ gr X f i = v ||| gr X g k from fun z => hno129 i (by rw [hf1]; exact hi) (by rw [hs2]; exact congrArg nI z)))] at z
                exact z
      refine j_iload (pc := 57) dX0_quotient_57 rfl ?_
      refine j_aload_n (pc := 59) (i := 0) dX0_quotient_59 rfl rfl ?_
      refine d_get_madeSize (pc := 60) dX0_quotient_60 ?_
      refine n_icmp_ge (pc := 63) (tgt := 172) dX0_quotient_63 (by decide) (by omega) (fun h63 => ?_) (fun h63 => ?_)
      · skip
        exact absurd h63 (by omega)
      · skip
        refine j_aload_n (pc := 66) (i := 0) dX0_quotient_66 rfl rfl ?_
        refine d_get_made (pc := 67) dX0_quotient_67 ?_
        refine j_iload (pc := 70) dX0_quotient_70 rfl ?_
        refine d_ld_made (pc := 72) dX0_quotient_72 (by omega) ?_
        refine j_istore (pc := 73) (i := 6) (lv' := [.ref (Y.2.1 0), .int (nI f), .int (nI g), .int (nI (orN (gr X g) (X 1 g))), .int (nI ((((qb (gr X f) (X 2 (g * 8)) (X 1 f)).take i).filter (qgood X f g)).length)), .int (nI i), .int (nI (X' 3 i))]) dX0_quotient_73 rfl ⟨(Nat.le_of_ble_eq_true rfl), (Nat.le_of_ble_eq_true rfl)⟩ ?_
        rw [← hvd]
        refine j_iload (pc := 75) dX0_quotient_75 rfl ?_
        refine j_iload_n (pc := 77) (i := 3) dX0_quotient_77 rfl rfl ?_
        refine n_iand (pc := 78) dX0_quotient_78 ?_
        refine n_if_ne (pc := 79) (tgt := 86) dX0_quotient_79 (by decide) (by omega) (fun h79 => ?_) (fun h79 => ?_)
        · skip
          refine j_iconst (pc := 86) (v := nI 0) dX0_quotient_86 (by decide) ?_
          refine j_istore (pc := 87) (i := 7) (lv' := [.ref (Y.2.1 0), .int (nI f), .int (nI g), .int (nI (orN (gr X g) (X 1 g))), .int (nI ((((qb (gr X f) (X 2 (g * 8)) (X 1 f)).take i).filter (qgood X f g)).length)), .int (nI i), .int (nI v), .int (nI 0)]) dX0_quotient_87 rfl ⟨(Nat.le_of_ble_eq_true rfl), (Nat.le_of_ble_eq_true rfl)⟩ ?_
          refine j_iconst (pc := 89) (v := nI 0) dX0_quotient_89 (by decide) ?_
          refine j_istore (pc := 90) (i := 8) (lv' := [.ref (Y.2.1 0), .int (nI f), .int (nI g), .int (nI (orN (gr X g) (X 1 g))), .int (nI ((((qb (gr X f) (X 2 (g * 8)) (X 1 f)).take i).filter (qgood X f g)).length)), .int (nI i), .int (nI v), .int (nI 0), .int (nI 0)]) dX0_quotient_90 rfl ⟨(Nat.le_of_ble_eq_true rfl), (Nat.le_of_ble_eq_true rfl)⟩ ?_
          have z := inner 0 (Nat.zero_le _)
          rw [decide_eq_false h79] at z
          exact z
        · skip
          refine j_iconst (pc := 82) (v := nI 1) dX0_quotient_82 (by decide) ?_
          refine j_goto (pc := 83) (tgt := 87) dX0_quotient_83 (by decide) ?_
          refine j_istore (pc := 87) (i := 7) (lv' := [.ref (Y.2.1 0), .int (nI f), .int (nI g), .int (nI (orN (gr X g) (X 1 g))), .int (nI ((((qb (gr X f) (X 2 (g * 8)) (X 1 f)).take i).filter (qgood X f g)).length)), .int (nI i), .int (nI v), .int (nI 1)]) dX0_quotient_87 rfl ⟨(Nat.le_of_ble_eq_true rfl), (Nat.le_of_ble_eq_true rfl)⟩ ?_
          refine j_iconst (pc := 89) (v := nI 0) dX0_quotient_89 (by decide) ?_
          refine j_istore (pc := 90) (i := 8) (lv' := [.ref (Y.2.1 0), .int (nI f), .int (nI g), .int (nI (orN (gr X g) (X 1 g))), .int (nI ((((qb (gr X f) (X 2 (g * 8)) (X 1 f)).take i).filter (qgood X f g)).length)), .int (nI i), .int (nI v), .int (nI 1), .int (nI 0)]) dX0_quotient_90 rfl ⟨(Nat.le_of_ble_eq_true rfl), (Nat.le_of_ble_eq_true rfl)⟩ ?_
          have z := inner 0 (Nat.zero_le _)
          rw [decide_eq_true h79] at z
          exact z
  have first : ∀ k, k ≤ X 1 g → J cX0_quotient 10 RX0 G (dV G Y (dA Y) X) 5 [.ref (Y.2.1 0), .int (nI f), .int (nI g), .int (nI (orN (gr X g) k)), .int (nI k)] [] := by
    refine up_loop _ (X 1 g) ?_ (fun k hk ihk => ?_)
    · skip
      refine j_iload (pc := 5) dX0_quotient_5 rfl ?_
      refine j_aload_n (pc := 7) (i := 0) dX0_quotient_7 rfl rfl ?_
      refine d_get_sizes (pc := 8) dX0_quotient_8 ?_
      refine j_iload_n (pc := 11) (i := 2) dX0_quotient_11 rfl rfl ?_
      refine d_ld_sizes (pc := 12) dX0_quotient_12 (by omega) ?_
      refine n_icmp_ge (pc := 13) (tgt := 37) dX0_quotient_13 (by decide) (by omega) (fun h13 => ?_) (fun h13 => ?_)
      · skip
        refine j_aload_n (pc := 37) (i := 0) dX0_quotient_37 rfl rfl ?_
        refine j_iload_n (pc := 38) (i := 1) dX0_quotient_38 rfl rfl ?_
        refine j_aload_n (pc := 39) (i := 0) dX0_quotient_39 rfl rfl ?_
        refine d_get_cubes (pc := 40) dX0_quotient_40 ?_
        refine j_iload_n (pc := 43) (i := 2) dX0_quotient_43 rfl rfl ?_
        refine j_bipush (pc := 44) (v := nI 8) dX0_quotient_44 (by decide) ?_
        refine n_imul (pc := 46) dX0_quotient_46 ?_
        refine d_ld_cubes (pc := 47) dX0_quotient_47 (by omega) ?_
        refine d_callv (pc := 48) (st := []) (met_quotientBy (kl G) Y X f (X 2 (g * 8)) hf hfs (hgc 0 h0) hfc) hG (by decide) dX0_quotient_48 cpD_X0_quotientBy (Nat.le_of_ble_eq_true rfl) rfl (fun X48 hr48 => ?_)
        refine j_iconst (pc := 51) (v := nI 0) dX0_quotient_51 (by decide) ?_
        refine j_istore (pc := 52) (i := 4) (lv' := [.ref (Y.2.1 0), .int (nI f), .int (nI g), .int (nI (orN (gr X g) (X 1 g))), .int (nI 0)]) dX0_quotient_52 rfl ⟨(Nat.le_of_ble_eq_true rfl), (Nat.le_of_ble_eq_true rfl)⟩ ?_
        refine j_iconst (pc := 54) (v := nI 0) dX0_quotient_54 (by decide) ?_
        refine j_istore (pc := 55) (i := 5) (lv' := [.ref (Y.2.1 0), .int (nI f), .int (nI g), .int (nI (orN (gr X g) (X 1 g))), .int (nI 0), .int (nI 0)]) dX0_quotient_55 rfl ⟨(Nat.le_of_ble_eq_true rfl), (Nat.le_of_ble_eq_true rfl)⟩ ?_
        exact outer 0 (Nat.zero_le _) X48 (qInv_0 hr48.1 hr48.2.1 hr48.2.2)
      · skip
        exact absurd h13 (by omega)
    · skip
      refine j_iload (pc := 5) dX0_quotient_5 rfl ?_
      refine j_aload_n (pc := 7) (i := 0) dX0_quotient_7 rfl rfl ?_
      refine d_get_sizes (pc := 8) dX0_quotient_8 ?_
      refine j_iload_n (pc := 11) (i := 2) dX0_quotient_11 rfl rfl ?_
      refine d_ld_sizes (pc := 12) dX0_quotient_12 (by omega) ?_
      refine n_icmp_ge (pc := 13) (tgt := 37) dX0_quotient_13 (by decide) (by omega) (fun h13 => ?_) (fun h13 => ?_)
      · skip
        exact absurd h13 (by omega)
      · skip
        refine j_iload_n (pc := 16) (i := 3) dX0_quotient_16 rfl rfl ?_
        refine j_aload_n (pc := 17) (i := 0) dX0_quotient_17 rfl rfl ?_
        refine d_get_cubes (pc := 18) dX0_quotient_18 ?_
        refine j_iload_n (pc := 21) (i := 2) dX0_quotient_21 rfl rfl ?_
        refine j_bipush (pc := 22) (v := nI 8) dX0_quotient_22 (by decide) ?_
        refine n_imul (pc := 24) dX0_quotient_24 ?_
        refine j_iload (pc := 25) dX0_quotient_25 rfl ?_
        refine n_iadd (pc := 27) dX0_quotient_27 ?_
        refine d_ld_cubes (pc := 28) dX0_quotient_28 (by omega) ?_
        refine n_ior (pc := 29) dX0_quotient_29 ?_
        refine j_istore_n (pc := 30) (i := 3) (lv' := [.ref (Y.2.1 0), .int (nI f), .int (nI g), .int (nI ((orN (gr X g) k) ||| (X 2 ((g * 8) + k)))), .int (nI k)]) dX0_quotient_30 rfl rfl ⟨(Nat.le_of_ble_eq_true rfl), (Nat.le_of_ble_eq_true rfl)⟩ ?_
        refine n_iinc (pc := 31) (n := 1) (lv' := [.ref (Y.2.1 0), .int (nI f), .int (nI g), .int (nI ((orN (gr X g) k) ||| (X 2 ((g * 8) + k)))), .int (nI (k + 1))]) dX0_quotient_31 rfl rfl (Nat.le_of_ble_eq_true rfl) ?_
        refine j_goto (pc := 34) (tgt := 5) dX0_quotient_34 (by decide) ?_
        exact ihk
  refine j_iconst (pc := 0) (v := nI 0) dX0_quotient_0 (by decide) ?_
  refine j_istore_n (pc := 1) (i := 3) (lv' := [.ref (Y.2.1 0), .int (nI f), .int (nI g), .int (nI 0)]) dX0_quotient_1 rfl rfl ⟨(Nat.le_of_ble_eq_true rfl), (Nat.le_of_ble_eq_true rfl)⟩ ?_
  refine j_iconst (pc := 2) (v := nI 0) dX0_quotient_2 (by decide) ?_
  refine j_istore (pc := 3) (i := 4) (lv' := [.ref (Y.2.1 0), .int (nI f), .int (nI g), .int (nI 0), .int (nI 0)]) dX0_quotient_3 rfl ⟨(Nat.le_of_ble_eq_true rfl), (Nat.le_of_ble_eq_true rfl)⟩ ?_
  exact first 0 (Nat.zero_le _)
end
section
/-! the desk: remainder, and the public methods over made cubes -/
def isPrL (X : Nat → Nat → Nat) (g : Nat) (M : List Nat) (c : Nat) : Bool := anyN (fun k => decide (nd (gr X g k) c = 0) && decide (nd c (gr X g k) ∈ M)) (X 1 g)
theorem isPr_L {X : Nat → Nat → Nat} {g : Nat} {M : List Nat} (h : hm X M) (c : Nat) : isPr X g c = isPrL X g M c := by
  unfold isPr isPrL
  congr 1
  funext k
  congr 1
  cases e : decide (nd c (gr X g k) ∈ M) with
  | true =>
    obtain ⟨i, h1, h2⟩ := (hm_mem h _).mp (of_decide_eq_true e)
    exact anyN_t h1 (decide_eq_true h2)
  | false => exact anyN_f (fun i hi => decide_eq_false (fun z => of_decide_eq_false e ((hm_mem h _).mpr ⟨i, hi, z⟩)))
def rmL (X : Nat → Nat → Nat) (f g : Nat) (M : List Nat) (n : Nat) : List Nat := ((List.range n).filter (fun i => !isPrL X g M (gr X f i))).map (gr X f)
theorem rmL_y {X : Nat → Nat → Nat} {f g n : Nat} {M : List Nat} (h : isPrL X g M (gr X f n) = false) : rmL X f g M (n + 1) = rmL X f g M n ++ [gr X f n] := by
  unfold rmL
  rw [List.range_succ, List.filter_append, List.map_append]
  simp [h]
theorem rmL_n {X : Nat → Nat → Nat} {f g n : Nat} {M : List Nat} (h : isPrL X g M (gr X f n) = true) : rmL X f g M (n + 1) = rmL X f g M n := by
  unfold rmL
  rw [List.range_succ, List.filter_append, List.map_append]
  simp [h]
theorem rmL_len (X : Nat → Nat → Nat) (f g : Nat) (M : List Nat) (n : Nat) : (rmL X f g M n).length ≤ n := by
  unfold rmL
  rw [List.length_map]
  exact Nat.le_trans (List.length_filter_le _ _) (by simp)
theorem rmL_mem_lt {X : Nat → Nat → Nat} {f g n : Nat} {M : List Nat} (h : ∀ i, i < n → gr X f i < 128) {x : Nat} (hx : x ∈ rmL X f g M n) : x < 128 := by
  unfold rmL at hx
  obtain ⟨i, hi, rfl⟩ := List.mem_map.mp hx
  exact h i (List.mem_range.mp (List.mem_filter.mp hi).1)
theorem isPrL_of {X X' : Nat → Nat → Nat} (h1 : X' 1 = X 1) (h2 : X' 2 = X 2) (g : Nat) (M : List Nat) (c : Nat) : isPrL X' g M c = isPrL X g M c := by
  unfold isPrL gr
  rw [h1, h2]
theorem rmL_of {X X' : Nat → Nat → Nat} (h1 : X' 1 = X 1) (h2 : X' 2 = X 2) (f g : Nat) (M : List Nat) (n : Nat) : rmL X' f g M n = rmL X f g M n := by
  have e : gr X' f = gr X f := by unfold gr; rw [h2]
  unfold rmL
  rw [e]
  congr 2
  funext i
  rw [isPrL_of h1 h2]
theorem storeP_of {X X1 X' : Nat → Nat → Nat} {e : Nat} {L : List Nat} {r : Int32} (h1 : X1 1 = X 1) (h2 : X1 2 = X 2) (h : storeP X1 e L r X') : storeP X e L r X' := ⟨h.1, h.2.1, h.2.2.1, fun f hf hne => (rsame.of h1 h2).tr (h.2.2.2 f hf hne)⟩

theorem dX0_remainder_0 : decode cX0_remainder 0 = .ok (.iconst 0, 1) := by decide +kernel
theorem dX0_remainder_1 : decode cX0_remainder 1 = .ok (.istore_n 3, 1) := by decide +kernel
theorem dX0_remainder_2 : decode cX0_remainder 2 = .ok (.iconst 0, 1) := by decide +kernel
theorem dX0_remainder_3 : decode cX0_remainder 3 = .ok (.istore 4, 2) := by decide +kernel
theorem dX0_remainder_5 : decode cX0_remainder 5 = .ok (.iload 4, 2) := by decide +kernel
theorem dX0_remainder_7 : decode cX0_remainder 7 = .ok (.aload_n 0, 1) := by decide +kernel
theorem dX0_remainder_8 : decode cX0_remainder 8 = .ok (.getfield 7, 3) := by decide +kernel
theorem dX0_remainder_11 : decode cX0_remainder 11 = .ok (.iload_n 1, 1) := by decide +kernel
theorem dX0_remainder_12 : decode cX0_remainder 12 = .ok (.baload, 1) := by decide +kernel
theorem dX0_remainder_13 : decode cX0_remainder 13 = .ok (.if_icmp .ge 40, 3) := by decide +kernel
theorem dX0_remainder_16 : decode cX0_remainder 16 = .ok (.iload_n 3, 1) := by decide +kernel
theorem dX0_remainder_17 : decode cX0_remainder 17 = .ok (.aload_n 0, 1) := by decide +kernel
theorem dX0_remainder_18 : decode cX0_remainder 18 = .ok (.aload_n 0, 1) := by decide +kernel
theorem dX0_remainder_19 : decode cX0_remainder 19 = .ok (.getfield 13, 3) := by decide +kernel
theorem dX0_remainder_22 : decode cX0_remainder 22 = .ok (.iload_n 1, 1) := by decide +kernel
theorem dX0_remainder_23 : decode cX0_remainder 23 = .ok (.bipush 8, 2) := by decide +kernel
theorem dX0_remainder_25 : decode cX0_remainder 25 = .ok (.imul, 1) := by decide +kernel
theorem dX0_remainder_26 : decode cX0_remainder 26 = .ok (.iload 4, 2) := by decide +kernel
theorem dX0_remainder_28 : decode cX0_remainder 28 = .ok (.iadd, 1) := by decide +kernel
theorem dX0_remainder_29 : decode cX0_remainder 29 = .ok (.baload, 1) := by decide +kernel
theorem dX0_remainder_30 : decode cX0_remainder 30 = .ok (.iload_n 2, 1) := by decide +kernel
theorem dX0_remainder_31 : decode cX0_remainder 31 = .ok (.invokevirtual 69, 3) := by decide +kernel
theorem dX0_remainder_34 : decode cX0_remainder 34 = .ok (.ifCond .eq 7, 3) := by decide +kernel
theorem dX0_remainder_37 : decode cX0_remainder 37 = .ok (.iconst 0, 1) := by decide +kernel
theorem dX0_remainder_38 : decode cX0_remainder 38 = .ok (.goto 7, 3) := by decide +kernel
theorem dX0_remainder_41 : decode cX0_remainder 41 = .ok (.iconst 1, 1) := by decide +kernel
theorem dX0_remainder_42 : decode cX0_remainder 42 = .ok (.iload 4, 2) := by decide +kernel
theorem dX0_remainder_44 : decode cX0_remainder 44 = .ok (.ishl, 1) := by decide +kernel
theorem dX0_remainder_45 : decode cX0_remainder 45 = .ok (.ior, 1) := by decide +kernel
theorem dX0_remainder_46 : decode cX0_remainder 46 = .ok (.istore_n 3, 1) := by decide +kernel
theorem dX0_remainder_47 : decode cX0_remainder 47 = .ok (.iinc 4 1, 3) := by decide +kernel
theorem dX0_remainder_50 : decode cX0_remainder 50 = .ok (.goto (-45), 3) := by decide +kernel
theorem dX0_remainder_53 : decode cX0_remainder 53 = .ok (.aload_n 0, 1) := by decide +kernel
theorem dX0_remainder_54 : decode cX0_remainder 54 = .ok (.iconst 0, 1) := by decide +kernel
theorem dX0_remainder_55 : decode cX0_remainder 55 = .ok (.putfield 44, 3) := by decide +kernel
theorem dX0_remainder_58 : decode cX0_remainder 58 = .ok (.iconst 0, 1) := by decide +kernel
theorem dX0_remainder_59 : decode cX0_remainder 59 = .ok (.istore 4, 2) := by decide +kernel
theorem dX0_remainder_61 : decode cX0_remainder 61 = .ok (.iload 4, 2) := by decide +kernel
theorem dX0_remainder_63 : decode cX0_remainder 63 = .ok (.aload_n 0, 1) := by decide +kernel
theorem dX0_remainder_64 : decode cX0_remainder 64 = .ok (.getfield 7, 3) := by decide +kernel
theorem dX0_remainder_67 : decode cX0_remainder 67 = .ok (.iload_n 1, 1) := by decide +kernel
theorem dX0_remainder_68 : decode cX0_remainder 68 = .ok (.baload, 1) := by decide +kernel
theorem dX0_remainder_69 : decode cX0_remainder 69 = .ok (.if_icmp .ge 49, 3) := by decide +kernel
theorem dX0_remainder_72 : decode cX0_remainder 72 = .ok (.iload_n 3, 1) := by decide +kernel
theorem dX0_remainder_73 : decode cX0_remainder 73 = .ok (.iload 4, 2) := by decide +kernel
theorem dX0_remainder_75 : decode cX0_remainder 75 = .ok (.invokestatic 72, 3) := by decide +kernel
theorem dX0_remainder_78 : decode cX0_remainder 78 = .ok (.ifCond .eq 34, 3) := by decide +kernel
theorem dX0_remainder_81 : decode cX0_remainder 81 = .ok (.aload_n 0, 1) := by decide +kernel
theorem dX0_remainder_82 : decode cX0_remainder 82 = .ok (.getfield 16, 3) := by decide +kernel
theorem dX0_remainder_85 : decode cX0_remainder 85 = .ok (.aload_n 0, 1) := by decide +kernel
theorem dX0_remainder_86 : decode cX0_remainder 86 = .ok (.getfield 44, 3) := by decide +kernel
theorem dX0_remainder_89 : decode cX0_remainder 89 = .ok (.aload_n 0, 1) := by decide +kernel
theorem dX0_remainder_90 : decode cX0_remainder 90 = .ok (.getfield 13, 3) := by decide +kernel
theorem dX0_remainder_93 : decode cX0_remainder 93 = .ok (.iload_n 1, 1) := by decide +kernel
theorem dX0_remainder_94 : decode cX0_remainder 94 = .ok (.bipush 8, 2) := by decide +kernel
theorem dX0_remainder_96 : decode cX0_remainder 96 = .ok (.imul, 1) := by decide +kernel
theorem dX0_remainder_97 : decode cX0_remainder 97 = .ok (.iload 4, 2) := by decide +kernel
theorem dX0_remainder_99 : decode cX0_remainder 99 = .ok (.iadd, 1) := by decide +kernel
theorem dX0_remainder_100 : decode cX0_remainder 100 = .ok (.baload, 1) := by decide +kernel
theorem dX0_remainder_101 : decode cX0_remainder 101 = .ok (.bastore, 1) := by decide +kernel
theorem dX0_remainder_102 : decode cX0_remainder 102 = .ok (.aload_n 0, 1) := by decide +kernel
theorem dX0_remainder_103 : decode cX0_remainder 103 = .ok (.dup, 1) := by decide +kernel
theorem dX0_remainder_104 : decode cX0_remainder 104 = .ok (.getfield 44, 3) := by decide +kernel
theorem dX0_remainder_107 : decode cX0_remainder 107 = .ok (.iconst 1, 1) := by decide +kernel
theorem dX0_remainder_108 : decode cX0_remainder 108 = .ok (.iadd, 1) := by decide +kernel
theorem dX0_remainder_109 : decode cX0_remainder 109 = .ok (.putfield 44, 3) := by decide +kernel
theorem dX0_remainder_112 : decode cX0_remainder 112 = .ok (.iinc 4 1, 3) := by decide +kernel
theorem dX0_remainder_115 : decode cX0_remainder 115 = .ok (.goto (-54), 3) := by decide +kernel
theorem dX0_remainder_118 : decode cX0_remainder 118 = .ok (.return_, 1) := by decide +kernel
set_option maxRecDepth 100000 in
set_option maxHeartbeats 4000000 in
theorem met_remainder (l : Launch) (Y : dL) (X : Nat → Nat → Nat) (f g : Nat) (M : List Nat) (hf : f < 4) (hg : g < 4) (hG0 : Good X) (hM : hm X M) (hMl : M.length ≤ 8) (hMc : ∀ x ∈ M, x < 128) : dMv l yX0_remainder cX0_remainder 5 3 Y [.int (nI f), .int (nI g)] X (fun X' => X' 1 = X 1 ∧ X' 2 = X 2 ∧ hm X' (rmL X f g M (X 1 f))) := by
  refine d_ofv (own := RX0) rfl (by decide) (Nat.le_of_ble_eq_true rfl) (by simp [lcat, Value.category]) ?_
  intro G hG ret
  obtain ⟨hfs, hfc, hfg⟩ := hG0 f hf
  obtain ⟨hgs, hgc, hgg⟩ := hG0 g hg
  have hM0 := hM.1
  have hX0 : X 0 0 ≤ 8 := by omega
  have h3 : ∀ i, i < X 0 0 → X 3 i < 128 := fun i hi => hMc _ (hm_at hM hi)
  have hst : bitsOf (fun i => !isPrL X g M (gr X f i)) (X 1 f) < 256 := Nat.lt_of_lt_of_le (bitsOf_lt _ _) (Nat.pow_le_pow_right (by decide) hfs)
  have second : ∀ i, i ≤ X 1 f → ∀ X', X' 1 = X 1 ∧ X' 2 = X 2 ∧ hm X' (rmL X f g M i) → J cX0_remainder 5 RX0 G (dV G Y (dA Y) X') 61 [.ref (Y.2.1 0), .int (nI f), .int (nI g), .int (nI (bitsOf (fun i => !isPrL X g M (gr X f i)) (X 1 f))), .int (nI i)] [] := by
    refine up_loop _ (X 1 f) (fun X' hI => ?_) (fun i hi ih X' hI => ?_)
    · skip
      have hs1 : X' 1 f = X 1 f := by rw [hI.1]
      refine j_iload (pc := 61) dX0_remainder_61 rfl ?_
      refine j_aload_n (pc := 63) (i := 0) dX0_remainder_63 rfl rfl ?_
      refine d_get_sizes (pc := 64) dX0_remainder_64 ?_
      refine j_iload_n (pc := 67) (i := 1) dX0_remainder_67 rfl rfl ?_
      refine d_ld_sizes (pc := 68) dX0_remainder_68 (by omega) ?_
      refine n_icmp_ge (pc := 69) (tgt := 118) dX0_remainder_69 (by decide) (by omega) (fun h69 => ?_) (fun h69 => ?_)
      · skip
        exact ret _ _ _ dX0_remainder_118 hI
      · skip
        exact absurd h69 (by omega)
    · skip
      have hs1 : X' 1 f = X 1 f := by rw [hI.1]
      have hl := rmL_len X f g M i
      have hl0 := hI.2.2.1
      have hcc : X' 2 (f * 8 + i) < 128 := by rw [hI.2.1]; exact hfc i hi
      have hbit := bitsOf_bit (fun i => !isPrL X g M (gr X f i)) i (X 1 f)
      rw [decide_eq_true hi, Bool.true_and] at hbit
      refine j_iload (pc := 61) dX0_remainder_61 rfl ?_
      refine j_aload_n (pc := 63) (i := 0) dX0_remainder_63 rfl rfl ?_
      refine d_get_sizes (pc := 64) dX0_remainder_64 ?_
      refine j_iload_n (pc := 67) (i := 1) dX0_remainder_67 rfl rfl ?_
      refine d_ld_sizes (pc := 68) dX0_remainder_68 (by omega) ?_
      refine n_icmp_ge (pc := 69) (tgt := 118) dX0_remainder_69 (by decide) (by omega) (fun h69 => ?_) (fun h69 => ?_)
      · skip
        exact absurd h69 (by omega)
      · skip
        refine j_iload_n (pc := 72) (i := 3) dX0_remainder_72 rfl rfl ?_
        refine j_iload (pc := 73) dX0_remainder_73 rfl ?_
        refine s_calli (pc := 75) (st := []) (met_in (kl G) Y.1 (bitsOf (fun i => !isPrL X g M (gr X f i)) (X 1 f)) i (by omega) (by omega)) hG (by decide) dX0_remainder_75 cpD_X0_in (Nat.le_of_ble_eq_true rfl) rfl (fun r75 hr75 => ?_)
        subst hr75
        refine b_if_eq (pc := 78) (tgt := 112) dX0_remainder_78 (by decide) (fun h78 => ?_) (fun h78 => ?_)
        · skip
          refine n_iinc (pc := 112) (n := 1) (lv' := [.ref (Y.2.1 0), .int (nI f), .int (nI g), .int (nI (bitsOf (fun i => !isPrL X g M (gr X f i)) (X 1 f))), .int (nI (i + 1))]) dX0_remainder_112 rfl rfl (Nat.le_of_ble_eq_true rfl) ?_
          refine j_goto (pc := 115) (tgt := 61) dX0_remainder_115 (by decide) ?_
          rw [hbit] at h78
          refine ih X' ⟨hI.1, hI.2.1, ?_⟩
          rw [rmL_n (by simpa using h78)]
          exact hI.2.2
        · skip
          refine j_aload_n (pc := 81) (i := 0) dX0_remainder_81 rfl rfl ?_
          refine d_get_made (pc := 82) dX0_remainder_82 ?_
          refine j_aload_n (pc := 85) (i := 0) dX0_remainder_85 rfl rfl ?_
          refine d_get_madeSize (pc := 86) dX0_remainder_86 ?_
          refine j_aload_n (pc := 89) (i := 0) dX0_remainder_89 rfl rfl ?_
          refine d_get_cubes (pc := 90) dX0_remainder_90 ?_
          refine j_iload_n (pc := 93) (i := 1) dX0_remainder_93 rfl rfl ?_
          refine j_bipush (pc := 94) (v := nI 8) dX0_remainder_94 (by decide) ?_
          refine n_imul (pc := 96) dX0_remainder_96 ?_
          refine j_iload (pc := 97) dX0_remainder_97 rfl ?_
          refine n_iadd (pc := 99) dX0_remainder_99 ?_
          refine d_ld_cubes (pc := 100) dX0_remainder_100 (by omega) ?_
          refine d_st_made (pc := 101) dX0_remainder_101 (by omega) hcc (fun X101 hX101 => ?_)
          have e1 : X101 0 0 = X' 0 0 := by rw [hX101, up2_k _ _ _ (by decide)]
          refine j_aload_n (pc := 102) (i := 0) dX0_remainder_102 rfl rfl ?_
          refine j_dup (pc := 103) dX0_remainder_103 rfl ?_
          refine d_get_madeSize (pc := 104) dX0_remainder_104 ?_
          refine j_iconst (pc := 107) (v := nI 1) dX0_remainder_107 (by decide) ?_
          refine n_iadd (pc := 108) dX0_remainder_108 ?_
          refine d_put_madeSize (pc := 109) dX0_remainder_109 (fun X109 hX109 => ?_)
          refine n_iinc (pc := 112) (n := 1) (lv' := [.ref (Y.2.1 0), .int (nI f), .int (nI g), .int (nI (bitsOf (fun i => !isPrL X g M (gr X f i)) (X 1 f))), .int (nI (i + 1))]) dX0_remainder_112 rfl rfl (Nat.le_of_ble_eq_true rfl) ?_
          refine j_goto (pc := 115) (tgt := 61) dX0_remainder_115 (by decide) ?_
          rw [hbit] at h78
          refine ih X109 ⟨?_, ?_, ?_⟩
          · rw [hX109, up2_k _ _ _ (by decide), hX101, up2_k _ _ _ (by decide)]; exact hI.1
          · rw [hX109, up2_k _ _ _ (by decide), hX101, up2_k _ _ _ (by decide)]; exact hI.2.1
          · rw [rmL_y (by simpa using h78)]
            refine hm_push hI.2.2 ?_ ?_ ?_
            · rw [hX109, up2_s, e1]
            · rw [hX109, up2_k _ _ _ (by decide), hX101, up2_s]
              show X' 2 (f * 8 + i) = X 2 (f * 8 + i)
              rw [hI.2.1]
            · intro j hj
              rw [hX109, up2_k _ _ _ (by decide), hX101, up2_n _ _ _ (by omega)]
  have first : ∀ i, i ≤ X 1 f → J cX0_remainder 5 RX0 G (dV G Y (dA Y) X) 5 [.ref (Y.2.1 0), .int (nI f), .int (nI g), .int (nI (bitsOf (fun i => !isPrL X g M (gr X f i)) i)), .int (nI i)] [] := by
    refine up_loop _ (X 1 f) ?_ (fun i hi ih => ?_)
    · skip
      refine j_iload (pc := 5) dX0_remainder_5 rfl ?_
      refine j_aload_n (pc := 7) (i := 0) dX0_remainder_7 rfl rfl ?_
      refine d_get_sizes (pc := 8) dX0_remainder_8 ?_
      refine j_iload_n (pc := 11) (i := 1) dX0_remainder_11 rfl rfl ?_
      refine d_ld_sizes (pc := 12) dX0_remainder_12 (by omega) ?_
      refine n_icmp_ge (pc := 13) (tgt := 53) dX0_remainder_13 (by decide) (by omega) (fun h13 => ?_) (fun h13 => ?_)
      · skip
        refine j_aload_n (pc := 53) (i := 0) dX0_remainder_53 rfl rfl ?_
        refine j_iconst (pc := 54) (v := nI 0) dX0_remainder_54 (by decide) ?_
        refine d_put_madeSize (pc := 55) dX0_remainder_55 (fun X55 hX55 => ?_)
        refine j_iconst (pc := 58) (v := nI 0) dX0_remainder_58 (by decide) ?_
        refine j_istore (pc := 59) (i := 4) (lv' := [.ref (Y.2.1 0), .int (nI f), .int (nI g), .int (nI (bitsOf (fun i => !isPrL X g M (gr X f i)) (X 1 f))), .int (nI 0)]) dX0_remainder_59 rfl ⟨(Nat.le_of_ble_eq_true rfl), (Nat.le_of_ble_eq_true rfl)⟩ ?_
        exact second 0 (Nat.zero_le _) X55 ⟨by rw [hX55, up2_k _ _ _ (by decide)], by rw [hX55, up2_k _ _ _ (by decide)], hm_0 (by rw [hX55, up2_s])⟩
      · skip
        exact absurd h13 (by omega)
    · skip
      refine j_iload (pc := 5) dX0_remainder_5 rfl ?_
      refine j_aload_n (pc := 7) (i := 0) dX0_remainder_7 rfl rfl ?_
      refine d_get_sizes (pc := 8) dX0_remainder_8 ?_
      refine j_iload_n (pc := 11) (i := 1) dX0_remainder_11 rfl rfl ?_
      refine d_ld_sizes (pc := 12) dX0_remainder_12 (by omega) ?_
      refine n_icmp_ge (pc := 13) (tgt := 53) dX0_remainder_13 (by decide) (by omega) (fun h13 => ?_) (fun h13 => ?_)
      · skip
        exact absurd h13 (by omega)
      · skip
        refine j_iload_n (pc := 16) (i := 3) dX0_remainder_16 rfl rfl ?_
        refine j_aload_n (pc := 17) (i := 0) dX0_remainder_17 rfl rfl ?_
        refine j_aload_n (pc := 18) (i := 0) dX0_remainder_18 rfl rfl ?_
        refine d_get_cubes (pc := 19) dX0_remainder_19 ?_
        refine j_iload_n (pc := 22) (i := 1) dX0_remainder_22 rfl rfl ?_
        refine j_bipush (pc := 23) (v := nI 8) dX0_remainder_23 (by decide) ?_
        refine n_imul (pc := 25) dX0_remainder_25 ?_
        refine j_iload (pc := 26) dX0_remainder_26 rfl ?_
        refine n_iadd (pc := 28) dX0_remainder_28 ?_
        refine d_ld_cubes (pc := 29) dX0_remainder_29 (by omega) ?_
        refine j_iload_n (pc := 30) (i := 2) dX0_remainder_30 rfl rfl ?_
        refine d_calli (pc := 31) (st := [.int (nI (bitsOf (fun i => !isPrL X g M (gr X f i)) i))]) (met_isProduct (kl G) Y X (X 2 (f * 8 + i)) g (hfc i hi) hg hgs hgc hX0 h3) hG (by decide) dX0_remainder_31 cpD_X0_isProduct (Nat.le_of_ble_eq_true rfl) rfl (fun r31 X31 hr31 => ?_)
        obtain ⟨hE31, hr31⟩ := hr31
        rw [hE31]
        rw [show anyN (fun k => decide (nd (gr X g k) (X 2 (f * 8 + i)) = 0) && anyN (fun j => decide (X 3 j = nd (X 2 (f * 8 + i)) (gr X g k))) (X 0 0)) (X 1 g) = isPrL X g M (gr X f i) from isPr_L hM _] at hr31
        subst hr31
        refine b_if_eq (pc := 34) (tgt := 41) dX0_remainder_34 (by decide) (fun h34 => ?_) (fun h34 => ?_)
        · skip
          refine j_iconst (pc := 41) (v := nI 1) dX0_remainder_41 (by decide) ?_
          refine j_iload (pc := 42) dX0_remainder_42 rfl ?_
          refine n_shl1 (pc := 44) dX0_remainder_44 (by omega) ?_
          refine n_ior (pc := 45) dX0_remainder_45 ?_
          refine j_istore_n (pc := 46) (i := 3) (lv' := [.ref (Y.2.1 0), .int (nI f), .int (nI g), .int (nI ((bitsOf (fun i => !isPrL X g M (gr X f i)) i) ||| (2 ^ i))), .int (nI i)]) dX0_remainder_46 rfl rfl ⟨(Nat.le_of_ble_eq_true rfl), (Nat.le_of_ble_eq_true rfl)⟩ ?_
          refine n_iinc (pc := 47) (n := 1) (lv' := [.ref (Y.2.1 0), .int (nI f), .int (nI g), .int (nI ((bitsOf (fun i => !isPrL X g M (gr X f i)) i) ||| (2 ^ i))), .int (nI (i + 1))]) dX0_remainder_47 rfl rfl (Nat.le_of_ble_eq_true rfl) ?_
          refine j_goto (pc := 50) (tgt := 5) dX0_remainder_50 (by decide) ?_
          rw [show (bitsOf (fun i => !isPrL X g M (gr X f i)) i) ||| (2 ^ i) = bitsOf (fun i => !isPrL X g M (gr X f i)) (i + 1) by simp [bitsOf, h34]]
          exact ih
        · skip
          refine j_iconst (pc := 37) (v := nI 0) dX0_remainder_37 (by decide) ?_
          refine j_goto (pc := 38) (tgt := 45) dX0_remainder_38 (by decide) ?_
          refine n_ior (pc := 45) dX0_remainder_45 ?_
          refine j_istore_n (pc := 46) (i := 3) (lv' := [.ref (Y.2.1 0), .int (nI f), .int (nI g), .int (nI ((bitsOf (fun i => !isPrL X g M (gr X f i)) i) ||| 0)), .int (nI i)]) dX0_remainder_46 rfl rfl ⟨(Nat.le_of_ble_eq_true rfl), (Nat.le_of_ble_eq_true rfl)⟩ ?_
          refine n_iinc (pc := 47) (n := 1) (lv' := [.ref (Y.2.1 0), .int (nI f), .int (nI g), .int (nI ((bitsOf (fun i => !isPrL X g M (gr X f i)) i) ||| 0)), .int (nI (i + 1))]) dX0_remainder_47 rfl rfl (Nat.le_of_ble_eq_true rfl) ?_
          refine j_goto (pc := 50) (tgt := 5) dX0_remainder_50 (by decide) ?_
          rw [show (bitsOf (fun i => !isPrL X g M (gr X f i)) i) ||| 0 = bitsOf (fun i => !isPrL X g M (gr X f i)) (i + 1) by simp [bitsOf, h34]]
          exact ih
  refine j_iconst (pc := 0) (v := nI 0) dX0_remainder_0 (by decide) ?_
  refine j_istore_n (pc := 1) (i := 3) (lv' := [.ref (Y.2.1 0), .int (nI f), .int (nI g), .int (nI 0)]) dX0_remainder_1 rfl rfl ⟨(Nat.le_of_ble_eq_true rfl), (Nat.le_of_ble_eq_true rfl)⟩ ?_
  refine j_iconst (pc := 2) (v := nI 0) dX0_remainder_2 (by decide) ?_
  refine j_istore (pc := 3) (i := 4) (lv' := [.ref (Y.2.1 0), .int (nI f), .int (nI g), .int (nI 0), .int (nI 0)]) dX0_remainder_3 rfl ⟨(Nat.le_of_ble_eq_true rfl), (Nat.le_of_ble_eq_true rfl)⟩ ?_
  exact first 0 (Nat.zero_le _)

def qlist (X : Nat → Nat → Nat) (f g : Nat) : List Nat := (qb (gr X f) (X 2 (g * 8)) (X 1 f)).filter (qgood X f g)
theorem qlist_len {X : Nat → Nat → Nat} (hG : Good X) {f g : Nat} (hf : f < 4) : (qlist X f g).length ≤ 8 := Nat.le_trans (List.length_filter_le _ _) (Nat.le_trans (qb_len _ _ _) (hG f hf).1)
theorem qlist_lt {X : Nat → Nat → Nat} (hG : Good X) {f g : Nat} (hf : f < 4) : ∀ x ∈ qlist X f g, x < 128 := fun x hx => qb_mem_lt (hG f hf).2.1 (List.mem_filter.mp hx).1
def rlist (X : Nat → Nat → Nat) (f g : Nat) : List Nat := rmL X f g (qlist X f g) (X 1 f)

theorem dX0_divideBy_0 : decode cX0_divideBy 0 = .ok (.iload_n 1, 1) := by decide +kernel
theorem dX0_divideBy_1 : decode cX0_divideBy 1 = .ok (.invokestatic 33, 3) := by decide +kernel
theorem dX0_divideBy_4 : decode cX0_divideBy 4 = .ok (.ifCond .eq 17, 3) := by decide +kernel
theorem dX0_divideBy_7 : decode cX0_divideBy 7 = .ok (.iload_n 2, 1) := by decide +kernel
theorem dX0_divideBy_8 : decode cX0_divideBy 8 = .ok (.invokestatic 33, 3) := by decide +kernel
theorem dX0_divideBy_11 : decode cX0_divideBy 11 = .ok (.ifCond .eq 10, 3) := by decide +kernel
theorem dX0_divideBy_14 : decode cX0_divideBy 14 = .ok (.iload_n 3, 1) := by decide +kernel
theorem dX0_divideBy_15 : decode cX0_divideBy 15 = .ok (.invokestatic 37, 3) := by decide +kernel
theorem dX0_divideBy_18 : decode cX0_divideBy 18 = .ok (.ifCond .ne 5, 3) := by decide +kernel
theorem dX0_divideBy_21 : decode cX0_divideBy 21 = .ok (.iconst (-1), 1) := by decide +kernel
theorem dX0_divideBy_22 : decode cX0_divideBy 22 = .ok (.ireturn, 1) := by decide +kernel
theorem dX0_divideBy_23 : decode cX0_divideBy 23 = .ok (.aload_n 0, 1) := by decide +kernel
theorem dX0_divideBy_24 : decode cX0_divideBy 24 = .ok (.iload_n 2, 1) := by decide +kernel
theorem dX0_divideBy_25 : decode cX0_divideBy 25 = .ok (.iload_n 3, 1) := by decide +kernel
theorem dX0_divideBy_26 : decode cX0_divideBy 26 = .ok (.invokevirtual 52, 3) := by decide +kernel
theorem dX0_divideBy_29 : decode cX0_divideBy 29 = .ok (.aload_n 0, 1) := by decide +kernel
theorem dX0_divideBy_30 : decode cX0_divideBy 30 = .ok (.iload_n 1, 1) := by decide +kernel
theorem dX0_divideBy_31 : decode cX0_divideBy 31 = .ok (.invokevirtual 56, 3) := by decide +kernel
theorem dX0_divideBy_34 : decode cX0_divideBy 34 = .ok (.ireturn, 1) := by decide +kernel
set_option maxRecDepth 100000 in
set_option maxHeartbeats 4000000 in
theorem met_divideBy (l : Launch) (Y : dL) (X : Nat → Nat → Nat) (x y c : Int32) (hG0 : Good X) : dMi l yX0_divideBy cX0_divideBy 4 (some .int) 4 Y [.int x, .int y, .int c] X (fun r X' => (r = -1 ∧ X' = X ∧ ((∀ k, k < 4 → x ≠ nI k) ∨ (∀ k, k < 4 → y ≠ nI k) ∨ ∀ k, k < 128 → c ≠ nI k)) ∨ ∃ e f k, e < 4 ∧ f < 4 ∧ k < 128 ∧ x = nI e ∧ y = nI f ∧ c = nI k ∧ storeP X e (qb (gr X f) k (X 1 f)) r X') := by
  refine d_ofi .int (own := RX0) rfl rfl (by decide) (Nat.le_of_ble_eq_true rfl) (by simp [lcat, Value.category]) ?_
  intro G hG ret
  refine j_iload_n (pc := 0) (i := 1) dX0_divideBy_0 rfl rfl ?_
  refine s_calli (pc := 1) (st := []) (met_isExpression (kl G) Y.1 x) hG (by decide) dX0_divideBy_1 cpD_X0_isExpression (Nat.le_of_ble_eq_true rfl) rfl (fun r1 hr1 => ?_)
  rcases hr1 with ⟨rfl, hq1⟩ | ⟨rfl, hbx⟩
  · skip
    obtain ⟨x0, hx0, rfl⟩ := hq1
    refine n_if_eq (pc := 4) (tgt := 21) dX0_divideBy_4 (by decide) (by decide) (fun h => absurd h (by decide)) (fun _ => ?_)
    refine j_iload_n (pc := 7) (i := 2) dX0_divideBy_7 rfl rfl ?_
    refine s_calli (pc := 8) (st := []) (met_isExpression (kl G) Y.1 y) hG (by decide) dX0_divideBy_8 cpD_X0_isExpression (Nat.le_of_ble_eq_true rfl) rfl (fun r8 hr8 => ?_)
    rcases hr8 with ⟨rfl, hq8⟩ | ⟨rfl, hby⟩
    · skip
      obtain ⟨y0, hy0, rfl⟩ := hq8
      refine n_if_eq (pc := 11) (tgt := 21) dX0_divideBy_11 (by decide) (by decide) (fun h => absurd h (by decide)) (fun _ => ?_)
      refine j_iload_n (pc := 14) (i := 3) dX0_divideBy_14 rfl rfl ?_
      refine s_calli (pc := 15) (st := []) (met_isCube (kl G) Y.1 c) hG (by decide) dX0_divideBy_15 cpD_X0_isCube (Nat.le_of_ble_eq_true rfl) rfl (fun r15 hr15 => ?_)
      rcases hr15 with ⟨rfl, hq15⟩ | ⟨rfl, hbc⟩
      · skip
        obtain ⟨c0, hc0, rfl⟩ := hq15
        refine n_if_ne (pc := 18) (tgt := 23) dX0_divideBy_18 (by decide) (by decide) (fun _ => ?_) (fun h => absurd h (by decide))
        obtain ⟨hfs, hfc, hfg⟩ := hG0 y0 hy0
        refine j_aload_n (pc := 23) (i := 0) dX0_divideBy_23 rfl rfl ?_
        refine j_iload_n (pc := 24) (i := 2) dX0_divideBy_24 rfl rfl ?_
        refine j_iload_n (pc := 25) (i := 3) dX0_divideBy_25 rfl rfl ?_
        refine d_callv (pc := 26) (st := []) (met_quotientBy (kl G) Y X y0 c0 hy0 hfs hc0 hfc) hG (by decide) dX0_divideBy_26 cpD_X0_quotientBy (Nat.le_of_ble_eq_true rfl) rfl (fun X26 hr26 => ?_)
        refine j_aload_n (pc := 29) (i := 0) dX0_divideBy_29 rfl rfl ?_
        refine j_iload_n (pc := 30) (i := 1) dX0_divideBy_30 rfl rfl ?_
        refine d_calli (pc := 31) (st := []) (met_store (kl G) Y X26 x0 _ hx0 (hG0.of hr26.1 hr26.2.1) hr26.2.2 (Nat.le_trans (qb_len _ _ _) hfs) (fun z hz => qb_mem_lt hfc hz)) hG (by decide) dX0_divideBy_31 cpD_X0_store (Nat.le_of_ble_eq_true rfl) rfl (fun r31 X31 hr31 => ?_)
        exact ret _ _ _ _ dX0_divideBy_34 rfl (Or.inr ⟨x0, y0, c0, hx0, hy0, hc0, rfl, rfl, rfl, storeP_of hr26.1 hr26.2.1 hr31⟩)
      · skip
        skip
        refine n_if_ne (pc := 18) (tgt := 23) dX0_divideBy_18 (by decide) (by decide) (fun h => absurd h (by decide)) (fun _ => ?_)
        refine j_iconst (pc := 21) (v := -1) dX0_divideBy_21 (by decide) ?_
        first | exact ret _ _ _ _ dX0_divideBy_22 rfl (Or.inl ⟨rfl, rfl, Or.inl hbx⟩) | exact ret _ _ _ _ dX0_divideBy_22 rfl (Or.inl ⟨rfl, rfl, Or.inr (Or.inl hby)⟩) | exact ret _ _ _ _ dX0_divideBy_22 rfl (Or.inl ⟨rfl, rfl, Or.inr (Or.inr hbc)⟩)
    · skip
      skip
      refine n_if_eq (pc := 11) (tgt := 21) dX0_divideBy_11 (by decide) (by decide) (fun _ => ?_) (fun h => absurd h (by decide))
      refine j_iconst (pc := 21) (v := -1) dX0_divideBy_21 (by decide) ?_
      first | exact ret _ _ _ _ dX0_divideBy_22 rfl (Or.inl ⟨rfl, rfl, Or.inl hbx⟩) | exact ret _ _ _ _ dX0_divideBy_22 rfl (Or.inl ⟨rfl, rfl, Or.inr (Or.inl hby)⟩) | exact ret _ _ _ _ dX0_divideBy_22 rfl (Or.inl ⟨rfl, rfl, Or.inr (Or.inr hbc)⟩)
  · skip
    skip
    refine n_if_eq (pc := 4) (tgt := 21) dX0_divideBy_4 (by decide) (by decide) (fun _ => ?_) (fun h => absurd h (by decide))
    refine j_iconst (pc := 21) (v := -1) dX0_divideBy_21 (by decide) ?_
    first | exact ret _ _ _ _ dX0_divideBy_22 rfl (Or.inl ⟨rfl, rfl, Or.inl hbx⟩) | exact ret _ _ _ _ dX0_divideBy_22 rfl (Or.inl ⟨rfl, rfl, Or.inr (Or.inl hby)⟩) | exact ret _ _ _ _ dX0_divideBy_22 rfl (Or.inl ⟨rfl, rfl, Or.inr (Or.inr hbc)⟩)

theorem dX0_divide_0 : decode cX0_divide 0 = .ok (.iload_n 1, 1) := by decide +kernel
theorem dX0_divide_1 : decode cX0_divide 1 = .ok (.invokestatic 33, 3) := by decide +kernel
theorem dX0_divide_4 : decode cX0_divide 4 = .ok (.ifCond .eq 12, 3) := by decide +kernel
theorem dX0_divide_7 : decode cX0_divide 7 = .ok (.aload_n 0, 1) := by decide +kernel
theorem dX0_divide_8 : decode cX0_divide 8 = .ok (.iload_n 2, 1) := by decide +kernel
theorem dX0_divide_9 : decode cX0_divide 9 = .ok (.iload_n 3, 1) := by decide +kernel
theorem dX0_divide_10 : decode cX0_divide 10 = .ok (.invokevirtual 60, 3) := by decide +kernel
theorem dX0_divide_13 : decode cX0_divide 13 = .ok (.ifCond .ne 5, 3) := by decide +kernel
theorem dX0_divide_16 : decode cX0_divide 16 = .ok (.iconst (-1), 1) := by decide +kernel
theorem dX0_divide_17 : decode cX0_divide 17 = .ok (.ireturn, 1) := by decide +kernel
theorem dX0_divide_18 : decode cX0_divide 18 = .ok (.aload_n 0, 1) := by decide +kernel
theorem dX0_divide_19 : decode cX0_divide 19 = .ok (.iload_n 2, 1) := by decide +kernel
theorem dX0_divide_20 : decode cX0_divide 20 = .ok (.iload_n 3, 1) := by decide +kernel
theorem dX0_divide_21 : decode cX0_divide 21 = .ok (.invokevirtual 63, 3) := by decide +kernel
theorem dX0_divide_24 : decode cX0_divide 24 = .ok (.aload_n 0, 1) := by decide +kernel
theorem dX0_divide_25 : decode cX0_divide 25 = .ok (.iload_n 1, 1) := by decide +kernel
theorem dX0_divide_26 : decode cX0_divide 26 = .ok (.invokevirtual 56, 3) := by decide +kernel
theorem dX0_divide_29 : decode cX0_divide 29 = .ok (.ireturn, 1) := by decide +kernel
set_option maxRecDepth 100000 in
set_option maxHeartbeats 4000000 in
theorem met_divide (l : Launch) (Y : dL) (X : Nat → Nat → Nat) (x y z : Int32) (hG0 : Good X) : dMi l yX0_divide cX0_divide 4 (some .int) 4 Y [.int x, .int y, .int z] X (fun r X' => (r = -1 ∧ X' = X ∧ ((∀ k, k < 4 → x ≠ nI k) ∨ (∀ f g, f < 4 → g < 4 → y = nI f → z = nI g → X 1 g = 0))) ∨ ∃ e f g, e < 4 ∧ f < 4 ∧ g < 4 ∧ x = nI e ∧ y = nI f ∧ z = nI g ∧ 0 < X 1 g ∧ storeP X e (qlist X f g) r X') := by
  refine d_ofi .int (own := RX0) rfl rfl (by decide) (Nat.le_of_ble_eq_true rfl) (by simp [lcat, Value.category]) ?_
  intro G hG ret
  refine j_iload_n (pc := 0) (i := 1) dX0_divide_0 rfl rfl ?_
  refine s_calli (pc := 1) (st := []) (met_isExpression (kl G) Y.1 x) hG (by decide) dX0_divide_1 cpD_X0_isExpression (Nat.le_of_ble_eq_true rfl) rfl (fun r1 hr1 => ?_)
  rcases hr1 with ⟨rfl, hq1⟩ | ⟨rfl, hbx⟩
  · skip
    obtain ⟨x0, hx0, rfl⟩ := hq1
    refine n_if_eq (pc := 4) (tgt := 16) dX0_divide_4 (by decide) (by decide) (fun h => absurd h (by decide)) (fun _ => ?_)
    refine j_aload_n (pc := 7) (i := 0) dX0_divide_7 rfl rfl ?_
    refine j_iload_n (pc := 8) (i := 2) dX0_divide_8 rfl rfl ?_
    refine j_iload_n (pc := 9) (i := 3) dX0_divide_9 rfl rfl ?_
    refine d_calli (pc := 10) (st := []) (met_canDivide (kl G) Y X y z hG0.ok) hG (by decide) dX0_divide_10 cpD_X0_canDivide (Nat.le_of_ble_eq_true rfl) rfl (fun r10 X10 hr10 => ?_)
    obtain ⟨hE10, hr10⟩ := hr10
    rw [hE10]
    rcases hr10 with ⟨rfl, f, g, hf, hg, rfl, rfl, h0⟩ | ⟨rfl, hbd⟩
    · skip
      skip
      refine n_if_ne (pc := 13) (tgt := 18) dX0_divide_13 (by decide) (by decide) (fun _ => ?_) (fun h => absurd h (by decide))
      refine j_aload_n (pc := 18) (i := 0) dX0_divide_18 rfl rfl ?_
      refine j_iload_n (pc := 19) (i := 2) dX0_divide_19 rfl rfl ?_
      refine j_iload_n (pc := 20) (i := 3) dX0_divide_20 rfl rfl ?_
      refine d_callv (pc := 21) (st := []) (met_quotient (kl G) Y X f g hf hg hG0 h0) hG (by decide) dX0_divide_21 cpD_X0_quotient (Nat.le_of_ble_eq_true rfl) rfl (fun X21 hr21 => ?_)
      have hm21 : hm X21 (qlist X f g) := hr21.2.2
      have hG21 := hG0.of hr21.1 hr21.2.1
      refine j_aload_n (pc := 24) (i := 0) dX0_divide_24 rfl rfl ?_
      refine j_iload_n (pc := 25) (i := 1) dX0_divide_25 rfl rfl ?_
      refine d_calli (pc := 26) (st := []) (met_store (kl G) Y X21 x0 (qlist X f g) hx0 hG21 hm21 (qlist_len hG0 hf) (qlist_lt hG0 hf)) hG (by decide) dX0_divide_26 cpD_X0_store (Nat.le_of_ble_eq_true rfl) rfl (fun r26 X26 hr26 => ?_)
      exact ret _ _ _ _ dX0_divide_29 rfl (Or.inr ⟨x0, f, g, hx0, hf, hg, rfl, rfl, rfl, h0, storeP_of hr21.1 hr21.2.1 hr26⟩)
    · skip
      skip
      refine n_if_ne (pc := 13) (tgt := 18) dX0_divide_13 (by decide) (by decide) (fun h => absurd h (by decide)) (fun _ => ?_)
      refine j_iconst (pc := 16) (v := -1) dX0_divide_16 (by decide) ?_
      first | exact ret _ _ _ _ dX0_divide_17 rfl (Or.inl ⟨rfl, rfl, Or.inl hbx⟩) | exact ret _ _ _ _ dX0_divide_17 rfl (Or.inl ⟨rfl, rfl, Or.inr hbd⟩)
  · skip
    skip
    refine n_if_eq (pc := 4) (tgt := 16) dX0_divide_4 (by decide) (by decide) (fun _ => ?_) (fun h => absurd h (by decide))
    refine j_iconst (pc := 16) (v := -1) dX0_divide_16 (by decide) ?_
    first | exact ret _ _ _ _ dX0_divide_17 rfl (Or.inl ⟨rfl, rfl, Or.inl hbx⟩) | exact ret _ _ _ _ dX0_divide_17 rfl (Or.inl ⟨rfl, rfl, Or.inr hbd⟩)

theorem dX0_rest_0 : decode cX0_rest 0 = .ok (.iload_n 1, 1) := by decide +kernel
theorem dX0_rest_1 : decode cX0_rest 1 = .ok (.invokestatic 33, 3) := by decide +kernel
theorem dX0_rest_4 : decode cX0_rest 4 = .ok (.ifCond .eq 12, 3) := by decide +kernel
theorem dX0_rest_7 : decode cX0_rest 7 = .ok (.aload_n 0, 1) := by decide +kernel
theorem dX0_rest_8 : decode cX0_rest 8 = .ok (.iload_n 2, 1) := by decide +kernel
theorem dX0_rest_9 : decode cX0_rest 9 = .ok (.iload_n 3, 1) := by decide +kernel
theorem dX0_rest_10 : decode cX0_rest 10 = .ok (.invokevirtual 60, 3) := by decide +kernel
theorem dX0_rest_13 : decode cX0_rest 13 = .ok (.ifCond .ne 5, 3) := by decide +kernel
theorem dX0_rest_16 : decode cX0_rest 16 = .ok (.iconst (-1), 1) := by decide +kernel
theorem dX0_rest_17 : decode cX0_rest 17 = .ok (.ireturn, 1) := by decide +kernel
theorem dX0_rest_18 : decode cX0_rest 18 = .ok (.aload_n 0, 1) := by decide +kernel
theorem dX0_rest_19 : decode cX0_rest 19 = .ok (.iload_n 2, 1) := by decide +kernel
theorem dX0_rest_20 : decode cX0_rest 20 = .ok (.iload_n 3, 1) := by decide +kernel
theorem dX0_rest_21 : decode cX0_rest 21 = .ok (.invokevirtual 63, 3) := by decide +kernel
theorem dX0_rest_24 : decode cX0_rest 24 = .ok (.aload_n 0, 1) := by decide +kernel
theorem dX0_rest_25 : decode cX0_rest 25 = .ok (.iload_n 2, 1) := by decide +kernel
theorem dX0_rest_26 : decode cX0_rest 26 = .ok (.iload_n 3, 1) := by decide +kernel
theorem dX0_rest_27 : decode cX0_rest 27 = .ok (.invokevirtual 75, 3) := by decide +kernel
theorem dX0_rest_30 : decode cX0_rest 30 = .ok (.aload_n 0, 1) := by decide +kernel
theorem dX0_rest_31 : decode cX0_rest 31 = .ok (.iload_n 1, 1) := by decide +kernel
theorem dX0_rest_32 : decode cX0_rest 32 = .ok (.invokevirtual 56, 3) := by decide +kernel
theorem dX0_rest_35 : decode cX0_rest 35 = .ok (.ireturn, 1) := by decide +kernel
set_option maxRecDepth 100000 in
set_option maxHeartbeats 4000000 in
theorem met_rest (l : Launch) (Y : dL) (X : Nat → Nat → Nat) (x y z : Int32) (hG0 : Good X) : dMi l yX0_rest cX0_rest 4 (some .int) 4 Y [.int x, .int y, .int z] X (fun r X' => (r = -1 ∧ X' = X ∧ ((∀ k, k < 4 → x ≠ nI k) ∨ (∀ f g, f < 4 → g < 4 → y = nI f → z = nI g → X 1 g = 0))) ∨ ∃ e f g, e < 4 ∧ f < 4 ∧ g < 4 ∧ x = nI e ∧ y = nI f ∧ z = nI g ∧ 0 < X 1 g ∧ storeP X e (rlist X f g) r X') := by
  refine d_ofi .int (own := RX0) rfl rfl (by decide) (Nat.le_of_ble_eq_true rfl) (by simp [lcat, Value.category]) ?_
  intro G hG ret
  refine j_iload_n (pc := 0) (i := 1) dX0_rest_0 rfl rfl ?_
  refine s_calli (pc := 1) (st := []) (met_isExpression (kl G) Y.1 x) hG (by decide) dX0_rest_1 cpD_X0_isExpression (Nat.le_of_ble_eq_true rfl) rfl (fun r1 hr1 => ?_)
  rcases hr1 with ⟨rfl, hq1⟩ | ⟨rfl, hbx⟩
  · skip
    obtain ⟨x0, hx0, rfl⟩ := hq1
    refine n_if_eq (pc := 4) (tgt := 16) dX0_rest_4 (by decide) (by decide) (fun h => absurd h (by decide)) (fun _ => ?_)
    refine j_aload_n (pc := 7) (i := 0) dX0_rest_7 rfl rfl ?_
    refine j_iload_n (pc := 8) (i := 2) dX0_rest_8 rfl rfl ?_
    refine j_iload_n (pc := 9) (i := 3) dX0_rest_9 rfl rfl ?_
    refine d_calli (pc := 10) (st := []) (met_canDivide (kl G) Y X y z hG0.ok) hG (by decide) dX0_rest_10 cpD_X0_canDivide (Nat.le_of_ble_eq_true rfl) rfl (fun r10 X10 hr10 => ?_)
    obtain ⟨hE10, hr10⟩ := hr10
    rw [hE10]
    rcases hr10 with ⟨rfl, f, g, hf, hg, rfl, rfl, h0⟩ | ⟨rfl, hbd⟩
    · skip
      skip
      refine n_if_ne (pc := 13) (tgt := 18) dX0_rest_13 (by decide) (by decide) (fun _ => ?_) (fun h => absurd h (by decide))
      refine j_aload_n (pc := 18) (i := 0) dX0_rest_18 rfl rfl ?_
      refine j_iload_n (pc := 19) (i := 2) dX0_rest_19 rfl rfl ?_
      refine j_iload_n (pc := 20) (i := 3) dX0_rest_20 rfl rfl ?_
      refine d_callv (pc := 21) (st := []) (met_quotient (kl G) Y X f g hf hg hG0 h0) hG (by decide) dX0_rest_21 cpD_X0_quotient (Nat.le_of_ble_eq_true rfl) rfl (fun X21 hr21 => ?_)
      have hm21 : hm X21 (qlist X f g) := hr21.2.2
      have hG21 := hG0.of hr21.1 hr21.2.1
      refine j_aload_n (pc := 24) (i := 0) dX0_rest_24 rfl rfl ?_
      refine j_iload_n (pc := 25) (i := 2) dX0_rest_25 rfl rfl ?_
      refine j_iload_n (pc := 26) (i := 3) dX0_rest_26 rfl rfl ?_
      refine d_callv (pc := 27) (st := []) (met_remainder (kl G) Y X21 f g (qlist X f g) hf hg hG21 hm21 (qlist_len hG0 hf) (qlist_lt hG0 hf)) hG (by decide) dX0_rest_27 cpD_X0_remainder (Nat.le_of_ble_eq_true rfl) rfl (fun X27 hr27 => ?_)
      have hm27 : hm X27 (rlist X f g) := by
        have z := hr27.2.2
        rw [rmL_of hr21.1 hr21.2.1, hr21.1] at z
        exact z
      have hG27 := hG21.of hr27.1 hr27.2.1
      refine j_aload_n (pc := 30) (i := 0) dX0_rest_30 rfl rfl ?_
      refine j_iload_n (pc := 31) (i := 1) dX0_rest_31 rfl rfl ?_
      refine d_calli (pc := 32) (st := []) (met_store (kl G) Y X27 x0 (rlist X f g) hx0 hG27 hm27 (Nat.le_trans (rmL_len _ _ _ _ _) (hG0 f hf).1) (fun z hz => rmL_mem_lt (hG0 f hf).2.1 hz)) hG (by decide) dX0_rest_32 cpD_X0_store (Nat.le_of_ble_eq_true rfl) rfl (fun r32 X32 hr32 => ?_)
      exact ret _ _ _ _ dX0_rest_35 rfl (Or.inr ⟨x0, f, g, hx0, hf, hg, rfl, rfl, rfl, h0, storeP_of (hr27.1.trans hr21.1) (hr27.2.1.trans hr21.2.1) hr32⟩)
    · skip
      skip
      refine n_if_ne (pc := 13) (tgt := 18) dX0_rest_13 (by decide) (by decide) (fun h => absurd h (by decide)) (fun _ => ?_)
      refine j_iconst (pc := 16) (v := -1) dX0_rest_16 (by decide) ?_
      first | exact ret _ _ _ _ dX0_rest_17 rfl (Or.inl ⟨rfl, rfl, Or.inl hbx⟩) | exact ret _ _ _ _ dX0_rest_17 rfl (Or.inl ⟨rfl, rfl, Or.inr hbd⟩)
  · skip
    skip
    refine n_if_eq (pc := 4) (tgt := 16) dX0_rest_4 (by decide) (by decide) (fun _ => ?_) (fun h => absurd h (by decide))
    refine j_iconst (pc := 16) (v := -1) dX0_rest_16 (by decide) ?_
    first | exact ret _ _ _ _ dX0_rest_17 rfl (Or.inl ⟨rfl, rfl, Or.inl hbx⟩) | exact ret _ _ _ _ dX0_rest_17 rfl (Or.inl ⟨rfl, rfl, Or.inr hbd⟩)

theorem dX0_common_0 : decode cX0_common 0 = .ok (.iload_n 1, 1) := by decide +kernel
theorem dX0_common_1 : decode cX0_common 1 = .ok (.invokestatic 33, 3) := by decide +kernel
theorem dX0_common_4 : decode cX0_common 4 = .ok (.ifCond .eq 23, 3) := by decide +kernel
theorem dX0_common_7 : decode cX0_common 7 = .ok (.aload_n 0, 1) := by decide +kernel
theorem dX0_common_8 : decode cX0_common 8 = .ok (.getfield 7, 3) := by decide +kernel
theorem dX0_common_11 : decode cX0_common 11 = .ok (.iload_n 1, 1) := by decide +kernel
theorem dX0_common_12 : decode cX0_common 12 = .ok (.baload, 1) := by decide +kernel
theorem dX0_common_13 : decode cX0_common 13 = .ok (.ifCond .le 14, 3) := by decide +kernel
theorem dX0_common_16 : decode cX0_common 16 = .ok (.aload_n 0, 1) := by decide +kernel
theorem dX0_common_17 : decode cX0_common 17 = .ok (.iload_n 1, 1) := by decide +kernel
theorem dX0_common_18 : decode cX0_common 18 = .ok (.sipush 255, 3) := by decide +kernel
theorem dX0_common_21 : decode cX0_common 21 = .ok (.invokevirtual 78, 3) := by decide +kernel
theorem dX0_common_24 : decode cX0_common 24 = .ok (.goto 4, 3) := by decide +kernel
theorem dX0_common_27 : decode cX0_common 27 = .ok (.iconst (-1), 1) := by decide +kernel
theorem dX0_common_28 : decode cX0_common 28 = .ok (.ireturn, 1) := by decide +kernel
set_option maxRecDepth 100000 in
set_option maxHeartbeats 4000000 in
theorem met_common (l : Launch) (Y : dL) (X : Nat → Nat → Nat) (x : Int32) (hG0 : Good X) : dMi l yX0_common cX0_common 2 (some .int) 3 Y [.int x] X (fun r X' => X' = X ∧ ((r = -1 ∧ (∀ k, k < 4 → x ≠ nI k)) ∨ ∃ e, e < 4 ∧ x = nI e ∧ ((r = -1 ∧ X 1 e = 0) ∨ (0 < X 1 e ∧ r = nI (com (gr X e) 255 (X 1 e)))))) := by
  refine d_ofi .int (own := RX0) rfl rfl (by decide) (Nat.le_of_ble_eq_true rfl) (by simp [lcat, Value.category]) ?_
  intro G hG ret
  refine j_iload_n (pc := 0) (i := 1) dX0_common_0 rfl rfl ?_
  refine s_calli (pc := 1) (st := []) (met_isExpression (kl G) Y.1 x) hG (by decide) dX0_common_1 cpD_X0_isExpression (Nat.le_of_ble_eq_true rfl) rfl (fun r1 hr1 => ?_)
  rcases hr1 with ⟨rfl, hq1⟩ | ⟨rfl, hbx⟩
  · skip
    obtain ⟨x0, hx0, rfl⟩ := hq1
    refine n_if_eq (pc := 4) (tgt := 27) dX0_common_4 (by decide) (by decide) (fun h => absurd h (by decide)) (fun _ => ?_)
    obtain ⟨hs, hcc, hss⟩ := hG0 x0 hx0
    refine j_aload_n (pc := 7) (i := 0) dX0_common_7 rfl rfl ?_
    refine d_get_sizes (pc := 8) dX0_common_8 ?_
    refine j_iload_n (pc := 11) (i := 1) dX0_common_11 rfl rfl ?_
    refine d_ld_sizes (pc := 12) dX0_common_12 (by omega) ?_
    refine n_if_le (pc := 13) (tgt := 27) dX0_common_13 (by decide) (by omega) (fun h13 => ?_) (fun h13 => ?_)
    · skip
      refine j_iconst (pc := 27) (v := -1) dX0_common_27 (by decide) ?_
      first | exact ret _ _ _ _ dX0_common_28 rfl ⟨rfl, Or.inl ⟨rfl, hbx⟩⟩ | exact ret _ _ _ _ dX0_common_28 rfl ⟨rfl, Or.inr ⟨x0, hx0, rfl, Or.inl ⟨rfl, h13⟩⟩⟩ | exact ret _ _ _ _ dX0_common_28 rfl ⟨rfl, Or.inr ⟨x0, hx0, rfl, Or.inr ⟨h13, rfl⟩⟩⟩
    · skip
      refine j_aload_n (pc := 16) (i := 0) dX0_common_16 rfl rfl ?_
      refine j_iload_n (pc := 17) (i := 1) dX0_common_17 rfl rfl ?_
      refine j_sipush (pc := 18) (v := nI 255) dX0_common_18 (by decide) ?_
      refine d_calli (pc := 21) (st := []) (met_commonAt (kl G) Y X x0 255 (by omega) hs (by omega)) hG (by decide) dX0_common_21 cpD_X0_commonAt (Nat.le_of_ble_eq_true rfl) rfl (fun r21 X21 hr21 => ?_)
      obtain ⟨hE21, hr21⟩ := hr21
      rw [hE21]
      subst hr21
      refine j_goto (pc := 24) (tgt := 28) dX0_common_24 (by decide) ?_
      first | exact ret _ _ _ _ dX0_common_28 rfl ⟨rfl, Or.inl ⟨rfl, hbx⟩⟩ | exact ret _ _ _ _ dX0_common_28 rfl ⟨rfl, Or.inr ⟨x0, hx0, rfl, Or.inl ⟨rfl, h13⟩⟩⟩ | exact ret _ _ _ _ dX0_common_28 rfl ⟨rfl, Or.inr ⟨x0, hx0, rfl, Or.inr ⟨h13, rfl⟩⟩⟩
  · skip
    skip
    refine n_if_eq (pc := 4) (tgt := 27) dX0_common_4 (by decide) (by decide) (fun _ => ?_) (fun h => absurd h (by decide))
    refine j_iconst (pc := 27) (v := -1) dX0_common_27 (by decide) ?_
    first | exact ret _ _ _ _ dX0_common_28 rfl ⟨rfl, Or.inl ⟨rfl, hbx⟩⟩ | exact ret _ _ _ _ dX0_common_28 rfl ⟨rfl, Or.inr ⟨x0, hx0, rfl, Or.inl ⟨rfl, h13⟩⟩⟩ | exact ret _ _ _ _ dX0_common_28 rfl ⟨rfl, Or.inr ⟨x0, hx0, rfl, Or.inr ⟨h13, rfl⟩⟩⟩

theorem dX0_free_0 : decode cX0_free 0 = .ok (.iload_n 1, 1) := by decide +kernel
theorem dX0_free_1 : decode cX0_free 1 = .ok (.invokestatic 33, 3) := by decide +kernel
theorem dX0_free_4 : decode cX0_free 4 = .ok (.ifCond .eq 28, 3) := by decide +kernel
theorem dX0_free_7 : decode cX0_free 7 = .ok (.aload_n 0, 1) := by decide +kernel
theorem dX0_free_8 : decode cX0_free 8 = .ok (.getfield 7, 3) := by decide +kernel
theorem dX0_free_11 : decode cX0_free 11 = .ok (.iload_n 1, 1) := by decide +kernel
theorem dX0_free_12 : decode cX0_free 12 = .ok (.baload, 1) := by decide +kernel
theorem dX0_free_13 : decode cX0_free 13 = .ok (.iconst 1, 1) := by decide +kernel
theorem dX0_free_14 : decode cX0_free 14 = .ok (.if_icmp .le 18, 3) := by decide +kernel
theorem dX0_free_17 : decode cX0_free 17 = .ok (.aload_n 0, 1) := by decide +kernel
theorem dX0_free_18 : decode cX0_free 18 = .ok (.iload_n 1, 1) := by decide +kernel
theorem dX0_free_19 : decode cX0_free 19 = .ok (.sipush 255, 3) := by decide +kernel
theorem dX0_free_22 : decode cX0_free 22 = .ok (.invokevirtual 78, 3) := by decide +kernel
theorem dX0_free_25 : decode cX0_free 25 = .ok (.ifCond .ne 7, 3) := by decide +kernel
theorem dX0_free_28 : decode cX0_free 28 = .ok (.iconst 1, 1) := by decide +kernel
theorem dX0_free_29 : decode cX0_free 29 = .ok (.goto 4, 3) := by decide +kernel
theorem dX0_free_32 : decode cX0_free 32 = .ok (.iconst 0, 1) := by decide +kernel
theorem dX0_free_33 : decode cX0_free 33 = .ok (.ireturn, 1) := by decide +kernel
set_option maxRecDepth 100000 in
set_option maxHeartbeats 4000000 in
theorem met_free (l : Launch) (Y : dL) (X : Nat → Nat → Nat) (x : Int32) (hG0 : Good X) : dMi l yX0_free cX0_free 2 (some .boolean) 3 Y [.int x] X (fun r X' => X' = X ∧ ((r = nI 0 ∧ (∀ k, k < 4 → x ≠ nI k)) ∨ ∃ e, e < 4 ∧ x = nI e ∧ ((r = nI 1 ∧ 1 < X 1 e ∧ com (gr X e) 255 (X 1 e) = 0) ∨ (r = nI 0 ∧ ¬ (1 < X 1 e ∧ com (gr X e) 255 (X 1 e) = 0))))) := by
  refine d_ofi .boolean (own := RX0) rfl rfl (by decide) (Nat.le_of_ble_eq_true rfl) (by simp [lcat, Value.category]) ?_
  intro G hG ret
  refine j_iload_n (pc := 0) (i := 1) dX0_free_0 rfl rfl ?_
  refine s_calli (pc := 1) (st := []) (met_isExpression (kl G) Y.1 x) hG (by decide) dX0_free_1 cpD_X0_isExpression (Nat.le_of_ble_eq_true rfl) rfl (fun r1 hr1 => ?_)
  rcases hr1 with ⟨rfl, hq1⟩ | ⟨rfl, hbx⟩
  · skip
    obtain ⟨x0, hx0, rfl⟩ := hq1
    refine n_if_eq (pc := 4) (tgt := 32) dX0_free_4 (by decide) (by decide) (fun h => absurd h (by decide)) (fun _ => ?_)
    obtain ⟨hs, hcc, hss⟩ := hG0 x0 hx0
    refine j_aload_n (pc := 7) (i := 0) dX0_free_7 rfl rfl ?_
    refine d_get_sizes (pc := 8) dX0_free_8 ?_
    refine j_iload_n (pc := 11) (i := 1) dX0_free_11 rfl rfl ?_
    refine d_ld_sizes (pc := 12) dX0_free_12 (by omega) ?_
    refine j_iconst (pc := 13) (v := nI 1) dX0_free_13 (by decide) ?_
    refine n_icmp_le (pc := 14) (tgt := 32) dX0_free_14 (by decide) (by omega) (fun h14 => ?_) (fun h14 => ?_)
    · skip
      refine j_iconst (pc := 32) (v := nI 0) dX0_free_32 (by decide) ?_
      first | exact ret _ _ _ _ dX0_free_33 rfl ⟨rfl, Or.inl ⟨rfl, hbx⟩⟩ | exact ret _ _ _ _ dX0_free_33 rfl ⟨rfl, Or.inr ⟨x0, hx0, rfl, Or.inl ⟨rfl, h14, h25⟩⟩⟩ | exact ret _ _ _ _ dX0_free_33 rfl ⟨rfl, Or.inr ⟨x0, hx0, rfl, Or.inr ⟨rfl, fun z => by omega⟩⟩⟩
    · skip
      refine j_aload_n (pc := 17) (i := 0) dX0_free_17 rfl rfl ?_
      refine j_iload_n (pc := 18) (i := 1) dX0_free_18 rfl rfl ?_
      refine j_sipush (pc := 19) (v := nI 255) dX0_free_19 (by decide) ?_
      refine d_calli (pc := 22) (st := []) (met_commonAt (kl G) Y X x0 255 (by omega) hs (by omega)) hG (by decide) dX0_free_22 cpD_X0_commonAt (Nat.le_of_ble_eq_true rfl) rfl (fun r22 X22 hr22 => ?_)
      obtain ⟨hE22, hr22⟩ := hr22
      rw [hE22]
      subst hr22
      have hcl := com_le (gr X x0) 255 (X 1 x0)
      refine n_if_ne (pc := 25) (tgt := 32) dX0_free_25 (by decide) (by omega) (fun h25 => ?_) (fun h25 => ?_)
      · skip
        refine j_iconst (pc := 32) (v := nI 0) dX0_free_32 (by decide) ?_
        first | exact ret _ _ _ _ dX0_free_33 rfl ⟨rfl, Or.inl ⟨rfl, hbx⟩⟩ | exact ret _ _ _ _ dX0_free_33 rfl ⟨rfl, Or.inr ⟨x0, hx0, rfl, Or.inl ⟨rfl, h14, h25⟩⟩⟩ | exact ret _ _ _ _ dX0_free_33 rfl ⟨rfl, Or.inr ⟨x0, hx0, rfl, Or.inr ⟨rfl, fun z => by omega⟩⟩⟩
      · skip
        refine j_iconst (pc := 28) (v := nI 1) dX0_free_28 (by decide) ?_
        refine j_goto (pc := 29) (tgt := 33) dX0_free_29 (by decide) ?_
        first | exact ret _ _ _ _ dX0_free_33 rfl ⟨rfl, Or.inl ⟨rfl, hbx⟩⟩ | exact ret _ _ _ _ dX0_free_33 rfl ⟨rfl, Or.inr ⟨x0, hx0, rfl, Or.inl ⟨rfl, h14, h25⟩⟩⟩ | exact ret _ _ _ _ dX0_free_33 rfl ⟨rfl, Or.inr ⟨x0, hx0, rfl, Or.inr ⟨rfl, fun z => by omega⟩⟩⟩
  · skip
    skip
    refine n_if_eq (pc := 4) (tgt := 32) dX0_free_4 (by decide) (by decide) (fun _ => ?_) (fun h => absurd h (by decide))
    refine j_iconst (pc := 32) (v := nI 0) dX0_free_32 (by decide) ?_
    first | exact ret _ _ _ _ dX0_free_33 rfl ⟨rfl, Or.inl ⟨rfl, hbx⟩⟩ | exact ret _ _ _ _ dX0_free_33 rfl ⟨rfl, Or.inr ⟨x0, hx0, rfl, Or.inl ⟨rfl, h14, h25⟩⟩⟩ | exact ret _ _ _ _ dX0_free_33 rfl ⟨rfl, Or.inr ⟨x0, hx0, rfl, Or.inr ⟨rfl, fun z => by omega⟩⟩⟩

theorem dX0_holding_0 : decode cX0_holding 0 = .ok (.iload_n 1, 1) := by decide +kernel
theorem dX0_holding_1 : decode cX0_holding 1 = .ok (.invokestatic 33, 3) := by decide +kernel
theorem dX0_holding_4 : decode cX0_holding 4 = .ok (.ifCond .eq 19, 3) := by decide +kernel
theorem dX0_holding_7 : decode cX0_holding 7 = .ok (.iload_n 2, 1) := by decide +kernel
theorem dX0_holding_8 : decode cX0_holding 8 = .ok (.invokestatic 37, 3) := by decide +kernel
theorem dX0_holding_11 : decode cX0_holding 11 = .ok (.ifCond .eq 12, 3) := by decide +kernel
theorem dX0_holding_14 : decode cX0_holding 14 = .ok (.aload_n 0, 1) := by decide +kernel
theorem dX0_holding_15 : decode cX0_holding 15 = .ok (.iload_n 1, 1) := by decide +kernel
theorem dX0_holding_16 : decode cX0_holding 16 = .ok (.iload_n 2, 1) := by decide +kernel
theorem dX0_holding_17 : decode cX0_holding 17 = .ok (.invokevirtual 97, 3) := by decide +kernel
theorem dX0_holding_20 : decode cX0_holding 20 = .ok (.goto 4, 3) := by decide +kernel
theorem dX0_holding_23 : decode cX0_holding 23 = .ok (.iconst (-1), 1) := by decide +kernel
theorem dX0_holding_24 : decode cX0_holding 24 = .ok (.ireturn, 1) := by decide +kernel
set_option maxRecDepth 100000 in
set_option maxHeartbeats 4000000 in
theorem met_holding (l : Launch) (Y : dL) (X : Nat → Nat → Nat) (x c : Int32) (hG0 : Good X) : dMi l yX0_holding cX0_holding 3 (some .int) 2 Y [.int x, .int c] X (fun r X' => X' = X ∧ ((r = -1 ∧ ((∀ k, k < 4 → x ≠ nI k) ∨ ∀ k, k < 128 → c ≠ nI k)) ∨ ∃ e k, e < 4 ∧ k < 128 ∧ x = nI e ∧ c = nI k ∧ r = nI (bitsOf (fun i => decide (nd k (gr X e i) = 0)) (X 1 e)))) := by
  refine d_ofi .int (own := RX0) rfl rfl (by decide) (Nat.le_of_ble_eq_true rfl) (by simp [lcat, Value.category]) ?_
  intro G hG ret
  refine j_iload_n (pc := 0) (i := 1) dX0_holding_0 rfl rfl ?_
  refine s_calli (pc := 1) (st := []) (met_isExpression (kl G) Y.1 x) hG (by decide) dX0_holding_1 cpD_X0_isExpression (Nat.le_of_ble_eq_true rfl) rfl (fun r1 hr1 => ?_)
  rcases hr1 with ⟨rfl, hq1⟩ | ⟨rfl, hbx⟩
  · skip
    obtain ⟨x0, hx0, rfl⟩ := hq1
    refine n_if_eq (pc := 4) (tgt := 23) dX0_holding_4 (by decide) (by decide) (fun h => absurd h (by decide)) (fun _ => ?_)
    refine j_iload_n (pc := 7) (i := 2) dX0_holding_7 rfl rfl ?_
    refine s_calli (pc := 8) (st := []) (met_isCube (kl G) Y.1 c) hG (by decide) dX0_holding_8 cpD_X0_isCube (Nat.le_of_ble_eq_true rfl) rfl (fun r8 hr8 => ?_)
    rcases hr8 with ⟨rfl, hq8⟩ | ⟨rfl, hbc⟩
    · skip
      obtain ⟨c0, hc0, rfl⟩ := hq8
      refine n_if_eq (pc := 11) (tgt := 23) dX0_holding_11 (by decide) (by decide) (fun h => absurd h (by decide)) (fun _ => ?_)
      obtain ⟨hs, hcc, hss⟩ := hG0 x0 hx0
      refine j_aload_n (pc := 14) (i := 0) dX0_holding_14 rfl rfl ?_
      refine j_iload_n (pc := 15) (i := 1) dX0_holding_15 rfl rfl ?_
      refine j_iload_n (pc := 16) (i := 2) dX0_holding_16 rfl rfl ?_
      refine d_calli (pc := 17) (st := []) (met_placesOf (kl G) Y X x0 c0 (by omega) hs (by omega)) hG (by decide) dX0_holding_17 cpD_X0_placesOf (Nat.le_of_ble_eq_true rfl) rfl (fun r17 X17 hr17 => ?_)
      obtain ⟨hE17, hr17⟩ := hr17
      rw [hE17]
      subst hr17
      refine j_goto (pc := 20) (tgt := 24) dX0_holding_20 (by decide) ?_
      first | exact ret _ _ _ _ dX0_holding_24 rfl ⟨rfl, Or.inl ⟨rfl, Or.inl hbx⟩⟩ | exact ret _ _ _ _ dX0_holding_24 rfl ⟨rfl, Or.inl ⟨rfl, Or.inr hbc⟩⟩ | exact ret _ _ _ _ dX0_holding_24 rfl ⟨rfl, Or.inr ⟨x0, c0, hx0, hc0, rfl, rfl, rfl⟩⟩
    · skip
      skip
      refine n_if_eq (pc := 11) (tgt := 23) dX0_holding_11 (by decide) (by decide) (fun _ => ?_) (fun h => absurd h (by decide))
      refine j_iconst (pc := 23) (v := -1) dX0_holding_23 (by decide) ?_
      first | exact ret _ _ _ _ dX0_holding_24 rfl ⟨rfl, Or.inl ⟨rfl, Or.inl hbx⟩⟩ | exact ret _ _ _ _ dX0_holding_24 rfl ⟨rfl, Or.inl ⟨rfl, Or.inr hbc⟩⟩ | exact ret _ _ _ _ dX0_holding_24 rfl ⟨rfl, Or.inr ⟨x0, c0, hx0, hc0, rfl, rfl, rfl⟩⟩
  · skip
    skip
    refine n_if_eq (pc := 4) (tgt := 23) dX0_holding_4 (by decide) (by decide) (fun _ => ?_) (fun h => absurd h (by decide))
    refine j_iconst (pc := 23) (v := -1) dX0_holding_23 (by decide) ?_
    first | exact ret _ _ _ _ dX0_holding_24 rfl ⟨rfl, Or.inl ⟨rfl, Or.inl hbx⟩⟩ | exact ret _ _ _ _ dX0_holding_24 rfl ⟨rfl, Or.inl ⟨rfl, Or.inr hbc⟩⟩ | exact ret _ _ _ _ dX0_holding_24 rfl ⟨rfl, Or.inr ⟨x0, c0, hx0, hc0, rfl, rfl, rfl⟩⟩

theorem hm_lts {X : Nat → Nat → Nat} {l : List Nat} (h : hm X l) : lts (X 3) (X 0 0) = (l.map (fun x => pop x 8)).sum := by
  have : ∀ n, n ≤ l.length → lts (X 3) n = ((l.take n).map (fun x => pop x 8)).sum := by
    intro n
    induction n with
    | zero => intro _; simp [lts]
    | succ n ih =>
      intro hn
      have hv := h.2 n hn
      rw [List.take_add_one, hv]
      unfold lts
      rw [ih (by omega)]
      simp
  rw [h.1, this _ (Nat.le_refl _), List.take_length]

theorem dX0_saving_0 : decode cX0_saving 0 = .ok (.aload_n 0, 1) := by decide +kernel
theorem dX0_saving_1 : decode cX0_saving 1 = .ok (.iload_n 1, 1) := by decide +kernel
theorem dX0_saving_2 : decode cX0_saving 2 = .ok (.iload_n 2, 1) := by decide +kernel
theorem dX0_saving_3 : decode cX0_saving 3 = .ok (.invokevirtual 60, 3) := by decide +kernel
theorem dX0_saving_6 : decode cX0_saving 6 = .ok (.ifCond .ne 5, 3) := by decide +kernel
theorem dX0_saving_9 : decode cX0_saving 9 = .ok (.iconst (-1), 1) := by decide +kernel
theorem dX0_saving_10 : decode cX0_saving 10 = .ok (.ireturn, 1) := by decide +kernel
theorem dX0_saving_11 : decode cX0_saving 11 = .ok (.aload_n 0, 1) := by decide +kernel
theorem dX0_saving_12 : decode cX0_saving 12 = .ok (.iload_n 1, 1) := by decide +kernel
theorem dX0_saving_13 : decode cX0_saving 13 = .ok (.iload_n 2, 1) := by decide +kernel
theorem dX0_saving_14 : decode cX0_saving 14 = .ok (.invokevirtual 63, 3) := by decide +kernel
theorem dX0_saving_17 : decode cX0_saving 17 = .ok (.aload_n 0, 1) := by decide +kernel
theorem dX0_saving_18 : decode cX0_saving 18 = .ok (.invokevirtual 108, 3) := by decide +kernel
theorem dX0_saving_21 : decode cX0_saving 21 = .ok (.istore_n 3, 1) := by decide +kernel
theorem dX0_saving_22 : decode cX0_saving 22 = .ok (.aload_n 0, 1) := by decide +kernel
theorem dX0_saving_23 : decode cX0_saving 23 = .ok (.iload_n 1, 1) := by decide +kernel
theorem dX0_saving_24 : decode cX0_saving 24 = .ok (.iload_n 2, 1) := by decide +kernel
theorem dX0_saving_25 : decode cX0_saving 25 = .ok (.invokevirtual 75, 3) := by decide +kernel
theorem dX0_saving_28 : decode cX0_saving 28 = .ok (.iload_n 3, 1) := by decide +kernel
theorem dX0_saving_29 : decode cX0_saving 29 = .ok (.aload_n 0, 1) := by decide +kernel
theorem dX0_saving_30 : decode cX0_saving 30 = .ok (.invokevirtual 108, 3) := by decide +kernel
theorem dX0_saving_33 : decode cX0_saving 33 = .ok (.iadd, 1) := by decide +kernel
theorem dX0_saving_34 : decode cX0_saving 34 = .ok (.istore_n 3, 1) := by decide +kernel
theorem dX0_saving_35 : decode cX0_saving 35 = .ok (.aload_n 0, 1) := by decide +kernel
theorem dX0_saving_36 : decode cX0_saving 36 = .ok (.iload_n 1, 1) := by decide +kernel
theorem dX0_saving_37 : decode cX0_saving 37 = .ok (.invokevirtual 112, 3) := by decide +kernel
theorem dX0_saving_40 : decode cX0_saving 40 = .ok (.iload_n 3, 1) := by decide +kernel
theorem dX0_saving_41 : decode cX0_saving 41 = .ok (.isub, 1) := by decide +kernel
theorem dX0_saving_42 : decode cX0_saving 42 = .ok (.aload_n 0, 1) := by decide +kernel
theorem dX0_saving_43 : decode cX0_saving 43 = .ok (.iload_n 2, 1) := by decide +kernel
theorem dX0_saving_44 : decode cX0_saving 44 = .ok (.invokevirtual 112, 3) := by decide +kernel
theorem dX0_saving_47 : decode cX0_saving 47 = .ok (.isub, 1) := by decide +kernel
theorem dX0_saving_48 : decode cX0_saving 48 = .ok (.ireturn, 1) := by decide +kernel
set_option maxRecDepth 100000 in
set_option maxHeartbeats 4000000 in
theorem met_saving (l : Launch) (Y : dL) (X : Nat → Nat → Nat) (x y : Int32) (hG0 : Good X) : dMi l yX0_saving cX0_saving 4 (some .int) 4 Y [.int x, .int y] X (fun r X' => X' 1 = X 1 ∧ X' 2 = X 2 ∧ ((r = -1 ∧ ∀ f g, f < 4 → g < 4 → x = nI f → y = nI g → X 1 g = 0) ∨ ∃ f g, f < 4 ∧ g < 4 ∧ x = nI f ∧ y = nI g ∧ 0 < X 1 g ∧ r = nI (lts (gr X f) (X 1 f)) - nI (((qlist X f g).map (fun x => pop x 8)).sum + ((rlist X f g).map (fun x => pop x 8)).sum) - nI (lts (gr X g) (X 1 g)))) := by
  refine d_ofi .int (own := RX0) rfl rfl (by decide) (Nat.le_of_ble_eq_true rfl) (by simp [lcat, Value.category]) ?_
  intro G hG ret
  refine j_aload_n (pc := 0) (i := 0) dX0_saving_0 rfl rfl ?_
  refine j_iload_n (pc := 1) (i := 1) dX0_saving_1 rfl rfl ?_
  refine j_iload_n (pc := 2) (i := 2) dX0_saving_2 rfl rfl ?_
  refine d_calli (pc := 3) (st := []) (met_canDivide (kl G) Y X x y hG0.ok) hG (by decide) dX0_saving_3 cpD_X0_canDivide (Nat.le_of_ble_eq_true rfl) rfl (fun r3 X3 hr3 => ?_)
  obtain ⟨hE3, hr3⟩ := hr3
  rw [hE3]
  rcases hr3 with ⟨rfl, f, g, hf, hg, rfl, rfl, h0⟩ | ⟨rfl, hbd⟩
  · skip
    skip
    refine n_if_ne (pc := 6) (tgt := 11) dX0_saving_6 (by decide) (by decide) (fun _ => ?_) (fun h => absurd h (by decide))
    refine j_aload_n (pc := 11) (i := 0) dX0_saving_11 rfl rfl ?_
    refine j_iload_n (pc := 12) (i := 1) dX0_saving_12 rfl rfl ?_
    refine j_iload_n (pc := 13) (i := 2) dX0_saving_13 rfl rfl ?_
    refine d_callv (pc := 14) (st := []) (met_quotient (kl G) Y X f g hf hg hG0 h0) hG (by decide) dX0_saving_14 cpD_X0_quotient (Nat.le_of_ble_eq_true rfl) rfl (fun X14 hr14 => ?_)
    have hm14 : hm X14 (qlist X f g) := hr14.2.2
    have hG14 := hG0.of hr14.1 hr14.2.1
    have l14 := qlist_len (g := g) hG0 hf
    have z14 := hm14.1
    refine j_aload_n (pc := 17) (i := 0) dX0_saving_17 rfl rfl ?_
    refine d_calli (pc := 18) (st := []) (met_madeLetters (kl G) Y X14 (by omega) (fun i hi => qlist_lt hG0 hf _ (hm_at hm14 hi))) hG (by decide) dX0_saving_18 cpD_X0_madeLetters (Nat.le_of_ble_eq_true rfl) rfl (fun r18 X18 hr18 => ?_)
    obtain ⟨hE18, hr18⟩ := hr18
    rw [hE18]
    rw [hm_lts hm14] at hr18
    subst hr18
    refine j_istore_n (pc := 21) (i := 3) (lv' := [.ref (Y.2.1 0), .int (nI f), .int (nI g), .int (nI (((qlist X f g).map (fun x => pop x 8)).sum))]) dX0_saving_21 rfl rfl ⟨(Nat.le_of_ble_eq_true rfl), (Nat.le_of_ble_eq_true rfl)⟩ ?_
    refine j_aload_n (pc := 22) (i := 0) dX0_saving_22 rfl rfl ?_
    refine j_iload_n (pc := 23) (i := 1) dX0_saving_23 rfl rfl ?_
    refine j_iload_n (pc := 24) (i := 2) dX0_saving_24 rfl rfl ?_
    refine d_callv (pc := 25) (st := []) (met_remainder (kl G) Y X14 f g (qlist X f g) hf hg hG14 hm14 (qlist_len hG0 hf) (qlist_lt hG0 hf)) hG (by decide) dX0_saving_25 cpD_X0_remainder (Nat.le_of_ble_eq_true rfl) rfl (fun X25 hr25 => ?_)
    have hm25 : hm X25 (rlist X f g) := by
      have z := hr25.2.2
      rw [rmL_of hr14.1 hr14.2.1, hr14.1] at z
      exact z
    have e1 : X25 1 = X 1 := hr25.1.trans hr14.1
    have e2 : X25 2 = X 2 := hr25.2.1.trans hr14.2.1
    have l25 : (rlist X f g).length ≤ 8 := Nat.le_trans (rmL_len _ _ _ _ _) (hG0 f hf).1
    have z25 := hm25.1
    have c25 : ∀ z ∈ rlist X f g, z < 128 := fun z hz => rmL_mem_lt (hG0 f hf).2.1 hz
    have hgr : ∀ f, gr X25 f = gr X f := fun f => by unfold gr; rw [e2]
    have hG25 := hG0.of e1 e2
    refine j_iload_n (pc := 28) (i := 3) dX0_saving_28 rfl rfl ?_
    refine j_aload_n (pc := 29) (i := 0) dX0_saving_29 rfl rfl ?_
    refine d_calli (pc := 30) (st := [.int (nI (((qlist X f g).map (fun x => pop x 8)).sum))]) (met_madeLetters (kl G) Y X25 (by omega) (fun i hi => c25 _ (hm_at hm25 hi))) hG (by decide) dX0_saving_30 cpD_X0_madeLetters (Nat.le_of_ble_eq_true rfl) rfl (fun r30 X30 hr30 => ?_)
    obtain ⟨hE30, hr30⟩ := hr30
    rw [hE30]
    rw [hm_lts hm25] at hr30
    subst hr30
    refine n_iadd (pc := 33) dX0_saving_33 ?_
    refine j_istore_n (pc := 34) (i := 3) (lv' := [.ref (Y.2.1 0), .int (nI f), .int (nI g), .int (nI ((((qlist X f g).map (fun x => pop x 8)).sum) + (((rlist X f g).map (fun x => pop x 8)).sum)))]) dX0_saving_34 rfl rfl ⟨(Nat.le_of_ble_eq_true rfl), (Nat.le_of_ble_eq_true rfl)⟩ ?_
    refine j_aload_n (pc := 35) (i := 0) dX0_saving_35 rfl rfl ?_
    refine j_iload_n (pc := 36) (i := 1) dX0_saving_36 rfl rfl ?_
    refine d_calli (pc := 37) (st := []) (met_lettersOf (kl G) Y X25 f hf (hG25 f hf).1 (hG25 f hf).2.1) hG (by decide) dX0_saving_37 cpD_X0_lettersOf (Nat.le_of_ble_eq_true rfl) rfl (fun r37 X37 hr37 => ?_)
    obtain ⟨hE37, hr37⟩ := hr37
    rw [hE37]
    rw [hgr, e1] at hr37
    subst hr37
    refine j_iload_n (pc := 40) (i := 3) dX0_saving_40 rfl rfl ?_
    refine j_isub (pc := 41) dX0_saving_41 ?_
    refine j_aload_n (pc := 42) (i := 0) dX0_saving_42 rfl rfl ?_
    refine j_iload_n (pc := 43) (i := 2) dX0_saving_43 rfl rfl ?_
    refine d_calli (pc := 44) (st := [.int ((nI (lts (gr X f) (X 1 f))) - (nI ((((qlist X f g).map (fun x => pop x 8)).sum) + (((rlist X f g).map (fun x => pop x 8)).sum))))]) (met_lettersOf (kl G) Y X25 g hg (hG25 g hg).1 (hG25 g hg).2.1) hG (by decide) dX0_saving_44 cpD_X0_lettersOf (Nat.le_of_ble_eq_true rfl) rfl (fun r44 X44 hr44 => ?_)
    obtain ⟨hE44, hr44⟩ := hr44
    rw [hE44]
    rw [hgr, e1] at hr44
    subst hr44
    refine j_isub (pc := 47) dX0_saving_47 ?_
    exact ret _ _ _ _ dX0_saving_48 rfl ⟨e1, e2, Or.inr ⟨f, g, hf, hg, rfl, rfl, h0, rfl⟩⟩
  · skip
    skip
    refine n_if_ne (pc := 6) (tgt := 11) dX0_saving_6 (by decide) (by decide) (fun h => absurd h (by decide)) (fun _ => ?_)
    refine j_iconst (pc := 9) (v := -1) dX0_saving_9 (by decide) ?_
    exact ret _ _ _ _ dX0_saving_10 rfl ⟨rfl, rfl, Or.inl ⟨rfl, hbd⟩⟩
end
section
/-! plain: closed cubes, and the search that meets each of them once -/
def sub (c D : Nat) : Prop := ∀ j, c.testBit j = true → D.testBit j = true
theorem nd_sub {c D : Nat} : nd c D = 0 ↔ sub c D := by
  constructor
  · intro h j hj
    have h1 := nd_testBit c D j
    rw [h, Nat.zero_testBit, hj] at h1
    cases e : D.testBit j with
    | true => rfl
    | false => rw [e] at h1; cases h1
  · intro h
    apply Nat.eq_of_testBit_eq
    intro j
    rw [nd_testBit, Nat.zero_testBit]
    cases e : c.testBit j with
    | false => rfl
    | true => rw [h j e]; rfl
theorem sub.tr {a b c : Nat} (h1 : sub a b) (h2 : sub b c) : sub a c := fun j hj => h2 j (h1 j hj)
theorem sub.rf (a : Nat) : sub a a := fun _ h => h
theorem sub_eq {a b : Nat} (h1 : sub a b) (h2 : sub b a) : a = b := by
  apply Nat.eq_of_testBit_eq
  intro j
  cases e : a.testBit j with
  | true => rw [h1 j e]
  | false =>
    cases e2 : b.testBit j with
    | false => rfl
    | true => rw [h2 j e2] at e; cases e
theorem lo_bit (a y : Nat) : a &&& (2 ^ y - 1) = 0 ↔ ∀ j, j < y → a.testBit j = false := by
  constructor
  · intro h j hj
    have h1 : (a &&& (2 ^ y - 1)).testBit j = false := by rw [h, Nat.zero_testBit]
    rw [Nat.testBit_and, Nat.testBit_two_pow_sub_one, decide_eq_true hj, Bool.and_true] at h1
    exact h1
  · intro h
    apply Nat.eq_of_testBit_eq
    intro j
    rw [Nat.testBit_and, Nat.testBit_two_pow_sub_one, Nat.zero_testBit]
    by_cases hj : j < y
    · rw [h j hj]; rfl
    · rw [decide_eq_false hj, Bool.and_false]
theorem nd_low {D c y : Nat} : nd D c &&& (2 ^ y - 1) = 0 ↔ ∀ j, j < y → D.testBit j = true → c.testBit j = true := by
  rw [lo_bit]
  constructor
  · intro h j hj hD
    have h1 := h j hj
    rw [nd_testBit, hD] at h1
    cases e : c.testBit j with
    | true => rfl
    | false => rw [e] at h1; cases h1
  · intro h j hj
    rw [nd_testBit]
    cases e : D.testBit j with
    | false => rfl
    | true => rw [h j hj e]; rfl
theorem bit_lt {a j : Nat} (h : a.testBit j = true) {k : Nat} (ha : a < 2 ^ k) : j < k := by
  rcases Nat.lt_or_ge j k with c | c
  · exact c
  · rw [Nat.testBit_lt_two_pow (Nat.lt_of_lt_of_le ha (Nat.pow_le_pow_right (by decide) c))] at h
    cases h
def plc (g : Nat → Nat) (n E : Nat) : Nat := bitsOf (fun i => decide (nd E (g i) = 0)) n
def cl (g : Nat → Nat) (n E : Nat) : Nat := com g (plc g n E) n
/-- D is closed and at least two cubes hold it -/
def Al (g : Nat → Nat) (n D : Nat) : Prop := 2 ≤ pop (plc g n D) 8 ∧ cl g n D = D
theorem plc_bit {g : Nat → Nat} {n E i : Nat} : (plc g n E).testBit i = true ↔ i < n ∧ sub E (g i) := by
  unfold plc
  rw [bitsOf_bit, Bool.and_eq_true, decide_eq_true_iff, decide_eq_true_iff, nd_sub]
theorem cl_bit {g : Nat → Nat} {n E b : Nat} : (cl g n E).testBit b = true ↔ b < 7 ∧ ∀ i, i < n → sub E (g i) → (g i).testBit b = true := by
  unfold cl
  rw [com_bit]
  constructor
  · rintro ⟨h1, h2⟩
    exact ⟨h1, fun i hi hs => h2 i hi (plc_bit.mpr ⟨hi, hs⟩)⟩
  · rintro ⟨h1, h2⟩
    exact ⟨h1, fun i hi hs => h2 i hi (plc_bit.mp hs).2⟩
theorem cl_lt (g : Nat → Nat) (n E : Nat) : cl g n E < 128 := by
  have := com_le g (plc g n E) n
  unfold cl
  omega
theorem Al.lt {g : Nat → Nat} {n D : Nat} (h : Al g n D) : D < 128 := by rw [← h.2]; exact cl_lt g n D
theorem cl_mono {g : Nat → Nat} {n E F : Nat} (h : sub E F) : sub (cl g n E) (cl g n F) := by
  intro b hb
  rw [cl_bit] at hb ⊢
  exact ⟨hb.1, fun i hi hs => hb.2 i hi (h.tr hs)⟩
theorem cl_ge {g : Nat → Nat} {n E : Nat} (hE : E < 128) : sub E (cl g n E) := by
  intro b hb
  rw [cl_bit]
  exact ⟨bit_lt hb (k := 7) hE, fun i hi hs => hs b hb⟩
theorem bitsOf_congr {q q' : Nat → Bool} : ∀ n, (∀ i, i < n → q i = q' i) → bitsOf q n = bitsOf q' n
  | 0, _ => rfl
  | n + 1, h => by
    unfold bitsOf
    rw [bitsOf_congr n (fun i hi => h i (by omega)), h n (by omega)]
theorem plc_cl {g : Nat → Nat} {n E : Nat} (hE : E < 128) : plc g n (cl g n E) = plc g n E := by
  unfold plc
  apply bitsOf_congr
  intro i hi
  have : nd (cl g n E) (g i) = 0 ↔ nd E (g i) = 0 := by
    rw [nd_sub, nd_sub]
    constructor
    · exact fun h => (cl_ge hE).tr h
    · intro h b hb
      rw [cl_bit] at hb
      exact hb.2 i hi h
  by_cases z : nd E (g i) = 0
  · rw [decide_eq_true z, decide_eq_true (this.mpr z)]
  · rw [decide_eq_false z, decide_eq_false (fun y => z (this.mp y))]
theorem pop_mono {a b : Nat} (h : sub a b) : ∀ k, pop a k ≤ pop b k
  | 0 => Nat.le_refl _
  | k + 1 => by
    have h1 := pop_mono h k
    unfold pop
    cases e : a.testBit k with
    | false => simp; omega
    | true => rw [h k e]; omega
theorem pop_hi {a n : Nat} (h : ∀ j, n ≤ j → a.testBit j = false) : ∀ k, pop a k ≤ n
  | 0 => Nat.zero_le _
  | k + 1 => by
    have h1 := pop_hi h k
    have h2 := pop_le a (k + 1)
    rcases Nat.lt_or_ge k n with c | c
    · omega
    · unfold pop
      rw [h k c]
      simp
      exact h1
theorem plc_pop (g : Nat → Nat) (n E : Nat) : pop (plc g n E) 8 ≤ n := pop_hi (fun j hj => by
  cases e : (plc g n E).testBit j with
  | false => rfl
  | true => exact absurd (plc_bit.mp e).1 (by omega)) 8
theorem plc_anti {g : Nat → Nat} {n E F : Nat} (h : sub E F) : sub (plc g n F) (plc g n E) := by
  intro i hi
  rw [plc_bit] at hi ⊢
  exact ⟨hi.1, h.tr hi.2⟩
theorem plc_lt {g : Nat → Nat} {n E : Nat} (hn : n ≤ 8) : plc g n E < 256 := Nat.lt_of_lt_of_le (bitsOf_lt _ _) (Nat.pow_le_pow_right (by decide) hn)
theorem cl_Al {g : Nat → Nat} {n E : Nat} (hE : E < 128) (h : 2 ≤ pop (plc g n E) 8) : Al g n (cl g n E) := by
  refine ⟨by rw [plc_cl hE]; exact h, ?_⟩
  show com g (plc g n (cl g n E)) n = cl g n E
  rw [plc_cl hE]
  rfl
/-- D is to be met from the choice (c, y) -/
def Tm (g : Nat → Nat) (n c y D : Nat) : Prop := Al g n D ∧ sub c D ∧ ∀ j, j < y → D.testBit j = true → c.testBit j = true
def vld (g : Nat → Nat) (n c b : Nat) : Prop := c.testBit b = false ∧ 2 ≤ pop (plc g n (c ||| 2 ^ b)) 8 ∧ nd (cl g n (c ||| 2 ^ b)) c &&& (2 ^ b - 1) = 0
theorem or_bit (c b j : Nat) : (c ||| 2 ^ b).testBit j = true ↔ c.testBit j = true ∨ j = b := by
  rw [Nat.testBit_or, Bool.or_eq_true]
  constructor
  · rintro (h | h)
    · exact Or.inl h
    · by_cases e : b = j
      · exact Or.inr e.symm
      · rw [Nat.testBit_two_pow_of_ne e] at h; cases h
  · rintro (h | h)
    · exact Or.inl h
    · rw [h, Nat.testBit_two_pow_self]; exact Or.inr rfl
theorem or_lt {c b : Nat} (hc : c < 128) (hb : b < 7) : c ||| 2 ^ b < 128 := Nat.or_lt_two_pow (n := 7) hc (Nat.pow_lt_pow_right (by decide) hb)
/-- one letter more: what (c, b) meets beside c is what (next, b + 1) meets, and what (c, b + 1) meets beside c -/
theorem Tm_y {g : Nat → Nat} {n c b D : Nat} (hc : c < 128) (hb : b < 7) (hv : vld g n c b) : (Tm g n c b D ∧ D ≠ c) ↔ (Tm g n (cl g n (c ||| 2 ^ b)) (b + 1) D ∨ (Tm g n c (b + 1) D ∧ D ≠ c)) := by
  have hE := or_lt hc hb
  have hcn : sub c (cl g n (c ||| 2 ^ b)) := fun j hj => cl_ge hE j ((or_bit c b j).mpr (Or.inl hj))
  have hbn : (cl g n (c ||| 2 ^ b)).testBit b = true := cl_ge hE b ((or_bit c b b).mpr (Or.inr rfl))
  constructor
  · rintro ⟨⟨h1, h2, h3⟩, h4⟩
    by_cases e : D.testBit b = true
    · left
      have hED : sub (c ||| 2 ^ b) D := fun j hj => by
        rcases (or_bit c b j).mp hj with z | z
        · exact h2 j z
        · rw [z]; exact e
      refine ⟨h1, by have := cl_mono (g := g) (n := n) hED; rwa [h1.2] at this, fun j hj hD => ?_⟩
      rcases Nat.lt_or_ge j b with z | z
      · exact hcn j (h3 j z hD)
      · rw [show j = b by omega]; exact hbn
    · right
      refine ⟨⟨h1, h2, fun j hj hD => ?_⟩, h4⟩
      rcases Nat.lt_or_ge j b with z | z
      · exact h3 j z hD
      · rw [show j = b by omega] at hD; exact absurd hD e
  · rintro (⟨h1, h2, h3⟩ | ⟨⟨h1, h2, h3⟩, h4⟩)
    · refine ⟨⟨h1, hcn.tr h2, fun j hj hD => ?_⟩, fun z => ?_⟩
      · exact (nd_low.mp hv.2.2) j hj (h3 j (by omega) hD)
      · have z1 := h2 b hbn
        rw [z, hv.1] at z1
        cases z1
    · exact ⟨⟨h1, h2, fun j hj => h3 j (by omega)⟩, h4⟩
theorem Tm_x {g : Nat → Nat} {n c b D : Nat} (hc : c < 128) (hb : b < 7) (hv : vld g n c b) : ¬ (Tm g n (cl g n (c ||| 2 ^ b)) (b + 1) D ∧ (Tm g n c (b + 1) D ∧ D ≠ c)) := by
  rintro ⟨⟨-, h2, -⟩, ⟨-, -, h3⟩, -⟩
  have hbn : (cl g n (c ||| 2 ^ b)).testBit b = true := cl_ge (or_lt hc hb) b ((or_bit c b b).mpr (Or.inr rfl))
  have := h3 b (by omega) (h2 b hbn)
  rw [hv.1] at this
  cases this
theorem Tm_n {g : Nat → Nat} {n c b D : Nat} (hc : c < 128) (hb : b < 7) (hv : ¬ vld g n c b) : (Tm g n c b D ∧ D ≠ c) ↔ (Tm g n c (b + 1) D ∧ D ≠ c) := by
  constructor
  · rintro ⟨⟨h1, h2, h3⟩, h4⟩
    refine ⟨⟨h1, h2, fun j hj hD => ?_⟩, h4⟩
    rcases Nat.lt_or_ge j b with z | z
    · exact h3 j z hD
    · have e : j = b := by omega
      subst e
      cases e2 : c.testBit j with
      | true => rfl
      | false =>
        exfalso
        have hED : sub (c ||| 2 ^ j) D := fun i hi => by
          rcases (or_bit c j i).mp hi with z | z
          · exact h2 i z
          · rw [z]; exact hD
        refine hv ⟨e2, Nat.le_trans h1.1 (pop_mono (plc_anti hED) 8), nd_low.mpr (fun i hi hn => ?_)⟩
        have h5 := cl_mono (g := g) (n := n) hED i hn
        rw [h1.2] at h5
        exact h3 i hi h5
  · rintro ⟨⟨h1, h2, h3⟩, h4⟩
    exact ⟨⟨h1, h2, fun j hj => h3 j (by omega)⟩, h4⟩
theorem Tm_7 {g : Nat → Nat} {n c D : Nat} : ¬ (Tm g n c 7 D ∧ D ≠ c) := by
  rintro ⟨⟨h1, h2, h3⟩, h4⟩
  exact h4 (sub_eq (fun j hj => h3 j (bit_lt hj (k := 7) h1.lt) hj) h2)
theorem Tm_self {g : Nat → Nat} {n c y : Nat} (h : Al g n c) : Tm g n c y c := ⟨h, sub.rf c, fun _ _ h => h⟩
theorem Tm_start {g : Nat → Nat} {n D : Nat} : Tm g n (cl g n 0) 0 D ↔ Al g n D := by
  constructor
  · exact fun h => h.1
  · intro h
    refine ⟨h, ?_, fun j hj => absurd hj (by omega)⟩
    have := cl_mono (g := g) (n := n) (E := 0) (F := D) (fun j hj => by rw [Nat.zero_testBit] at hj; cases hj)
    rwa [h.2] at this
/-- 1 if p, 0 if not -/
noncomputable def ind (p : Prop) : Nat := @ite Nat p (Classical.propDecidable p) 1 0
theorem ind_t {p : Prop} (h : p) : ind p = 1 := by unfold ind; exact if_pos h
theorem ind_f {p : Prop} (h : ¬ p) : ind p = 0 := by unfold ind; exact if_neg h
theorem ind_le (p : Prop) : ind p ≤ 1 := by
  by_cases h : p
  · rw [ind_t h]; omega
  · rw [ind_f h]; omega
theorem ind_iff {p q : Prop} (h : p ↔ q) : ind p = ind q := by
  by_cases z : p
  · rw [ind_t z, ind_t (h.mp z)]
  · rw [ind_f z, ind_f (fun y => z (h.mpr y))]
theorem ind_or {p q r : Prop} (h : p ↔ (q ∨ r)) (hx : ¬ (q ∧ r)) : ind p = ind q + ind r := by
  by_cases z : q
  · rw [ind_t (h.mpr (Or.inl z)), ind_t z, ind_f (fun y => hx ⟨z, y⟩)]
  · by_cases y : r
    · rw [ind_t (h.mpr (Or.inr y)), ind_f z, ind_t y]
    · rw [ind_f (fun w => (h.mp w).elim z y), ind_f z, ind_f y]
def sumN (f : Nat → Nat) : Nat → Nat
  | 0 => 0
  | i + 1 => sumN f i + f i
theorem sumN_le {f : Nat → Nat} : ∀ n, (∀ i, i < n → f i ≤ 1) → sumN f n ≤ n
  | 0, _ => Nat.le_refl _
  | n + 1, h => by
    have := sumN_le n (fun i hi => h i (by omega))
    have := h n (by omega)
    unfold sumN
    omega
theorem sumN_add (f h : Nat → Nat) : ∀ n, sumN (fun i => f i + h i) n = sumN f n + sumN h n
  | 0 => rfl
  | n + 1 => by
    unfold sumN
    rw [sumN_add f h n]
    omega
theorem sumN_ge {f : Nat → Nat} {i : Nat} : ∀ n, i < n → f i ≤ sumN f n
  | 0, h => absurd h (by omega)
  | n + 1, h => by
    unfold sumN
    rcases Nat.lt_or_ge i n with c | c
    · have := sumN_ge (f := f) n c
      omega
    · rw [show i = n by omega]; omega
theorem sumN_mono {f h : Nat → Nat} : ∀ n, (∀ i, i < n → f i ≤ h i) → sumN f n ≤ sumN h n
  | 0, _ => Nat.le_refl _
  | n + 1, hh => by
    have := sumN_mono n (fun i hi => hh i (by omega))
    have := hh n (by omega)
    unfold sumN
    omega
theorem sumN_congr {f h : Nat → Nat} : ∀ n, (∀ i, i < n → f i = h i) → sumN f n = sumN h n
  | 0, _ => rfl
  | n + 1, hh => by
    unfold sumN
    rw [sumN_congr n (fun i hi => hh i (by omega)), hh n (by omega)]
theorem sumN_one {f h : Nat → Nat} {c : Nat} (hc0 : f c = 0) (hc1 : h c = 1) (ho : ∀ i, i ≠ c → h i = f i) : ∀ n, sumN h n = sumN f n + (if c < n then 1 else 0)
  | 0 => by simp [sumN]
  | n + 1 => by
    unfold sumN
    rw [sumN_one hc0 hc1 ho n]
    by_cases e : n = c
    · subst e
      rw [if_neg (by omega), if_pos (by omega), hc0, hc1]
    · rw [ho n e]
      by_cases z : c < n
      · rw [if_pos z, if_pos (by omega)]; omega
      · rw [if_neg z, if_neg (by omega)]; omega
noncomputable def stk (g : Nat → Nat) (n : Nat) (st : List (Nat × Nat)) (D : Nat) : Nat := (st.map (fun q => ind (Tm g n q.1 q.2 D))).sum
theorem stk_push (g : Nat → Nat) (n : Nat) (st : List (Nat × Nat)) (q : Nat × Nat) (D : Nat) : stk g n (st ++ [q]) D = stk g n st D + ind (Tm g n q.1 q.2 D) := by
  unfold stk
  simp
theorem stk_len {g : Nat → Nat} {n : Nat} : ∀ {st : List (Nat × Nat)}, (∀ q ∈ st, Al g n q.1) → st.length ≤ sumN (stk g n st) 128
  | [], _ => Nat.zero_le _
  | q :: t, h => by
    have h1 := stk_len (fun z hz => h z (List.mem_cons_of_mem _ hz))
    have hq := h q List.mem_cons_self
    have e : sumN (stk g n (q :: t)) 128 = sumN (fun D => ind (Tm g n q.1 q.2 D)) 128 + sumN (stk g n t) 128 := by
      rw [← sumN_add]
      apply sumN_congr
      intro i hi
      unfold stk
      simp
    have h2 := sumN_ge (f := fun D => ind (Tm g n q.1 q.2 D)) 128 hq.lt
    have h3 : ind (Tm g n q.1 q.2 q.1) = 1 := ind_t (Tm_self hq)
    rw [e, List.length_cons]
    simp only [h3] at h2
    omega
/-- every closed cube is met, or waits just once, or is among x -/
def pE (g : Nat → Nat) (n : Nat) (V : Nat → Nat) (st : List (Nat × Nat)) (x : Nat → Nat) : Prop := (∀ D, D < 128 → V D + stk g n st D + x D = ind (Al g n D)) ∧ ∀ q ∈ st, Al g n q.1 ∧ q.2 ≤ 7
theorem pE_le {g : Nat → Nat} {n : Nat} {V : Nat → Nat} {st : List (Nat × Nat)} {x : Nat → Nat} (h : pE g n V st x) : sumN V 128 + st.length ≤ 128 := by
  have h1 := stk_len (fun q hq => (h.2 q hq).1)
  have h2 := sumN_add V (stk g n st) 128
  have h3 : sumN (fun i => V i + stk g n st i) 128 ≤ 128 := sumN_le 128 (fun i hi => by
    have := h.1 i hi
    have := ind_le (Al g n i)
    omega)
  omega
theorem pE_V1 {g : Nat → Nat} {n : Nat} {V : Nat → Nat} {st : List (Nat × Nat)} {x : Nat → Nat} (h : pE g n V st x) {D : Nat} (hD : D < 128) : V D ≤ 1 := by
  have := h.1 D hD
  have := ind_le (Al g n D)
  omega
/-- a choice is taken off, and met -/
theorem pE_pop {g : Nat → Nat} {n : Nat} {V V' : Nat → Nat} {st : List (Nat × Nat)} {c y : Nat} (h : pE g n V (st ++ [(c, y)]) (fun _ => 0)) (hc : V' c = 1) (ho : ∀ D, D ≠ c → V' D = V D) : pE g n V' st (fun D => ind (Tm g n c y D ∧ D ≠ c)) ∧ V c = 0 := by
  have hA : Al g n c := (h.2 (c, y) (by simp)).1
  have hc1 : V c + stk g n (st ++ [(c, y)]) c + 0 = ind (Al g n c) := h.1 c hA.lt
  rw [stk_push, ind_t hA, ind_t (p := Tm g n (c, y).1 (c, y).2 c) (Tm_self hA)] at hc1
  refine ⟨⟨fun D hD => ?_, fun q hq => h.2 q (by simp [hq])⟩, by omega⟩
  have h1 : V D + stk g n (st ++ [(c, y)]) D + 0 = ind (Al g n D) := h.1 D hD
  rw [stk_push] at h1
  show V' D + stk g n st D + ind (Tm g n c y D ∧ D ≠ c) = ind (Al g n D)
  by_cases e : D = c
  · subst e
    rw [hc, ind_f (p := Tm g n D y D ∧ D ≠ D) (fun z => z.2 rfl), ind_t hA]
    omega
  · rw [ho D e, ind_iff (show (Tm g n c y D ∧ D ≠ c) ↔ Tm g n c y D from ⟨fun z => z.1, fun z => ⟨z, e⟩⟩)]
    simp only at h1
    omega
theorem pE_y {g : Nat → Nat} {n : Nat} {V : Nat → Nat} {st : List (Nat × Nat)} {c b : Nat} (hc : c < 128) (hb : b < 7) (hv : vld g n c b) (h : pE g n V st (fun D => ind (Tm g n c b D ∧ D ≠ c))) : pE g n V (st ++ [(cl g n (c ||| 2 ^ b), b + 1)]) (fun D => ind (Tm g n c (b + 1) D ∧ D ≠ c)) := by
  refine ⟨fun D hD => ?_, fun q hq => ?_⟩
  · have h1 : V D + stk g n st D + ind (Tm g n c b D ∧ D ≠ c) = ind (Al g n D) := h.1 D hD
    show V D + stk g n (st ++ [(cl g n (c ||| 2 ^ b), b + 1)]) D + ind (Tm g n c (b + 1) D ∧ D ≠ c) = ind (Al g n D)
    rw [stk_push]
    rw [ind_or (Tm_y hc hb hv) (Tm_x hc hb hv)] at h1
    simp only
    omega
  · rcases List.mem_append.mp hq with z | z
    · exact h.2 q z
    · rw [List.mem_singleton.mp z]
      exact ⟨cl_Al (or_lt hc hb) hv.2.1, hb⟩
theorem pE_n {g : Nat → Nat} {n : Nat} {V : Nat → Nat} {st : List (Nat × Nat)} {c b : Nat} (hc : c < 128) (hb : b < 7) (hv : ¬ vld g n c b) (h : pE g n V st (fun D => ind (Tm g n c b D ∧ D ≠ c))) : pE g n V st (fun D => ind (Tm g n c (b + 1) D ∧ D ≠ c)) :=
  ⟨fun D hD => by
    have h1 : V D + stk g n st D + ind (Tm g n c b D ∧ D ≠ c) = ind (Al g n D) := h.1 D hD
    rw [ind_iff (Tm_n hc hb hv)] at h1
    exact h1, h.2⟩
theorem pE_7 {g : Nat → Nat} {n : Nat} {V : Nat → Nat} {st : List (Nat × Nat)} {c : Nat} (h : pE g n V st (fun D => ind (Tm g n c 7 D ∧ D ≠ c))) : pE g n V st (fun _ => 0) :=
  ⟨fun D hD => by
    have h1 : V D + stk g n st D + ind (Tm g n c 7 D ∧ D ≠ c) = ind (Al g n D) := h.1 D hD
    rw [ind_f Tm_7] at h1
    exact h1, h.2⟩
theorem pE_0 {g : Nat → Nat} {n : Nat} {V : Nat → Nat} (hV : ∀ D, D < 128 → V D = 0) (hA : Al g n (cl g n 0)) : pE g n V [(cl g n 0, 0)] (fun _ => 0) := by
  refine ⟨fun D hD => ?_, fun q hq => ?_⟩
  · show V D + stk g n [(cl g n 0, 0)] D + 0 = ind (Al g n D)
    rw [hV D hD, ind_iff (Tm_start (g := g) (n := n) (D := D)).symm]
    unfold stk
    simp
  · rw [List.mem_singleton.mp hq]
    exact ⟨hA, Nat.zero_le 7⟩
theorem pE_end {g : Nat → Nat} {n : Nat} {V : Nat → Nat} (h : pE g n V [] (fun _ => 0)) {D : Nat} (hD : D < 128) : V D = ind (Al g n D) := by
  have := h.1 D hD
  simpa [stk] using this
/-- what the desk's search holds: the waiting choices, the holders of those met -/
def xHas (X : Nat → Nat → Nat) (st : List (Nat × Nat)) : Prop := X 0 1 = st.length ∧ ∀ j, j < st.length → st[j]? = some (X 6 j, X 7 j)
theorem xHas_push {X X' : Nat → Nat → Nat} {st : List (Nat × Nat)} {c b : Nat} (h : xHas X st) (e : X' = up2 (up2 (up2 X 6 (X 0 1) c) 7 (X 0 1) b) 0 1 (X 0 1 + 1)) : xHas X' (st ++ [(c, b)]) := by
  obtain ⟨h1, h2⟩ := h
  refine ⟨by rw [e, up2_s, h1]; simp, fun j hj => ?_⟩
  have e6 : X' 6 = (up2 X 6 (X 0 1) c) 6 := by rw [e, up2_k _ _ _ (by decide), up2_k _ _ _ (by decide)]
  have e7 : X' 7 = up2 (up2 X 6 (X 0 1) c) 7 (X 0 1) b 7 := by rw [e, up2_k _ _ _ (by decide)]
  rcases Nat.lt_or_ge j st.length with z | z
  · rw [List.getElem?_append_left z, h2 j z, e6, e7, up2_n _ _ _ (by omega), up2_n _ _ _ (by omega), up2_k _ _ _ (by decide)]
  · have ej : j = X 0 1 := by simp at hj; omega
    rw [List.getElem?_append_right z, e6, e7, ej, up2_s, up2_s, h1]
    simp
theorem xHas_pop {X X' : Nat → Nat → Nat} {st : List (Nat × Nat)} {q : Nat × Nat} (h : xHas X (st ++ [q])) (h1 : X' 0 1 = X 0 1 - 1) (h6 : X' 6 = X 6) (h7 : X' 7 = X 7) : xHas X' st := by
  have h0 := h.1
  simp at h0
  refine ⟨by omega, fun j hj => ?_⟩
  have z := h.2 j (by simp; omega)
  rw [List.getElem?_append_left hj] at z
  rw [h6, h7]
  exact z
theorem xHas_top {X : Nat → Nat → Nat} {st : List (Nat × Nat)} {c y : Nat} (h : xHas X (st ++ [(c, y)])) : X 6 (X 0 1 - 1) = c ∧ X 7 (X 0 1 - 1) = y := by
  have h0 := h.1
  simp at h0
  have z := h.2 st.length (by simp)
  rw [List.getElem?_append_right (Nat.le_refl _)] at z
  simp at z
  rw [h0, Nat.add_sub_cancel]
  exact ⟨z.1.symm, z.2.symm⟩
theorem few_eq {g : Nat → Nat} {n c p t : Nat} (hp : p = plc g n c) : bitsOf (fun i => p.testBit i && (g i).testBit t) n = plc g n (c ||| 2 ^ t) := by
  unfold plc
  apply bitsOf_congr
  intro i hi
  have h1 : p.testBit i = true ↔ sub c (g i) := by rw [hp, plc_bit]; exact ⟨fun z => z.2, fun z => ⟨hi, z⟩⟩
  have h2 : nd (c ||| 2 ^ t) (g i) = 0 ↔ (p.testBit i = true ∧ (g i).testBit t = true) := by
    rw [nd_sub, h1]
    constructor
    · exact fun z => ⟨fun j hj => z j ((or_bit c t j).mpr (Or.inl hj)), z t ((or_bit c t t).mpr (Or.inr rfl))⟩
    · rintro ⟨z1, z2⟩ j hj
      rcases (or_bit c t j).mp hj with y | y
      · exact z1 j y
      · rw [y]; exact z2
  by_cases z : nd (c ||| 2 ^ t) (g i) = 0
  · rw [decide_eq_true z, (h2.mp z).1, (h2.mp z).2]; rfl
  · rw [decide_eq_false z]
    cases e1 : p.testBit i with
    | false => rfl
    | true =>
      cases e2 : (g i).testBit t with
      | false => rfl
      | true => exact absurd (h2.mpr ⟨e1, e2⟩) z
theorem tb255 (b : Nat) : (255 : Nat).testBit b = decide (b < 8) := Nat.testBit_two_pow_sub_one 8 b
theorem com255 {g : Nat → Nat} {n : Nat} (hn : n ≤ 8) : com g 255 n = cl g n 0 := by
  apply sub_eq
  · intro b hb
    rw [com_bit] at hb
    rw [cl_bit]
    exact ⟨hb.1, fun i hi _ => hb.2 i hi (by rw [tb255, decide_eq_true (by omega)])⟩
  · intro b hb
    rw [cl_bit] at hb
    rw [com_bit]
    exact ⟨hb.1, fun i hi _ => hb.2 i hi (fun j hj => by rw [Nat.zero_testBit] at hj; cases hj)⟩
theorem pop_all {a : Nat} : ∀ k, (∀ j, j < k → a.testBit j = true) → pop a k = k
  | 0, _ => rfl
  | k + 1, h => by
    unfold pop
    rw [pop_all k (fun j hj => h j (by omega)), h k (by omega)]
    rfl
theorem pop_le_mono (a : Nat) {j k : Nat} (h : j ≤ k) : pop a j ≤ pop a k := by
  induction k with
  | zero => rw [show j = 0 by omega]; exact Nat.le_refl _
  | succ k ih =>
    rcases Nat.lt_or_ge j (k + 1) with c | c
    · have := ih (by omega)
      show pop a j ≤ pop a k + (a.testBit k).toNat
      omega
    · rw [show j = k + 1 by omega]; exact Nat.le_refl _
theorem start_Al {g : Nat → Nat} {n : Nat} (hn : n ≤ 8) (h2 : 2 ≤ n) : Al g n (cl g n 0) := by
  refine cl_Al (by decide) ?_
  have h1 : pop (plc g n 0) n = n := pop_all n (fun j hj => plc_bit.mpr ⟨hj, fun i hi => by rw [Nat.zero_testBit] at hi; cases hi⟩)
  have := pop_le_mono (plc g n 0) hn
  omega
theorem no_Al {g : Nat → Nat} {n D : Nat} (h : n < 2) : ¬ Al g n D := fun z => by
  have := plc_pop g n D
  have := z.1
  omega
theorem last_of {α : Type} {l : List α} (h : 0 < l.length) : ∃ t q, l = t ++ [q] := ⟨l.dropLast, l.getLast (by intro e; rw [e] at h; simp at h), (List.dropLast_concat_getLast _).symm⟩
/-- the search's state -/
def iI (X : Nat → Nat → Nat) (f : Nat) (X' : Nat → Nat → Nat) (st : List (Nat × Nat)) (x : Nat → Nat) (r : Nat) : Prop := X' 1 = X 1 ∧ X' 2 = X 2 ∧ xHas X' st ∧ pE (gr X f) (X 1 f) (X' 4) st x ∧ (∀ D, D < 128 → X' 4 D = 1 → X' 5 D = plc (gr X f) (X 1 f) D) ∧ sumN (X' 4) 128 = r
theorem iI_pop {X X1 X2 X3 X4 : Nat → Nat → Nat} {f r c y : Nat} {st : List (Nat × Nat)} (h : iI X f X1 (st ++ [(c, y)]) (fun _ => 0) r) (h2 : X2 = up2 X1 0 1 (X1 0 1 - 1)) (h3 : X3 = up2 X2 4 c 1) (h4 : X4 = up2 X3 5 c (plc (gr X f) (X 1 f) c)) : iI X f X4 st (fun D => ind (Tm (gr X f) (X 1 f) c y D ∧ D ≠ c)) (r + 1) ∧ c < 128 ∧ y ≤ 7 := by
  obtain ⟨a1, a2, a3, a4, a5, a6⟩ := h
  have hA := a4.2 (c, y) (by simp)
  have hc : c < 128 := hA.1.lt
  have k0 : X4 0 1 = X1 0 1 - 1 := by rw [h4, up2_k _ _ _ (by decide), h3, up2_k _ _ _ (by decide), h2, up2_s]
  have k1 : X4 1 = X1 1 := by rw [h4, up2_k _ _ _ (by decide), h3, up2_k _ _ _ (by decide), h2, up2_k _ _ _ (by decide)]
  have k2 : X4 2 = X1 2 := by rw [h4, up2_k _ _ _ (by decide), h3, up2_k _ _ _ (by decide), h2, up2_k _ _ _ (by decide)]
  have k6 : X4 6 = X1 6 := by rw [h4, up2_k _ _ _ (by decide), h3, up2_k _ _ _ (by decide), h2, up2_k _ _ _ (by decide)]
  have k7 : X4 7 = X1 7 := by rw [h4, up2_k _ _ _ (by decide), h3, up2_k _ _ _ (by decide), h2, up2_k _ _ _ (by decide)]
  have v1 : X4 4 c = 1 := by rw [h4, up2_k _ _ _ (by decide), h3, up2_s]
  have v2 : ∀ D, D ≠ c → X4 4 D = X1 4 D := fun D hD => by rw [h4, up2_k _ _ _ (by decide), h3, up2_n _ _ _ hD, h2, up2_k _ _ _ (by decide)]
  obtain ⟨b1, b2⟩ := pE_pop a4 v1 v2
  refine ⟨⟨k1.trans a1, k2.trans a2, xHas_pop a3 k0 k6 k7, b1, fun D hD hv => ?_, ?_⟩, hc, hA.2⟩
  · by_cases e : D = c
    · subst e
      rw [h4, up2_s]
    · rw [v2 D e] at hv
      rw [h4, up2_n _ _ _ e, h3, up2_k _ _ _ (by decide), h2, up2_k _ _ _ (by decide)]
      exact a5 D hD hv
  · rw [sumN_one b2 v1 v2, if_pos hc, a6]
theorem iI_y {X X1 X2 : Nat → Nat → Nat} {f r c b : Nat} {st : List (Nat × Nat)} (hc : c < 128) (hb : b < 7) (hv : vld (gr X f) (X 1 f) c b) (h : iI X f X1 st (fun D => ind (Tm (gr X f) (X 1 f) c b D ∧ D ≠ c)) r) (h2 : X2 = up2 (up2 (up2 X1 6 (X1 0 1) (cl (gr X f) (X 1 f) (c ||| 2 ^ b))) 7 (X1 0 1) (b + 1)) 0 1 (X1 0 1 + 1)) : iI X f X2 (st ++ [(cl (gr X f) (X 1 f) (c ||| 2 ^ b), b + 1)]) (fun D => ind (Tm (gr X f) (X 1 f) c (b + 1) D ∧ D ≠ c)) r := by
  obtain ⟨a1, a2, a3, a4, a5, a6⟩ := h
  have k : ∀ i, i ≠ 0 → i ≠ 6 → i ≠ 7 → X2 i = X1 i := fun i i0 i6 i7 => by rw [h2, up2_k _ _ _ i0, up2_k _ _ _ i7, up2_k _ _ _ i6]
  refine ⟨(k 1 (by decide) (by decide) (by decide)).trans a1, (k 2 (by decide) (by decide) (by decide)).trans a2, xHas_push a3 h2, ?_, ?_, ?_⟩
  · rw [k 4 (by decide) (by decide) (by decide)]
    exact pE_y hc hb hv a4
  · rw [k 4 (by decide) (by decide) (by decide), k 5 (by decide) (by decide) (by decide)]
    exact a5
  · rw [k 4 (by decide) (by decide) (by decide)]
    exact a6
theorem iI_n {X X1 : Nat → Nat → Nat} {f r c b : Nat} {st : List (Nat × Nat)} (hc : c < 128) (hb : b < 7) (hv : ¬ vld (gr X f) (X 1 f) c b) (h : iI X f X1 st (fun D => ind (Tm (gr X f) (X 1 f) c b D ∧ D ≠ c)) r) : iI X f X1 st (fun D => ind (Tm (gr X f) (X 1 f) c (b + 1) D ∧ D ≠ c)) r :=
  ⟨h.1, h.2.1, h.2.2.1, pE_n hc hb hv h.2.2.2.1, h.2.2.2.2⟩
theorem iI_room {X X1 : Nat → Nat → Nat} {f r c b : Nat} {st : List (Nat × Nat)} (hc : c < 128) (hb : b < 7) (h : iI X f X1 st (fun D => ind (Tm (gr X f) (X 1 f) c b D ∧ D ≠ c)) r) (hv : vld (gr X f) (X 1 f) c b) : X1 0 1 < 128 := by
  have h1 := pE_le (pE_y hc hb hv h.2.2.2.1)
  rw [h.2.2.1.1]
  simp at h1
  omega
/-- what explore leaves -/
def exP (X : Nat → Nat → Nat) (f : Nat) (X' : Nat → Nat → Nat) : Prop := X' 1 = X 1 ∧ X' 2 = X 2 ∧ (∀ D, D < 128 → X' 4 D = ind (Al (gr X f) (X 1 f) D)) ∧ ∀ D, D < 128 → Al (gr X f) (X 1 f) D → X' 5 D = plc (gr X f) (X 1 f) D
theorem iI_end {X X' : Nat → Nat → Nat} {f r : Nat} {st : List (Nat × Nat)} (h : iI X f X' st (fun _ => 0) r) (hs : st.length = 0) : exP X f X' := by
  have : st = [] := List.eq_nil_of_length_eq_zero hs
  subst this
  refine ⟨h.1, h.2.1, fun D hD => pE_end h.2.2.2.1 hD, fun D hD hA => h.2.2.2.2.1 D hD ?_⟩
  rw [pE_end h.2.2.2.1 hD, ind_t hA]
theorem iI_full {X X' : Nat → Nat → Nat} {f r : Nat} {st : List (Nat × Nat)} {x : Nat → Nat} (h : iI X f X' st x r) : r + st.length ≤ 128 := by
  have := pE_le h.2.2.2.1
  rw [h.2.2.2.2.2] at this
  exact this
end
section
/-! the desk: the search for closed cubes -/

theorem dX0_goOn_0 : decode cX0_goOn 0 = .ok (.iload_n 2, 1) := by decide +kernel
theorem dX0_goOn_1 : decode cX0_goOn 1 = .ok (.iload 4, 2) := by decide +kernel
theorem dX0_goOn_3 : decode cX0_goOn 3 = .ok (.invokestatic 72, 3) := by decide +kernel
theorem dX0_goOn_6 : decode cX0_goOn 6 = .ok (.ifCond .eq 4, 3) := by decide +kernel
theorem dX0_goOn_9 : decode cX0_goOn 9 = .ok (.return_, 1) := by decide +kernel
theorem dX0_goOn_10 : decode cX0_goOn 10 = .ok (.iconst 0, 1) := by decide +kernel
theorem dX0_goOn_11 : decode cX0_goOn 11 = .ok (.istore 5, 2) := by decide +kernel
theorem dX0_goOn_13 : decode cX0_goOn 13 = .ok (.iconst 0, 1) := by decide +kernel
theorem dX0_goOn_14 : decode cX0_goOn 14 = .ok (.istore 6, 2) := by decide +kernel
theorem dX0_goOn_16 : decode cX0_goOn 16 = .ok (.iload 6, 2) := by decide +kernel
theorem dX0_goOn_18 : decode cX0_goOn 18 = .ok (.aload_n 0, 1) := by decide +kernel
theorem dX0_goOn_19 : decode cX0_goOn 19 = .ok (.getfield 7, 3) := by decide +kernel
theorem dX0_goOn_22 : decode cX0_goOn 22 = .ok (.iload_n 1, 1) := by decide +kernel
theorem dX0_goOn_23 : decode cX0_goOn 23 = .ok (.baload, 1) := by decide +kernel
theorem dX0_goOn_24 : decode cX0_goOn 24 = .ok (.if_icmp .ge 51, 3) := by decide +kernel
theorem dX0_goOn_27 : decode cX0_goOn 27 = .ok (.iload 5, 2) := by decide +kernel
theorem dX0_goOn_29 : decode cX0_goOn 29 = .ok (.iload_n 3, 1) := by decide +kernel
theorem dX0_goOn_30 : decode cX0_goOn 30 = .ok (.iload 6, 2) := by decide +kernel
theorem dX0_goOn_32 : decode cX0_goOn 32 = .ok (.invokestatic 72, 3) := by decide +kernel
theorem dX0_goOn_35 : decode cX0_goOn 35 = .ok (.ifCond .eq 30, 3) := by decide +kernel
theorem dX0_goOn_38 : decode cX0_goOn 38 = .ok (.aload_n 0, 1) := by decide +kernel
theorem dX0_goOn_39 : decode cX0_goOn 39 = .ok (.getfield 13, 3) := by decide +kernel
theorem dX0_goOn_42 : decode cX0_goOn 42 = .ok (.iload_n 1, 1) := by decide +kernel
theorem dX0_goOn_43 : decode cX0_goOn 43 = .ok (.bipush 8, 2) := by decide +kernel
theorem dX0_goOn_45 : decode cX0_goOn 45 = .ok (.imul, 1) := by decide +kernel
theorem dX0_goOn_46 : decode cX0_goOn 46 = .ok (.iload 6, 2) := by decide +kernel
theorem dX0_goOn_48 : decode cX0_goOn 48 = .ok (.iadd, 1) := by decide +kernel
theorem dX0_goOn_49 : decode cX0_goOn 49 = .ok (.baload, 1) := by decide +kernel
theorem dX0_goOn_50 : decode cX0_goOn 50 = .ok (.iload 4, 2) := by decide +kernel
theorem dX0_goOn_52 : decode cX0_goOn 52 = .ok (.invokestatic 72, 3) := by decide +kernel
theorem dX0_goOn_55 : decode cX0_goOn 55 = .ok (.ifCond .eq 10, 3) := by decide +kernel
theorem dX0_goOn_58 : decode cX0_goOn 58 = .ok (.iconst 1, 1) := by decide +kernel
theorem dX0_goOn_59 : decode cX0_goOn 59 = .ok (.iload 6, 2) := by decide +kernel
theorem dX0_goOn_61 : decode cX0_goOn 61 = .ok (.ishl, 1) := by decide +kernel
theorem dX0_goOn_62 : decode cX0_goOn 62 = .ok (.goto 4, 3) := by decide +kernel
theorem dX0_goOn_65 : decode cX0_goOn 65 = .ok (.iconst 0, 1) := by decide +kernel
theorem dX0_goOn_66 : decode cX0_goOn 66 = .ok (.ior, 1) := by decide +kernel
theorem dX0_goOn_67 : decode cX0_goOn 67 = .ok (.istore 5, 2) := by decide +kernel
theorem dX0_goOn_69 : decode cX0_goOn 69 = .ok (.iinc 6 1, 3) := by decide +kernel
theorem dX0_goOn_72 : decode cX0_goOn 72 = .ok (.goto (-56), 3) := by decide +kernel
theorem dX0_goOn_75 : decode cX0_goOn 75 = .ok (.iload 5, 2) := by decide +kernel
theorem dX0_goOn_77 : decode cX0_goOn 77 = .ok (.invokestatic 88, 3) := by decide +kernel
theorem dX0_goOn_80 : decode cX0_goOn 80 = .ok (.iconst 2, 1) := by decide +kernel
theorem dX0_goOn_81 : decode cX0_goOn 81 = .ok (.if_icmp .ge 4, 3) := by decide +kernel
theorem dX0_goOn_84 : decode cX0_goOn 84 = .ok (.return_, 1) := by decide +kernel
theorem dX0_goOn_85 : decode cX0_goOn 85 = .ok (.aload_n 0, 1) := by decide +kernel
theorem dX0_goOn_86 : decode cX0_goOn 86 = .ok (.iload_n 1, 1) := by decide +kernel
theorem dX0_goOn_87 : decode cX0_goOn 87 = .ok (.iload 5, 2) := by decide +kernel
theorem dX0_goOn_89 : decode cX0_goOn 89 = .ok (.invokevirtual 78, 3) := by decide +kernel
theorem dX0_goOn_92 : decode cX0_goOn 92 = .ok (.istore 6, 2) := by decide +kernel
theorem dX0_goOn_94 : decode cX0_goOn 94 = .ok (.iconst 1, 1) := by decide +kernel
theorem dX0_goOn_95 : decode cX0_goOn 95 = .ok (.iload 4, 2) := by decide +kernel
theorem dX0_goOn_97 : decode cX0_goOn 97 = .ok (.ishl, 1) := by decide +kernel
theorem dX0_goOn_98 : decode cX0_goOn 98 = .ok (.iconst 1, 1) := by decide +kernel
theorem dX0_goOn_99 : decode cX0_goOn 99 = .ok (.isub, 1) := by decide +kernel
theorem dX0_goOn_100 : decode cX0_goOn 100 = .ok (.istore 7, 2) := by decide +kernel
theorem dX0_goOn_102 : decode cX0_goOn 102 = .ok (.iload 6, 2) := by decide +kernel
theorem dX0_goOn_104 : decode cX0_goOn 104 = .ok (.iload_n 2, 1) := by decide +kernel
theorem dX0_goOn_105 : decode cX0_goOn 105 = .ok (.iconst (-1), 1) := by decide +kernel
theorem dX0_goOn_106 : decode cX0_goOn 106 = .ok (.ixor, 1) := by decide +kernel
theorem dX0_goOn_107 : decode cX0_goOn 107 = .ok (.iand, 1) := by decide +kernel
theorem dX0_goOn_108 : decode cX0_goOn 108 = .ok (.iload 7, 2) := by decide +kernel
theorem dX0_goOn_110 : decode cX0_goOn 110 = .ok (.iand, 1) := by decide +kernel
theorem dX0_goOn_111 : decode cX0_goOn 111 = .ok (.ifCond .ne 13, 3) := by decide +kernel
theorem dX0_goOn_114 : decode cX0_goOn 114 = .ok (.aload_n 0, 1) := by decide +kernel
theorem dX0_goOn_115 : decode cX0_goOn 115 = .ok (.iload 6, 2) := by decide +kernel
theorem dX0_goOn_117 : decode cX0_goOn 117 = .ok (.iload 4, 2) := by decide +kernel
theorem dX0_goOn_119 : decode cX0_goOn 119 = .ok (.iconst 1, 1) := by decide +kernel
theorem dX0_goOn_120 : decode cX0_goOn 120 = .ok (.iadd, 1) := by decide +kernel
theorem dX0_goOn_121 : decode cX0_goOn 121 = .ok (.invokevirtual 94, 3) := by decide +kernel
theorem dX0_goOn_124 : decode cX0_goOn 124 = .ok (.return_, 1) := by decide +kernel
set_option maxRecDepth 100000 in
set_option maxHeartbeats 4000000 in
theorem met_goOn (l : Launch) (Y : dL) (X : Nat → Nat → Nat) (f c p t : Nat) (hf : f < 4) (hG0 : Good X) (hc : c < 128) (hp : p = plc (gr X f) (X 1 f) c) (ht : t < 7) (hw : vld (gr X f) (X 1 f) c t → X 0 1 < 128) : dMv l yX0_goOn cX0_goOn 8 3 Y [.int (nI f), .int (nI c), .int (nI p), .int (nI t)] X (fun X' => (¬ vld (gr X f) (X 1 f) c t ∧ X' = X) ∨ (vld (gr X f) (X 1 f) c t ∧ X' = up2 (up2 (up2 X 6 (X 0 1) (cl (gr X f) (X 1 f) (c ||| 2 ^ t))) 7 (X 0 1) (t + 1)) 0 1 (X 0 1 + 1))) := by
  refine d_ofv (own := RX0) rfl (by decide) (Nat.le_of_ble_eq_true rfl) (by simp [lcat, Value.category]) ?_
  intro G hG ret
  obtain ⟨hs, hcc, hss⟩ := hG0 f hf
  have hpl : p < 256 := by rw [hp]; exact plc_lt hs
  have hql : plc (gr X f) (X 1 f) (c ||| 2 ^ t) < 256 := plc_lt hs
  have hnl := cl_lt (gr X f) (X 1 f) (c ||| 2 ^ t)
  have hnd := nd_le (cl (gr X f) (X 1 f) (c ||| 2 ^ t)) c
  have hpo := plc_pop (gr X f) (X 1 f) (c ||| 2 ^ t)
  have loop : c.testBit t = false → ∀ i, i ≤ X 1 f → J cX0_goOn 8 RX0 G (dV G Y (dA Y) X) 16 [.ref (Y.2.1 0), .int (nI f), .int (nI c), .int (nI p), .int (nI t), .int (nI (bitsOf (fun i => p.testBit i && (gr X f i).testBit t) i)), .int (nI i)] [] := by
    intro h6
    refine up_loop _ (X 1 f) ?_ (fun i hi ih => ?_)
    · skip
      refine j_iload (pc := 16) dX0_goOn_16 rfl ?_
      refine j_aload_n (pc := 18) (i := 0) dX0_goOn_18 rfl rfl ?_
      refine d_get_sizes (pc := 19) dX0_goOn_19 ?_
      refine j_iload_n (pc := 22) (i := 1) dX0_goOn_22 rfl rfl ?_
      refine d_ld_sizes (pc := 23) dX0_goOn_23 (by omega) ?_
      refine n_icmp_ge (pc := 24) (tgt := 75) dX0_goOn_24 (by decide) (by omega) (fun h24 => ?_) (fun h24 => ?_)
      · skip
        rw [few_eq hp]
        refine j_iload (pc := 75) dX0_goOn_75 rfl ?_
        refine s_calli (pc := 77) (st := []) (met_ones (kl G) Y.1 (plc (gr X f) (X 1 f) (c ||| 2 ^ t)) (by omega)) hG (by decide) dX0_goOn_77 cpD_X0_ones (Nat.le_of_ble_eq_true rfl) rfl (fun r77 hr77 => ?_)
        subst hr77
        refine j_iconst (pc := 80) (v := nI 2) dX0_goOn_80 (by decide) ?_
        refine n_icmp_ge (pc := 81) (tgt := 85) dX0_goOn_81 (by decide) (by omega) (fun h81 => ?_) (fun h81 => ?_)
        · skip
          refine j_aload_n (pc := 85) (i := 0) dX0_goOn_85 rfl rfl ?_
          refine j_iload_n (pc := 86) (i := 1) dX0_goOn_86 rfl rfl ?_
          refine j_iload (pc := 87) dX0_goOn_87 rfl ?_
          refine d_calli (pc := 89) (st := []) (met_commonAt (kl G) Y X f (plc (gr X f) (X 1 f) (c ||| 2 ^ t)) hf hs (by omega)) hG (by decide) dX0_goOn_89 cpD_X0_commonAt (Nat.le_of_ble_eq_true rfl) rfl (fun r89 X89 hr89 => ?_)
          obtain ⟨hE89, hr89⟩ := hr89
          rw [hE89]
          change r89 = nI (cl (gr X f) (X 1 f) (c ||| 2 ^ t)) at hr89
          subst hr89
          refine j_istore (pc := 92) (i := 6) (lv' := [.ref (Y.2.1 0), .int (nI f), .int (nI c), .int (nI p), .int (nI t), .int (nI (plc (gr X f) (X 1 f) (c ||| 2 ^ t))), .int (nI (cl (gr X f) (X 1 f) (c ||| 2 ^ t)))]) dX0_goOn_92 rfl ⟨(Nat.le_of_ble_eq_true rfl), (Nat.le_of_ble_eq_true rfl)⟩ ?_
          refine j_iconst (pc := 94) (v := nI 1) dX0_goOn_94 (by decide) ?_
          refine j_iload (pc := 95) dX0_goOn_95 rfl ?_
          refine n_shl1 (pc := 97) dX0_goOn_97 (by omega) ?_
          refine j_iconst (pc := 98) (v := nI 1) dX0_goOn_98 (by decide) ?_
          refine n_isub (pc := 99) dX0_goOn_99 Nat.one_le_two_pow ?_
          refine j_istore (pc := 100) (i := 7) (lv' := [.ref (Y.2.1 0), .int (nI f), .int (nI c), .int (nI p), .int (nI t), .int (nI (plc (gr X f) (X 1 f) (c ||| 2 ^ t))), .int (nI (cl (gr X f) (X 1 f) (c ||| 2 ^ t))), .int (nI ((2 ^ t) - 1))]) dX0_goOn_100 rfl ⟨(Nat.le_of_ble_eq_true rfl), (Nat.le_of_ble_eq_true rfl)⟩ ?_
          refine j_iload (pc := 102) dX0_goOn_102 rfl ?_
          refine j_iload_n (pc := 104) (i := 2) dX0_goOn_104 rfl rfl ?_
          refine n_andn (pc := 105) dX0_goOn_105 dX0_goOn_106 dX0_goOn_107 ?_
          refine j_iload (pc := 108) dX0_goOn_108 rfl ?_
          refine n_iand (pc := 110) dX0_goOn_110 ?_
          refine n_if_ne (pc := 111) (tgt := 124) dX0_goOn_111 (by decide) (Nat.lt_of_le_of_lt Nat.and_le_left (by omega)) (fun h111 => ?_) (fun h111 => ?_)
          · skip
            exact ret _ _ _ dX0_goOn_124 (Or.inl ⟨fun z => h111 z.2.2, rfl⟩)
          · skip
            refine j_aload_n (pc := 114) (i := 0) dX0_goOn_114 rfl rfl ?_
            refine j_iload (pc := 115) dX0_goOn_115 rfl ?_
            refine j_iload (pc := 117) dX0_goOn_117 rfl ?_
            refine j_iconst (pc := 119) (v := nI 1) dX0_goOn_119 (by decide) ?_
            refine n_iadd (pc := 120) dX0_goOn_120 ?_
            refine d_callv (pc := 121) (st := []) (met_defer (kl G) Y X (cl (gr X f) (X 1 f) (c ||| 2 ^ t)) (t + 1) hnl (by omega) (hw ⟨h6, h81, h111⟩)) hG (by decide) dX0_goOn_121 cpD_X0_defer (Nat.le_of_ble_eq_true rfl) rfl (fun X121 hr121 => ?_)
            exact ret _ _ _ dX0_goOn_124 (Or.inr ⟨⟨h6, h81, h111⟩, hr121⟩)
        · skip
          exact ret _ _ _ dX0_goOn_84 (Or.inl ⟨fun z => absurd z.2.1 (by omega), rfl⟩)
      · skip
        exact absurd h24 (by omega)
    · skip
      have hci : X 2 (f * 8 + i) < 128 := hcc i hi
      refine j_iload (pc := 16) dX0_goOn_16 rfl ?_
      refine j_aload_n (pc := 18) (i := 0) dX0_goOn_18 rfl rfl ?_
      refine d_get_sizes (pc := 19) dX0_goOn_19 ?_
      refine j_iload_n (pc := 22) (i := 1) dX0_goOn_22 rfl rfl ?_
      refine d_ld_sizes (pc := 23) dX0_goOn_23 (by omega) ?_
      refine n_icmp_ge (pc := 24) (tgt := 75) dX0_goOn_24 (by decide) (by omega) (fun h24 => ?_) (fun h24 => ?_)
      · skip
        exact absurd h24 (by omega)
      · skip
        refine j_iload (pc := 27) dX0_goOn_27 rfl ?_
        refine j_iload_n (pc := 29) (i := 3) dX0_goOn_29 rfl rfl ?_
        refine j_iload (pc := 30) dX0_goOn_30 rfl ?_
        refine s_calli (pc := 32) (st := [.int (nI (bitsOf (fun i => p.testBit i && (gr X f i).testBit t) i))]) (met_in (kl G) Y.1 p i (by omega) (by omega)) hG (by decide) dX0_goOn_32 cpD_X0_in (Nat.le_of_ble_eq_true rfl) rfl (fun r32 hr32 => ?_)
        subst hr32
        refine b_if_eq (pc := 35) (tgt := 65) dX0_goOn_35 (by decide) (fun h35 => ?_) (fun h35 => ?_)
        · skip
          refine j_iconst (pc := 65) (v := nI 0) dX0_goOn_65 (by decide) ?_
          refine n_ior (pc := 66) dX0_goOn_66 ?_
          refine j_istore (pc := 67) (i := 5) (lv' := [.ref (Y.2.1 0), .int (nI f), .int (nI c), .int (nI p), .int (nI t), .int (nI ((bitsOf (fun i => p.testBit i && (gr X f i).testBit t) i) ||| 0)), .int (nI i)]) dX0_goOn_67 rfl ⟨(Nat.le_of_ble_eq_true rfl), (Nat.le_of_ble_eq_true rfl)⟩ ?_
          refine n_iinc (pc := 69) (n := 1) (lv' := [.ref (Y.2.1 0), .int (nI f), .int (nI c), .int (nI p), .int (nI t), .int (nI ((bitsOf (fun i => p.testBit i && (gr X f i).testBit t) i) ||| 0)), .int (nI (i + 1))]) dX0_goOn_69 rfl rfl (Nat.le_of_ble_eq_true rfl) ?_
          refine j_goto (pc := 72) (tgt := 16) dX0_goOn_72 (by decide) ?_
          rw [show (bitsOf (fun i => p.testBit i && (gr X f i).testBit t) i) ||| 0 = bitsOf (fun i => p.testBit i && (gr X f i).testBit t) (i + 1) by
            show _ = bitsOf _ i ||| (if (p.testBit i && (X 2 (f * 8 + i)).testBit t) = true then 2 ^ i else 0)
            first | (rw [h35, h55]; rfl) | (rw [h35]; rfl)]
          exact ih
        · skip
          refine j_aload_n (pc := 38) (i := 0) dX0_goOn_38 rfl rfl ?_
          refine d_get_cubes (pc := 39) dX0_goOn_39 ?_
          refine j_iload_n (pc := 42) (i := 1) dX0_goOn_42 rfl rfl ?_
          refine j_bipush (pc := 43) (v := nI 8) dX0_goOn_43 (by decide) ?_
          refine n_imul (pc := 45) dX0_goOn_45 ?_
          refine j_iload (pc := 46) dX0_goOn_46 rfl ?_
          refine n_iadd (pc := 48) dX0_goOn_48 ?_
          refine d_ld_cubes (pc := 49) dX0_goOn_49 (by omega) ?_
          refine j_iload (pc := 50) dX0_goOn_50 rfl ?_
          refine s_calli (pc := 52) (st := [.int (nI (bitsOf (fun i => p.testBit i && (gr X f i).testBit t) i))]) (met_in (kl G) Y.1 (X 2 ((f * 8) + i)) t (by omega) (by omega)) hG (by decide) dX0_goOn_52 cpD_X0_in (Nat.le_of_ble_eq_true rfl) rfl (fun r52 hr52 => ?_)
          subst hr52
          refine b_if_eq (pc := 55) (tgt := 65) dX0_goOn_55 (by decide) (fun h55 => ?_) (fun h55 => ?_)
          · skip
            refine j_iconst (pc := 65) (v := nI 0) dX0_goOn_65 (by decide) ?_
            refine n_ior (pc := 66) dX0_goOn_66 ?_
            refine j_istore (pc := 67) (i := 5) (lv' := [.ref (Y.2.1 0), .int (nI f), .int (nI c), .int (nI p), .int (nI t), .int (nI ((bitsOf (fun i => p.testBit i && (gr X f i).testBit t) i) ||| 0)), .int (nI i)]) dX0_goOn_67 rfl ⟨(Nat.le_of_ble_eq_true rfl), (Nat.le_of_ble_eq_true rfl)⟩ ?_
            refine n_iinc (pc := 69) (n := 1) (lv' := [.ref (Y.2.1 0), .int (nI f), .int (nI c), .int (nI p), .int (nI t), .int (nI ((bitsOf (fun i => p.testBit i && (gr X f i).testBit t) i) ||| 0)), .int (nI (i + 1))]) dX0_goOn_69 rfl rfl (Nat.le_of_ble_eq_true rfl) ?_
            refine j_goto (pc := 72) (tgt := 16) dX0_goOn_72 (by decide) ?_
            rw [show (bitsOf (fun i => p.testBit i && (gr X f i).testBit t) i) ||| 0 = bitsOf (fun i => p.testBit i && (gr X f i).testBit t) (i + 1) by
              show _ = bitsOf _ i ||| (if (p.testBit i && (X 2 (f * 8 + i)).testBit t) = true then 2 ^ i else 0)
              first | (rw [h35, h55]; rfl) | (rw [h35]; rfl)]
            exact ih
          · skip
            refine j_iconst (pc := 58) (v := nI 1) dX0_goOn_58 (by decide) ?_
            refine j_iload (pc := 59) dX0_goOn_59 rfl ?_
            refine n_shl1 (pc := 61) dX0_goOn_61 (by omega) ?_
            refine j_goto (pc := 62) (tgt := 66) dX0_goOn_62 (by decide) ?_
            refine n_ior (pc := 66) dX0_goOn_66 ?_
            refine j_istore (pc := 67) (i := 5) (lv' := [.ref (Y.2.1 0), .int (nI f), .int (nI c), .int (nI p), .int (nI t), .int (nI ((bitsOf (fun i => p.testBit i && (gr X f i).testBit t) i) ||| (2 ^ i))), .int (nI i)]) dX0_goOn_67 rfl ⟨(Nat.le_of_ble_eq_true rfl), (Nat.le_of_ble_eq_true rfl)⟩ ?_
            refine n_iinc (pc := 69) (n := 1) (lv' := [.ref (Y.2.1 0), .int (nI f), .int (nI c), .int (nI p), .int (nI t), .int (nI ((bitsOf (fun i => p.testBit i && (gr X f i).testBit t) i) ||| (2 ^ i))), .int (nI (i + 1))]) dX0_goOn_69 rfl rfl (Nat.le_of_ble_eq_true rfl) ?_
            refine j_goto (pc := 72) (tgt := 16) dX0_goOn_72 (by decide) ?_
            rw [show (bitsOf (fun i => p.testBit i && (gr X f i).testBit t) i) ||| (2 ^ i) = bitsOf (fun i => p.testBit i && (gr X f i).testBit t) (i + 1) by
              show _ = bitsOf _ i ||| (if (p.testBit i && (X 2 (f * 8 + i)).testBit t) = true then 2 ^ i else 0)
              first | (rw [h35, h55]; rfl) | (rw [h35]; rfl)]
            exact ih
  refine j_iload_n (pc := 0) (i := 2) dX0_goOn_0 rfl rfl ?_
  refine j_iload (pc := 1) dX0_goOn_1 rfl ?_
  refine s_calli (pc := 3) (st := []) (met_in (kl G) Y.1 c t (by omega) (by omega)) hG (by decide) dX0_goOn_3 cpD_X0_in (Nat.le_of_ble_eq_true rfl) rfl (fun r3 hr3 => ?_)
  subst hr3
  refine b_if_eq (pc := 6) (tgt := 10) dX0_goOn_6 (by decide) (fun h6 => ?_) (fun h6 => ?_)
  · skip
    refine j_iconst (pc := 10) (v := nI 0) dX0_goOn_10 (by decide) ?_
    refine j_istore (pc := 11) (i := 5) (lv' := [.ref (Y.2.1 0), .int (nI f), .int (nI c), .int (nI p), .int (nI t), .int (nI 0)]) dX0_goOn_11 rfl ⟨(Nat.le_of_ble_eq_true rfl), (Nat.le_of_ble_eq_true rfl)⟩ ?_
    refine j_iconst (pc := 13) (v := nI 0) dX0_goOn_13 (by decide) ?_
    refine j_istore (pc := 14) (i := 6) (lv' := [.ref (Y.2.1 0), .int (nI f), .int (nI c), .int (nI p), .int (nI t), .int (nI 0), .int (nI 0)]) dX0_goOn_14 rfl ⟨(Nat.le_of_ble_eq_true rfl), (Nat.le_of_ble_eq_true rfl)⟩ ?_
    exact loop h6 0 (Nat.zero_le _)
  · skip
    exact ret _ _ _ dX0_goOn_9 (Or.inl ⟨fun z => absurd (z.1.symm.trans h6) (by decide), rfl⟩)

theorem dX0_explore_0 : decode cX0_explore 0 = .ok (.iconst 0, 1) := by decide +kernel
theorem dX0_explore_1 : decode cX0_explore 1 = .ok (.istore_n 2, 1) := by decide +kernel
theorem dX0_explore_2 : decode cX0_explore 2 = .ok (.iload_n 2, 1) := by decide +kernel
theorem dX0_explore_3 : decode cX0_explore 3 = .ok (.sipush 128, 3) := by decide +kernel
theorem dX0_explore_6 : decode cX0_explore 6 = .ok (.if_icmp .ge 16, 3) := by decide +kernel
theorem dX0_explore_9 : decode cX0_explore 9 = .ok (.aload_n 0, 1) := by decide +kernel
theorem dX0_explore_10 : decode cX0_explore 10 = .ok (.getfield 19, 3) := by decide +kernel
theorem dX0_explore_13 : decode cX0_explore 13 = .ok (.iload_n 2, 1) := by decide +kernel
theorem dX0_explore_14 : decode cX0_explore 14 = .ok (.iconst 0, 1) := by decide +kernel
theorem dX0_explore_15 : decode cX0_explore 15 = .ok (.bastore, 1) := by decide +kernel
theorem dX0_explore_16 : decode cX0_explore 16 = .ok (.iinc 2 1, 3) := by decide +kernel
theorem dX0_explore_19 : decode cX0_explore 19 = .ok (.goto (-17), 3) := by decide +kernel
theorem dX0_explore_22 : decode cX0_explore 22 = .ok (.aload_n 0, 1) := by decide +kernel
theorem dX0_explore_23 : decode cX0_explore 23 = .ok (.iconst 0, 1) := by decide +kernel
theorem dX0_explore_24 : decode cX0_explore 24 = .ok (.putfield 91, 3) := by decide +kernel
theorem dX0_explore_27 : decode cX0_explore 27 = .ok (.aload_n 0, 1) := by decide +kernel
theorem dX0_explore_28 : decode cX0_explore 28 = .ok (.getfield 7, 3) := by decide +kernel
theorem dX0_explore_31 : decode cX0_explore 31 = .ok (.iload_n 1, 1) := by decide +kernel
theorem dX0_explore_32 : decode cX0_explore 32 = .ok (.baload, 1) := by decide +kernel
theorem dX0_explore_33 : decode cX0_explore 33 = .ok (.iconst 2, 1) := by decide +kernel
theorem dX0_explore_34 : decode cX0_explore 34 = .ok (.if_icmp .ge 4, 3) := by decide +kernel
theorem dX0_explore_37 : decode cX0_explore 37 = .ok (.return_, 1) := by decide +kernel
theorem dX0_explore_38 : decode cX0_explore 38 = .ok (.aload_n 0, 1) := by decide +kernel
theorem dX0_explore_39 : decode cX0_explore 39 = .ok (.iload_n 1, 1) := by decide +kernel
theorem dX0_explore_40 : decode cX0_explore 40 = .ok (.sipush 255, 3) := by decide +kernel
theorem dX0_explore_43 : decode cX0_explore 43 = .ok (.invokevirtual 78, 3) := by decide +kernel
theorem dX0_explore_46 : decode cX0_explore 46 = .ok (.istore_n 2, 1) := by decide +kernel
theorem dX0_explore_47 : decode cX0_explore 47 = .ok (.aload_n 0, 1) := by decide +kernel
theorem dX0_explore_48 : decode cX0_explore 48 = .ok (.iload_n 2, 1) := by decide +kernel
theorem dX0_explore_49 : decode cX0_explore 49 = .ok (.iconst 0, 1) := by decide +kernel
theorem dX0_explore_50 : decode cX0_explore 50 = .ok (.invokevirtual 94, 3) := by decide +kernel
theorem dX0_explore_53 : decode cX0_explore 53 = .ok (.iconst 0, 1) := by decide +kernel
theorem dX0_explore_54 : decode cX0_explore 54 = .ok (.istore_n 3, 1) := by decide +kernel
theorem dX0_explore_55 : decode cX0_explore 55 = .ok (.iload_n 3, 1) := by decide +kernel
theorem dX0_explore_56 : decode cX0_explore 56 = .ok (.sipush 128, 3) := by decide +kernel
theorem dX0_explore_59 : decode cX0_explore 59 = .ok (.if_icmp .ge 99, 3) := by decide +kernel
theorem dX0_explore_62 : decode cX0_explore 62 = .ok (.aload_n 0, 1) := by decide +kernel
theorem dX0_explore_63 : decode cX0_explore 63 = .ok (.getfield 91, 3) := by decide +kernel
theorem dX0_explore_66 : decode cX0_explore 66 = .ok (.ifCond .le 92, 3) := by decide +kernel
theorem dX0_explore_69 : decode cX0_explore 69 = .ok (.aload_n 0, 1) := by decide +kernel
theorem dX0_explore_70 : decode cX0_explore 70 = .ok (.dup, 1) := by decide +kernel
theorem dX0_explore_71 : decode cX0_explore 71 = .ok (.getfield 91, 3) := by decide +kernel
theorem dX0_explore_74 : decode cX0_explore 74 = .ok (.iconst 1, 1) := by decide +kernel
theorem dX0_explore_75 : decode cX0_explore 75 = .ok (.isub, 1) := by decide +kernel
theorem dX0_explore_76 : decode cX0_explore 76 = .ok (.putfield 91, 3) := by decide +kernel
theorem dX0_explore_79 : decode cX0_explore 79 = .ok (.aload_n 0, 1) := by decide +kernel
theorem dX0_explore_80 : decode cX0_explore 80 = .ok (.getfield 27, 3) := by decide +kernel
theorem dX0_explore_83 : decode cX0_explore 83 = .ok (.aload_n 0, 1) := by decide +kernel
theorem dX0_explore_84 : decode cX0_explore 84 = .ok (.getfield 91, 3) := by decide +kernel
theorem dX0_explore_87 : decode cX0_explore 87 = .ok (.baload, 1) := by decide +kernel
theorem dX0_explore_88 : decode cX0_explore 88 = .ok (.istore 4, 2) := by decide +kernel
theorem dX0_explore_90 : decode cX0_explore 90 = .ok (.aload_n 0, 1) := by decide +kernel
theorem dX0_explore_91 : decode cX0_explore 91 = .ok (.iload_n 1, 1) := by decide +kernel
theorem dX0_explore_92 : decode cX0_explore 92 = .ok (.iload 4, 2) := by decide +kernel
theorem dX0_explore_94 : decode cX0_explore 94 = .ok (.invokevirtual 97, 3) := by decide +kernel
theorem dX0_explore_97 : decode cX0_explore 97 = .ok (.istore 5, 2) := by decide +kernel
theorem dX0_explore_99 : decode cX0_explore 99 = .ok (.aload_n 0, 1) := by decide +kernel
theorem dX0_explore_100 : decode cX0_explore 100 = .ok (.getfield 19, 3) := by decide +kernel
theorem dX0_explore_103 : decode cX0_explore 103 = .ok (.iload 4, 2) := by decide +kernel
theorem dX0_explore_105 : decode cX0_explore 105 = .ok (.iconst 1, 1) := by decide +kernel
theorem dX0_explore_106 : decode cX0_explore 106 = .ok (.bastore, 1) := by decide +kernel
theorem dX0_explore_107 : decode cX0_explore 107 = .ok (.aload_n 0, 1) := by decide +kernel
theorem dX0_explore_108 : decode cX0_explore 108 = .ok (.getfield 23, 3) := by decide +kernel
theorem dX0_explore_111 : decode cX0_explore 111 = .ok (.iload 4, 2) := by decide +kernel
theorem dX0_explore_113 : decode cX0_explore 113 = .ok (.iload 5, 2) := by decide +kernel
theorem dX0_explore_115 : decode cX0_explore 115 = .ok (.i2s, 1) := by decide +kernel
theorem dX0_explore_116 : decode cX0_explore 116 = .ok (.sastore, 1) := by decide +kernel
theorem dX0_explore_117 : decode cX0_explore 117 = .ok (.aload_n 0, 1) := by decide +kernel
theorem dX0_explore_118 : decode cX0_explore 118 = .ok (.getfield 30, 3) := by decide +kernel
theorem dX0_explore_121 : decode cX0_explore 121 = .ok (.aload_n 0, 1) := by decide +kernel
theorem dX0_explore_122 : decode cX0_explore 122 = .ok (.getfield 91, 3) := by decide +kernel
theorem dX0_explore_125 : decode cX0_explore 125 = .ok (.baload, 1) := by decide +kernel
theorem dX0_explore_126 : decode cX0_explore 126 = .ok (.istore 6, 2) := by decide +kernel
theorem dX0_explore_128 : decode cX0_explore 128 = .ok (.iload 6, 2) := by decide +kernel
theorem dX0_explore_130 : decode cX0_explore 130 = .ok (.bipush 7, 2) := by decide +kernel
theorem dX0_explore_132 : decode cX0_explore 132 = .ok (.if_icmp .ge 20, 3) := by decide +kernel
theorem dX0_explore_135 : decode cX0_explore 135 = .ok (.aload_n 0, 1) := by decide +kernel
theorem dX0_explore_136 : decode cX0_explore 136 = .ok (.iload_n 1, 1) := by decide +kernel
theorem dX0_explore_137 : decode cX0_explore 137 = .ok (.iload 4, 2) := by decide +kernel
theorem dX0_explore_139 : decode cX0_explore 139 = .ok (.iload 5, 2) := by decide +kernel
theorem dX0_explore_141 : decode cX0_explore 141 = .ok (.iload 6, 2) := by decide +kernel
theorem dX0_explore_143 : decode cX0_explore 143 = .ok (.invokevirtual 100, 3) := by decide +kernel
theorem dX0_explore_146 : decode cX0_explore 146 = .ok (.iinc 6 1, 3) := by decide +kernel
theorem dX0_explore_149 : decode cX0_explore 149 = .ok (.goto (-21), 3) := by decide +kernel
theorem dX0_explore_152 : decode cX0_explore 152 = .ok (.iinc 3 1, 3) := by decide +kernel
theorem dX0_explore_155 : decode cX0_explore 155 = .ok (.goto (-100), 3) := by decide +kernel
theorem dX0_explore_158 : decode cX0_explore 158 = .ok (.return_, 1) := by decide +kernel
set_option maxRecDepth 100000 in
set_option maxHeartbeats 4000000 in
theorem met_explore (l : Launch) (Y : dL) (X : Nat → Nat → Nat) (f : Nat) (hf : f < 4) (hG0 : Good X) : dMv l yX0_explore cX0_explore 7 4 Y [.int (nI f)] X (exP X f) := by
  refine d_ofv (own := RX0) rfl (by decide) (Nat.le_of_ble_eq_true rfl) (by simp [lcat, Value.category]) ?_
  intro G hG ret
  obtain ⟨hs, hcc, hss⟩ := hG0 f hf
  have main : ∀ r, r ≤ 128 → ∀ X' st, iI X f X' st (fun _ => 0) r → J cX0_explore 7 RX0 G (dV G Y (dA Y) X') 55 [.ref (Y.2.1 0), .int (nI f), .int (nI (cl (gr X f) (X 1 f) 0)), .int (nI r)] [] := by
    refine up_loop _ 128 (fun X' st hI => ?_) (fun r hr ih X' st hI => ?_)
    · skip
      have hfu := iI_full hI
      refine j_iload_n (pc := 55) (i := 3) dX0_explore_55 rfl rfl ?_
      refine j_sipush (pc := 56) (v := nI 128) dX0_explore_56 (by decide) ?_
      refine n_icmp_ge (pc := 59) (tgt := 158) dX0_explore_59 (by decide) (by omega) (fun h59 => ?_) (fun h59 => ?_)
      · skip
        exact ret _ _ _ dX0_explore_158 (iI_end hI (by omega))
      · skip
        exact absurd h59 (by omega)
    · skip
      have hfu := iI_full hI
      have hw0 := hI.2.2.1.1
      refine j_iload_n (pc := 55) (i := 3) dX0_explore_55 rfl rfl ?_
      refine j_sipush (pc := 56) (v := nI 128) dX0_explore_56 (by decide) ?_
      refine n_icmp_ge (pc := 59) (tgt := 158) dX0_explore_59 (by decide) (by omega) (fun h59 => ?_) (fun h59 => ?_)
      · skip
        exact absurd h59 (by omega)
      · skip
        refine j_aload_n (pc := 62) (i := 0) dX0_explore_62 rfl rfl ?_
        refine d_get_waiting (pc := 63) dX0_explore_63 ?_
        refine n_if_le (pc := 66) (tgt := 158) dX0_explore_66 (by decide) (by omega) (fun h66 => ?_) (fun h66 => ?_)
        · skip
          exact ret _ _ _ dX0_explore_158 (iI_end hI (by omega))
        · skip
          obtain ⟨st, ⟨c, y⟩, rfl⟩ := last_of (l := st) (by omega)
          have htop := xHas_top hI.2.2.1
          refine j_aload_n (pc := 69) (i := 0) dX0_explore_69 rfl rfl ?_
          refine j_dup (pc := 70) dX0_explore_70 rfl ?_
          refine d_get_waiting (pc := 71) dX0_explore_71 ?_
          refine j_iconst (pc := 74) (v := nI 1) dX0_explore_74 (by decide) ?_
          refine n_isub (pc := 75) dX0_explore_75 (by omega) ?_
          refine d_put_waiting (pc := 76) dX0_explore_76 (fun X76 hX76 => ?_)
          have w76 : X76 0 1 = X' 0 1 - 1 := by rw [hX76, up2_s]
          have k1 : X76 1 = X 1 := by rw [hX76, up2_k _ _ _ (by decide)]; exact hI.1
          have k2 : X76 2 = X 2 := by rw [hX76, up2_k _ _ _ (by decide)]; exact hI.2.1
          have hgr : gr X76 f = gr X f := by unfold gr; rw [k2]
          have hc76 : X76 6 (X76 0 1) = c := by rw [w76, hX76, up2_k _ _ _ (by decide)]; exact htop.1
          have hcA := (hI.2.2.2.1.2 (c, y) (by simp)).1
          have hc : c < 128 := hcA.lt
          have hpl : plc (gr X f) (X 1 f) c < 256 := plc_lt hs
          have s76 : X76 1 f ≤ 8 := by rw [k1]; exact hs
          refine j_aload_n (pc := 79) (i := 0) dX0_explore_79 rfl rfl ?_
          refine d_get_waitCube (pc := 80) dX0_explore_80 ?_
          refine j_aload_n (pc := 83) (i := 0) dX0_explore_83 rfl rfl ?_
          refine d_get_waiting (pc := 84) dX0_explore_84 ?_
          refine d_ld_waitCube (pc := 87) dX0_explore_87 (by omega) ?_
          rw [hc76]
          refine j_istore (pc := 88) (i := 4) (lv' := [.ref (Y.2.1 0), .int (nI f), .int (nI (cl (gr X f) (X 1 f) 0)), .int (nI r), .int (nI c)]) dX0_explore_88 rfl ⟨(Nat.le_of_ble_eq_true rfl), (Nat.le_of_ble_eq_true rfl)⟩ ?_
          refine j_aload_n (pc := 90) (i := 0) dX0_explore_90 rfl rfl ?_
          refine j_iload_n (pc := 91) (i := 1) dX0_explore_91 rfl rfl ?_
          refine j_iload (pc := 92) dX0_explore_92 rfl ?_
          refine d_calli (pc := 94) (st := []) (met_placesOf (kl G) Y X76 f c hf s76 (by omega)) hG (by decide) dX0_explore_94 cpD_X0_placesOf (Nat.le_of_ble_eq_true rfl) rfl (fun r94 X94 hr94 => ?_)
          obtain ⟨hE94, hr94⟩ := hr94
          rw [hE94]
          rw [hgr, k1] at hr94
          change r94 = nI (plc (gr X f) (X 1 f) c) at hr94
          subst hr94
          refine j_istore (pc := 97) (i := 5) (lv' := [.ref (Y.2.1 0), .int (nI f), .int (nI (cl (gr X f) (X 1 f) 0)), .int (nI r), .int (nI c), .int (nI (plc (gr X f) (X 1 f) c))]) dX0_explore_97 rfl ⟨(Nat.le_of_ble_eq_true rfl), (Nat.le_of_ble_eq_true rfl)⟩ ?_
          refine j_aload_n (pc := 99) (i := 0) dX0_explore_99 rfl rfl ?_
          refine d_get_isCokernel (pc := 100) dX0_explore_100 ?_
          refine j_iload (pc := 103) dX0_explore_103 rfl ?_
          refine j_iconst (pc := 105) (v := nI 1) dX0_explore_105 (by decide) ?_
          refine d_st_isCokernel (pc := 106) dX0_explore_106 (by omega) (by omega) (fun X106 hX106 => ?_)
          refine j_aload_n (pc := 107) (i := 0) dX0_explore_107 rfl rfl ?_
          refine d_get_holders (pc := 108) dX0_explore_108 ?_
          refine j_iload (pc := 111) dX0_explore_111 rfl ?_
          refine j_iload (pc := 113) dX0_explore_113 rfl ?_
          refine n_i2s (pc := 115) dX0_explore_115 hpl ?_
          refine d_st_holders (pc := 116) dX0_explore_116 (by omega) hpl (fun X116 hX116 => ?_)
          obtain ⟨hI2, -, hy7⟩ := iI_pop hI hX76 hX106 hX116
          have w116 : X116 0 1 = X' 0 1 - 1 := by rw [hX116, up2_k _ _ _ (by decide), hX106, up2_k _ _ _ (by decide), hX76, up2_s]
          have hy : X116 7 (X116 0 1) = y := by rw [w116, hX116, up2_k _ _ _ (by decide), hX106, up2_k _ _ _ (by decide), hX76, up2_k _ _ _ (by decide)]; exact htop.2
          refine j_aload_n (pc := 117) (i := 0) dX0_explore_117 rfl rfl ?_
          refine d_get_waitLetter (pc := 118) dX0_explore_118 ?_
          refine j_aload_n (pc := 121) (i := 0) dX0_explore_121 rfl rfl ?_
          refine d_get_waiting (pc := 122) dX0_explore_122 ?_
          refine d_ld_waitLetter (pc := 125) dX0_explore_125 (by omega) ?_
          rw [hy]
          refine j_istore (pc := 126) (i := 6) (lv' := [.ref (Y.2.1 0), .int (nI f), .int (nI (cl (gr X f) (X 1 f) 0)), .int (nI r), .int (nI c), .int (nI (plc (gr X f) (X 1 f) c)), .int (nI y)]) dX0_explore_126 rfl ⟨(Nat.le_of_ble_eq_true rfl), (Nat.le_of_ble_eq_true rfl)⟩ ?_
          have inner : ∀ b, b ≤ 7 → ∀ X' st, iI X f X' st (fun D => ind (Tm (gr X f) (X 1 f) c b D ∧ D ≠ c)) (r + 1) → J cX0_explore 7 RX0 G (dV G Y (dA Y) X') 128 [.ref (Y.2.1 0), .int (nI f), .int (nI (cl (gr X f) (X 1 f) 0)), .int (nI r), .int (nI c), .int (nI (plc (gr X f) (X 1 f) c)), .int (nI b)] [] := by
            refine up_loop _ 7 (fun X' st hI => ?_) (fun b hb ihb X' st hI => ?_)
            · skip
              refine j_iload (pc := 128) dX0_explore_128 rfl ?_
              refine j_bipush (pc := 130) (v := nI 7) dX0_explore_130 (by decide) ?_
              refine n_icmp_ge (pc := 132) (tgt := 152) dX0_explore_132 (by decide) (by omega) (fun h132 => ?_) (fun h132 => ?_)
              · skip
                refine n_iinc (pc := 152) (n := 1) (lv' := [.ref (Y.2.1 0), .int (nI f), .int (nI (cl (gr X f) (X 1 f) 0)), .int (nI (r + 1)), .int (nI c), .int (nI (plc (gr X f) (X 1 f) c)), .int (nI 7)]) dX0_explore_152 rfl rfl (Nat.le_of_ble_eq_true rfl) ?_
                refine j_goto (pc := 155) (tgt := 55) dX0_explore_155 (by decide) ?_
                refine j_take 4 (lv' := [.ref (Y.2.1 0), .int (nI f), .int (nI (cl (gr X f) (X 1 f) 0)), .int (nI (r + 1))]) rfl ?_
                exact ih X' st ⟨hI.1, hI.2.1, hI.2.2.1, pE_7 hI.2.2.2.1, hI.2.2.2.2⟩
              · skip
                exact absurd h132 (by omega)
            · skip
              have j1 := hI.1
              have j2 := hI.2.1
              have jgr : gr X' f = gr X f := by unfold gr; rw [j2]
              refine j_iload (pc := 128) dX0_explore_128 rfl ?_
              refine j_bipush (pc := 130) (v := nI 7) dX0_explore_130 (by decide) ?_
              refine n_icmp_ge (pc := 132) (tgt := 152) dX0_explore_132 (by decide) (by omega) (fun h132 => ?_) (fun h132 => ?_)
              · skip
                exact absurd h132 (by omega)
              · skip
                refine j_aload_n (pc := 135) (i := 0) dX0_explore_135 rfl rfl ?_
                refine j_iload_n (pc := 136) (i := 1) dX0_explore_136 rfl rfl ?_
                refine j_iload (pc := 137) dX0_explore_137 rfl ?_
                refine j_iload (pc := 139) dX0_explore_139 rfl ?_
                refine j_iload (pc := 141) dX0_explore_141 rfl ?_
                refine d_callv (pc := 143) (st := []) (met_goOn (kl G) Y X' f c (plc (gr X f) (X 1 f) c) b hf (hG0.of j1 j2) hc (by rw [jgr, j1]) hb (by rw [jgr, j1]; exact iI_room hc hb hI)) hG (by decide) dX0_explore_143 cpD_X0_goOn (Nat.le_of_ble_eq_true rfl) rfl (fun X143 hr143 => ?_)
                rw [jgr, j1] at hr143
                rcases hr143 with ⟨hv, rfl⟩ | ⟨hv, hX143⟩
                · skip
                  skip
                  refine n_iinc (pc := 146) (n := 1) (lv' := [.ref (Y.2.1 0), .int (nI f), .int (nI (cl (gr X f) (X 1 f) 0)), .int (nI r), .int (nI c), .int (nI (plc (gr X f) (X 1 f) c)), .int (nI (b + 1))]) dX0_explore_146 rfl rfl (Nat.le_of_ble_eq_true rfl) ?_
                  refine j_goto (pc := 149) (tgt := 128) dX0_explore_149 (by decide) ?_
                  first | exact ihb X143 _ (iI_y hc hb hv hI hX143) | exact ihb X143 st (iI_n hc hb hv hI)
                · skip
                  skip
                  refine n_iinc (pc := 146) (n := 1) (lv' := [.ref (Y.2.1 0), .int (nI f), .int (nI (cl (gr X f) (X 1 f) 0)), .int (nI r), .int (nI c), .int (nI (plc (gr X f) (X 1 f) c)), .int (nI (b + 1))]) dX0_explore_146 rfl rfl (Nat.le_of_ble_eq_true rfl) ?_
                  refine j_goto (pc := 149) (tgt := 128) dX0_explore_149 (by decide) ?_
                  first | exact ihb X143 _ (iI_y hc hb hv hI hX143) | exact ihb X143 st (iI_n hc hb hv hI)
          exact inner y hy7 X116 st hI2
  have clear : ∀ i, i ≤ 128 → ∀ X', (∀ k, k ≠ 4 → X' k = X k) → (∀ j, j < i → X' 4 j = 0) → J cX0_explore 7 RX0 G (dV G Y (dA Y) X') 2 [.ref (Y.2.1 0), .int (nI f), .int (nI i)] [] := by
    refine up_loop _ 128 (fun X' hk hz => ?_) (fun i hi ih X' hk hz => ?_)
    · skip
      have k1 : X' 1 = X 1 := hk 1 (by decide)
      have k2 : X' 2 = X 2 := hk 2 (by decide)
      refine j_iload_n (pc := 2) (i := 2) dX0_explore_2 rfl rfl ?_
      refine j_sipush (pc := 3) (v := nI 128) dX0_explore_3 (by decide) ?_
      refine n_icmp_ge (pc := 6) (tgt := 22) dX0_explore_6 (by decide) (by omega) (fun h6 => ?_) (fun h6 => ?_)
      · skip
        refine j_aload_n (pc := 22) (i := 0) dX0_explore_22 rfl rfl ?_
        refine j_iconst (pc := 23) (v := nI 0) dX0_explore_23 (by decide) ?_
        refine d_put_waiting (pc := 24) dX0_explore_24 (fun X24 hX24 => ?_)
        have j1 : X24 1 = X 1 := by rw [hX24, up2_k _ _ _ (by decide)]; exact k1
        have j2 : X24 2 = X 2 := by rw [hX24, up2_k _ _ _ (by decide)]; exact k2
        have j4 : X24 4 = X' 4 := by rw [hX24, up2_k _ _ _ (by decide)]
        have s24 : X24 1 f ≤ 8 := by rw [j1]; exact hs
        have jgr : gr X24 f = gr X f := by unfold gr; rw [j2]
        have jw : X24 0 1 = 0 := by rw [hX24, up2_s]
        refine j_aload_n (pc := 27) (i := 0) dX0_explore_27 rfl rfl ?_
        refine d_get_sizes (pc := 28) dX0_explore_28 ?_
        refine j_iload_n (pc := 31) (i := 1) dX0_explore_31 rfl rfl ?_
        refine d_ld_sizes (pc := 32) dX0_explore_32 (by omega) ?_
        refine j_iconst (pc := 33) (v := nI 2) dX0_explore_33 (by decide) ?_
        refine n_icmp_ge (pc := 34) (tgt := 38) dX0_explore_34 (by decide) (by omega) (fun h34 => ?_) (fun h34 => ?_)
        · skip
          refine j_aload_n (pc := 38) (i := 0) dX0_explore_38 rfl rfl ?_
          refine j_iload_n (pc := 39) (i := 1) dX0_explore_39 rfl rfl ?_
          refine j_sipush (pc := 40) (v := nI 255) dX0_explore_40 (by decide) ?_
          refine d_calli (pc := 43) (st := []) (met_commonAt (kl G) Y X24 f 255 hf s24 (by decide)) hG (by decide) dX0_explore_43 cpD_X0_commonAt (Nat.le_of_ble_eq_true rfl) rfl (fun r43 X43 hr43 => ?_)
          obtain ⟨hE43, hr43⟩ := hr43
          rw [hE43]
          rw [jgr, j1, com255 hs] at hr43
          subst hr43
          refine j_istore_n (pc := 46) (i := 2) (lv' := [.ref (Y.2.1 0), .int (nI f), .int (nI (cl (gr X f) (X 1 f) 0))]) dX0_explore_46 rfl rfl ⟨(Nat.le_of_ble_eq_true rfl), (Nat.le_of_ble_eq_true rfl)⟩ ?_
          refine j_aload_n (pc := 47) (i := 0) dX0_explore_47 rfl rfl ?_
          refine j_iload_n (pc := 48) (i := 2) dX0_explore_48 rfl rfl ?_
          refine j_iconst (pc := 49) (v := nI 0) dX0_explore_49 (by decide) ?_
          refine d_callv (pc := 50) (st := []) (met_defer (kl G) Y X24 (cl (gr X f) (X 1 f) 0) 0 (cl_lt _ _ _) (by decide) (by omega)) hG (by decide) dX0_explore_50 cpD_X0_defer (Nat.le_of_ble_eq_true rfl) rfl (fun X50 hr50 => ?_)
          refine j_iconst (pc := 53) (v := nI 0) dX0_explore_53 (by decide) ?_
          refine j_istore_n (pc := 54) (i := 3) (lv' := [.ref (Y.2.1 0), .int (nI f), .int (nI (cl (gr X f) (X 1 f) 0)), .int (nI 0)]) dX0_explore_54 rfl rfl ⟨(Nat.le_of_ble_eq_true rfl), (Nat.le_of_ble_eq_true rfl)⟩ ?_
          rw [j1] at h34
          have kk : ∀ i, i ≠ 0 → i ≠ 6 → i ≠ 7 → X50 i = X24 i := fun i i0 i6 i7 => by rw [hr50, up2_k _ _ _ i0, up2_k _ _ _ i7, up2_k _ _ _ i6]
          have hxs : xHas X50 ([] ++ [(cl (gr X f) (X 1 f) 0, 0)]) := xHas_push (X := X24) ⟨jw, fun j hj => by simp at hj⟩ hr50
          have hz50 : ∀ D, D < 128 → X50 4 D = 0 := fun D hD => by rw [kk 4 (by decide) (by decide) (by decide), j4]; exact hz D hD
          refine main 0 (Nat.zero_le _) X50 [(cl (gr X f) (X 1 f) 0, 0)] ⟨(kk 1 (by decide) (by decide) (by decide)).trans j1, (kk 2 (by decide) (by decide) (by decide)).trans j2, hxs, pE_0 hz50 (start_Al hs h34), fun D hD h1 => ?_, ?_⟩
          · rw [hz50 D hD] at h1; cases h1
          · have h128 : ∀ n, n ≤ 128 → sumN (X50 4) n = 0 := by
              intro n
              induction n with
              | zero => intro _; rfl
              | succ n ih => intro hn; unfold sumN; rw [ih (by omega), hz50 n (by omega)]
            exact h128 128 (Nat.le_refl _)
        · skip
          exact ret _ _ _ dX0_explore_37 ⟨j1, j2, fun D hD => by rw [j4, hz D hD, ind_f (no_Al (by rw [← j1]; exact h34))], fun D hD hA => absurd hA (no_Al (by rw [← j1]; exact h34))⟩
      · skip
        exact absurd h6 (by omega)
    · skip
      refine j_iload_n (pc := 2) (i := 2) dX0_explore_2 rfl rfl ?_
      refine j_sipush (pc := 3) (v := nI 128) dX0_explore_3 (by decide) ?_
      refine n_icmp_ge (pc := 6) (tgt := 22) dX0_explore_6 (by decide) (by omega) (fun h6 => ?_) (fun h6 => ?_)
      · skip
        exact absurd h6 (by omega)
      · skip
        refine j_aload_n (pc := 9) (i := 0) dX0_explore_9 rfl rfl ?_
        refine d_get_isCokernel (pc := 10) dX0_explore_10 ?_
        refine j_iload_n (pc := 13) (i := 2) dX0_explore_13 rfl rfl ?_
        refine j_iconst (pc := 14) (v := nI 0) dX0_explore_14 (by decide) ?_
        refine d_st_isCokernel (pc := 15) dX0_explore_15 (by omega) (by omega) (fun X15 hX15 => ?_)
        refine n_iinc (pc := 16) (n := 1) (lv' := [.ref (Y.2.1 0), .int (nI f), .int (nI (i + 1))]) dX0_explore_16 rfl rfl (Nat.le_of_ble_eq_true rfl) ?_
        refine j_goto (pc := 19) (tgt := 2) dX0_explore_19 (by decide) ?_
        refine ih X15 (fun k hk4 => by rw [hX15, up2_k _ _ _ hk4]; exact hk k hk4) (fun j hj => ?_)
        rw [hX15]
        by_cases e : j = i
        · rw [e, up2_s]
        · rw [up2_n _ _ _ e]; exact hz j (by omega)
  refine j_iconst (pc := 0) (v := nI 0) dX0_explore_0 (by decide) ?_
  refine j_istore_n (pc := 1) (i := 2) (lv' := [.ref (Y.2.1 0), .int (nI f), .int (nI 0)]) dX0_explore_1 rfl rfl ⟨(Nat.le_of_ble_eq_true rfl), (Nat.le_of_ble_eq_true rfl)⟩ ?_
  exact clear 0 (Nat.zero_le _) X (fun _ _ => rfl) lt_0
end
section
/-! the desk: kernels -/
def SK (g : Nat → Nat) (n c d : Nat) : Prop := pop (plc g n c) 8 = pop (plc g n d) 8 ∧ ∀ i, i < n → sub c (g i) → (nd (g i) c &&& d = 0 ∧ ∃ j, j < n ∧ g j = nd (g i) c ||| d)

theorem dX0_sameKernel_0 : decode cX0_sameKernel 0 = .ok (.aload_n 0, 1) := by decide +kernel
theorem dX0_sameKernel_1 : decode cX0_sameKernel 1 = .ok (.getfield 23, 3) := by decide +kernel
theorem dX0_sameKernel_4 : decode cX0_sameKernel 4 = .ok (.iload_n 2, 1) := by decide +kernel
theorem dX0_sameKernel_5 : decode cX0_sameKernel 5 = .ok (.saload, 1) := by decide +kernel
theorem dX0_sameKernel_6 : decode cX0_sameKernel 6 = .ok (.istore 4, 2) := by decide +kernel
theorem dX0_sameKernel_8 : decode cX0_sameKernel 8 = .ok (.aload_n 0, 1) := by decide +kernel
theorem dX0_sameKernel_9 : decode cX0_sameKernel 9 = .ok (.getfield 23, 3) := by decide +kernel
theorem dX0_sameKernel_12 : decode cX0_sameKernel 12 = .ok (.iload_n 3, 1) := by decide +kernel
theorem dX0_sameKernel_13 : decode cX0_sameKernel 13 = .ok (.saload, 1) := by decide +kernel
theorem dX0_sameKernel_14 : decode cX0_sameKernel 14 = .ok (.istore 5, 2) := by decide +kernel
theorem dX0_sameKernel_16 : decode cX0_sameKernel 16 = .ok (.iload 4, 2) := by decide +kernel
theorem dX0_sameKernel_18 : decode cX0_sameKernel 18 = .ok (.invokestatic 88, 3) := by decide +kernel
theorem dX0_sameKernel_21 : decode cX0_sameKernel 21 = .ok (.iload 5, 2) := by decide +kernel
theorem dX0_sameKernel_23 : decode cX0_sameKernel 23 = .ok (.invokestatic 88, 3) := by decide +kernel
theorem dX0_sameKernel_26 : decode cX0_sameKernel 26 = .ok (.if_icmp .eq 5, 3) := by decide +kernel
theorem dX0_sameKernel_29 : decode cX0_sameKernel 29 = .ok (.iconst 0, 1) := by decide +kernel
theorem dX0_sameKernel_30 : decode cX0_sameKernel 30 = .ok (.ireturn, 1) := by decide +kernel
theorem dX0_sameKernel_31 : decode cX0_sameKernel 31 = .ok (.iconst 0, 1) := by decide +kernel
theorem dX0_sameKernel_32 : decode cX0_sameKernel 32 = .ok (.istore 6, 2) := by decide +kernel
theorem dX0_sameKernel_34 : decode cX0_sameKernel 34 = .ok (.iload 6, 2) := by decide +kernel
theorem dX0_sameKernel_36 : decode cX0_sameKernel 36 = .ok (.aload_n 0, 1) := by decide +kernel
theorem dX0_sameKernel_37 : decode cX0_sameKernel 37 = .ok (.getfield 7, 3) := by decide +kernel
theorem dX0_sameKernel_40 : decode cX0_sameKernel 40 = .ok (.iload_n 1, 1) := by decide +kernel
theorem dX0_sameKernel_41 : decode cX0_sameKernel 41 = .ok (.baload, 1) := by decide +kernel
theorem dX0_sameKernel_42 : decode cX0_sameKernel 42 = .ok (.if_icmp .ge 76, 3) := by decide +kernel
theorem dX0_sameKernel_45 : decode cX0_sameKernel 45 = .ok (.aload_n 0, 1) := by decide +kernel
theorem dX0_sameKernel_46 : decode cX0_sameKernel 46 = .ok (.getfield 13, 3) := by decide +kernel
theorem dX0_sameKernel_49 : decode cX0_sameKernel 49 = .ok (.iload_n 1, 1) := by decide +kernel
theorem dX0_sameKernel_50 : decode cX0_sameKernel 50 = .ok (.bipush 8, 2) := by decide +kernel
theorem dX0_sameKernel_52 : decode cX0_sameKernel 52 = .ok (.imul, 1) := by decide +kernel
theorem dX0_sameKernel_53 : decode cX0_sameKernel 53 = .ok (.iload 6, 2) := by decide +kernel
theorem dX0_sameKernel_55 : decode cX0_sameKernel 55 = .ok (.iadd, 1) := by decide +kernel
theorem dX0_sameKernel_56 : decode cX0_sameKernel 56 = .ok (.baload, 1) := by decide +kernel
theorem dX0_sameKernel_57 : decode cX0_sameKernel 57 = .ok (.istore 7, 2) := by decide +kernel
theorem dX0_sameKernel_59 : decode cX0_sameKernel 59 = .ok (.iload 4, 2) := by decide +kernel
theorem dX0_sameKernel_61 : decode cX0_sameKernel 61 = .ok (.iload 6, 2) := by decide +kernel
theorem dX0_sameKernel_63 : decode cX0_sameKernel 63 = .ok (.invokestatic 72, 3) := by decide +kernel
theorem dX0_sameKernel_66 : decode cX0_sameKernel 66 = .ok (.ifCond .eq 46, 3) := by decide +kernel
theorem dX0_sameKernel_69 : decode cX0_sameKernel 69 = .ok (.aload_n 0, 1) := by decide +kernel
theorem dX0_sameKernel_70 : decode cX0_sameKernel 70 = .ok (.iload_n 1, 1) := by decide +kernel
theorem dX0_sameKernel_71 : decode cX0_sameKernel 71 = .ok (.iload 7, 2) := by decide +kernel
theorem dX0_sameKernel_73 : decode cX0_sameKernel 73 = .ok (.iload_n 2, 1) := by decide +kernel
theorem dX0_sameKernel_74 : decode cX0_sameKernel 74 = .ok (.iconst (-1), 1) := by decide +kernel
theorem dX0_sameKernel_75 : decode cX0_sameKernel 75 = .ok (.ixor, 1) := by decide +kernel
theorem dX0_sameKernel_76 : decode cX0_sameKernel 76 = .ok (.iand, 1) := by decide +kernel
theorem dX0_sameKernel_77 : decode cX0_sameKernel 77 = .ok (.iload_n 3, 1) := by decide +kernel
theorem dX0_sameKernel_78 : decode cX0_sameKernel 78 = .ok (.ior, 1) := by decide +kernel
theorem dX0_sameKernel_79 : decode cX0_sameKernel 79 = .ok (.invokevirtual 40, 3) := by decide +kernel
theorem dX0_sameKernel_82 : decode cX0_sameKernel 82 = .ok (.istore 8, 2) := by decide +kernel
theorem dX0_sameKernel_84 : decode cX0_sameKernel 84 = .ok (.iload 7, 2) := by decide +kernel
theorem dX0_sameKernel_86 : decode cX0_sameKernel 86 = .ok (.iload_n 2, 1) := by decide +kernel
theorem dX0_sameKernel_87 : decode cX0_sameKernel 87 = .ok (.iconst (-1), 1) := by decide +kernel
theorem dX0_sameKernel_88 : decode cX0_sameKernel 88 = .ok (.ixor, 1) := by decide +kernel
theorem dX0_sameKernel_89 : decode cX0_sameKernel 89 = .ok (.iand, 1) := by decide +kernel
theorem dX0_sameKernel_90 : decode cX0_sameKernel 90 = .ok (.iload_n 3, 1) := by decide +kernel
theorem dX0_sameKernel_91 : decode cX0_sameKernel 91 = .ok (.iand, 1) := by decide +kernel
theorem dX0_sameKernel_92 : decode cX0_sameKernel 92 = .ok (.ifCond .ne 18, 3) := by decide +kernel
theorem dX0_sameKernel_95 : decode cX0_sameKernel 95 = .ok (.iload 8, 2) := by decide +kernel
theorem dX0_sameKernel_97 : decode cX0_sameKernel 97 = .ok (.ifCond .lt 13, 3) := by decide +kernel
theorem dX0_sameKernel_100 : decode cX0_sameKernel 100 = .ok (.iload 5, 2) := by decide +kernel
theorem dX0_sameKernel_102 : decode cX0_sameKernel 102 = .ok (.iload 8, 2) := by decide +kernel
theorem dX0_sameKernel_104 : decode cX0_sameKernel 104 = .ok (.invokestatic 72, 3) := by decide +kernel
theorem dX0_sameKernel_107 : decode cX0_sameKernel 107 = .ok (.ifCond .ne 5, 3) := by decide +kernel
theorem dX0_sameKernel_110 : decode cX0_sameKernel 110 = .ok (.iconst 0, 1) := by decide +kernel
theorem dX0_sameKernel_111 : decode cX0_sameKernel 111 = .ok (.ireturn, 1) := by decide +kernel
theorem dX0_sameKernel_112 : decode cX0_sameKernel 112 = .ok (.iinc 6 1, 3) := by decide +kernel
theorem dX0_sameKernel_115 : decode cX0_sameKernel 115 = .ok (.goto (-81), 3) := by decide +kernel
theorem dX0_sameKernel_118 : decode cX0_sameKernel 118 = .ok (.iconst 1, 1) := by decide +kernel
theorem dX0_sameKernel_119 : decode cX0_sameKernel 119 = .ok (.ireturn, 1) := by decide +kernel
set_option maxRecDepth 100000 in
set_option maxHeartbeats 4000000 in
theorem met_sameKernel (l : Launch) (Y : dL) (X : Nat → Nat → Nat) (f c d : Nat) (hf : f < 4) (hG0 : Good X) (hc : c < 128) (hd : d < 128) (hoc : X 5 c = plc (gr X f) (X 1 f) c) (hod : X 5 d = plc (gr X f) (X 1 f) d) : dMi l yX0_sameKernel cX0_sameKernel 9 (some .boolean) 2 Y [.int (nI f), .int (nI c), .int (nI d)] X (fun r X' => X' = X ∧ ((r = nI 1 ∧ SK (gr X f) (X 1 f) c d) ∨ (r = nI 0 ∧ ¬ SK (gr X f) (X 1 f) c d))) := by
  refine d_ofi .boolean (own := RX0) rfl rfl (by decide) (Nat.le_of_ble_eq_true rfl) (by simp [lcat, Value.category]) ?_
  intro G hG ret
  obtain ⟨hs, hcc, hss⟩ := hG0 f hf
  have hcl : plc (gr X f) (X 1 f) c < 256 := plc_lt hs
  have hdl : plc (gr X f) (X 1 f) d < 256 := plc_lt hs
  have hcp := plc_pop (gr X f) (X 1 f) c
  have hdp := plc_pop (gr X f) (X 1 f) d
  have loop : pop (plc (gr X f) (X 1 f) c) 8 = pop (plc (gr X f) (X 1 f) d) 8 → ∀ i, i ≤ X 1 f → (∀ j, j < i → sub c (gr X f j) → (nd (gr X f j) c &&& d = 0 ∧ ∃ k, k < X 1 f ∧ gr X f k = nd (gr X f j) c ||| d)) → J cX0_sameKernel 9 RX0 G (dV G Y (dA Y) X) 34 [.ref (Y.2.1 0), .int (nI f), .int (nI c), .int (nI d), .int (nI (plc (gr X f) (X 1 f) c)), .int (nI (plc (gr X f) (X 1 f) d)), .int (nI i)] [] := by
    intro h26
    refine up_loop _ (X 1 f) (fun hyes => ?_) (fun i hi ih hyes => ?_)
    · skip
      refine j_iload (pc := 34) dX0_sameKernel_34 rfl ?_
      refine j_aload_n (pc := 36) (i := 0) dX0_sameKernel_36 rfl rfl ?_
      refine d_get_sizes (pc := 37) dX0_sameKernel_37 ?_
      refine j_iload_n (pc := 40) (i := 1) dX0_sameKernel_40 rfl rfl ?_
      refine d_ld_sizes (pc := 41) dX0_sameKernel_41 (by omega) ?_
      refine n_icmp_ge (pc := 42) (tgt := 118) dX0_sameKernel_42 (by decide) (by omega) (fun h42 => ?_) (fun h42 => ?_)
      · skip
        refine j_iconst (pc := 118) (v := nI 1) dX0_sameKernel_118 (by decide) ?_
        exact ret _ _ _ _ dX0_sameKernel_119 rfl ⟨rfl, Or.inl ⟨rfl, h26, hyes⟩⟩
      · skip
        exact absurd h42 (by omega)
    · skip
      have hci : X 2 (f * 8 + i) < 128 := hcc i hi
      have hnd : nd (X 2 (f * 8 + i)) c < 128 := Nat.lt_of_le_of_lt (nd_le _ _) hci
      have hpr : nd (X 2 (f * 8 + i)) c ||| d < 128 := Nat.or_lt_two_pow (n := 7) hnd hd
      have hband : nd (X 2 (f * 8 + i)) c &&& d < 128 := Nat.lt_of_le_of_lt Nat.and_le_left hnd
      refine j_iload (pc := 34) dX0_sameKernel_34 rfl ?_
      refine j_aload_n (pc := 36) (i := 0) dX0_sameKernel_36 rfl rfl ?_
      refine d_get_sizes (pc := 37) dX0_sameKernel_37 ?_
      refine j_iload_n (pc := 40) (i := 1) dX0_sameKernel_40 rfl rfl ?_
      refine d_ld_sizes (pc := 41) dX0_sameKernel_41 (by omega) ?_
      refine n_icmp_ge (pc := 42) (tgt := 118) dX0_sameKernel_42 (by decide) (by omega) (fun h42 => ?_) (fun h42 => ?_)
      · skip
        exact absurd h42 (by omega)
      · skip
        refine j_aload_n (pc := 45) (i := 0) dX0_sameKernel_45 rfl rfl ?_
        refine d_get_cubes (pc := 46) dX0_sameKernel_46 ?_
        refine j_iload_n (pc := 49) (i := 1) dX0_sameKernel_49 rfl rfl ?_
        refine j_bipush (pc := 50) (v := nI 8) dX0_sameKernel_50 (by decide) ?_
        refine n_imul (pc := 52) dX0_sameKernel_52 ?_
        refine j_iload (pc := 53) dX0_sameKernel_53 rfl ?_
        refine n_iadd (pc := 55) dX0_sameKernel_55 ?_
        refine d_ld_cubes (pc := 56) dX0_sameKernel_56 (by omega) ?_
        refine j_istore (pc := 57) (i := 7) (lv' := [.ref (Y.2.1 0), .int (nI f), .int (nI c), .int (nI d), .int (nI (plc (gr X f) (X 1 f) c)), .int (nI (plc (gr X f) (X 1 f) d)), .int (nI i), .int (nI (X 2 ((f * 8) + i)))]) dX0_sameKernel_57 rfl ⟨(Nat.le_of_ble_eq_true rfl), (Nat.le_of_ble_eq_true rfl)⟩ ?_
        refine j_iload (pc := 59) dX0_sameKernel_59 rfl ?_
        refine j_iload (pc := 61) dX0_sameKernel_61 rfl ?_
        refine s_calli (pc := 63) (st := []) (met_in (kl G) Y.1 (plc (gr X f) (X 1 f) c) i (by omega) (by omega)) hG (by decide) dX0_sameKernel_63 cpD_X0_in (Nat.le_of_ble_eq_true rfl) rfl (fun r63 hr63 => ?_)
        subst hr63
        refine b_if_eq (pc := 66) (tgt := 112) dX0_sameKernel_66 (by decide) (fun h66 => ?_) (fun h66 => ?_)
        · skip
          refine n_iinc (pc := 112) (n := 1) (lv' := [.ref (Y.2.1 0), .int (nI f), .int (nI c), .int (nI d), .int (nI (plc (gr X f) (X 1 f) c)), .int (nI (plc (gr X f) (X 1 f) d)), .int (nI (i + 1)), .int (nI (X 2 ((f * 8) + i)))]) dX0_sameKernel_112 rfl rfl (Nat.le_of_ble_eq_true rfl) ?_
          refine j_goto (pc := 115) (tgt := 34) dX0_sameKernel_115 (by decide) ?_
          refine j_take 7 (lv' := [.ref (Y.2.1 0), .int (nI f), .int (nI c), .int (nI d), .int (nI (plc (gr X f) (X 1 f) c)), .int (nI (plc (gr X f) (X 1 f) d)), .int (nI (i + 1))]) rfl ?_
          exact ih (lt_s hyes (fun z => absurd (plc_bit.mpr ⟨hi, z⟩) (by rw [h66]; decide)))
        · skip
          refine j_aload_n (pc := 69) (i := 0) dX0_sameKernel_69 rfl rfl ?_
          refine j_iload_n (pc := 70) (i := 1) dX0_sameKernel_70 rfl rfl ?_
          refine j_iload (pc := 71) dX0_sameKernel_71 rfl ?_
          refine j_iload_n (pc := 73) (i := 2) dX0_sameKernel_73 rfl rfl ?_
          refine n_andn (pc := 74) dX0_sameKernel_74 dX0_sameKernel_75 dX0_sameKernel_76 ?_
          refine j_iload_n (pc := 77) (i := 3) dX0_sameKernel_77 rfl rfl ?_
          refine n_ior (pc := 78) dX0_sameKernel_78 ?_
          refine d_calli (pc := 79) (st := []) (met_find (kl G) Y X f (nI ((nd (X 2 ((f * 8) + i)) c) ||| d)) (by omega) hs) hG (by decide) dX0_sameKernel_79 cpD_X0_find (Nat.le_of_ble_eq_true rfl) rfl (fun r79 X79 hr79 => ?_)
          obtain ⟨hE79, hf79⟩ := hr79
          rw [hE79]
          rcases hf79 with ⟨i79, hi79, hc79, rfl⟩ | ⟨rfl, hno79⟩
          · skip
            skip
            refine j_istore (pc := 82) (i := 8) (lv' := [.ref (Y.2.1 0), .int (nI f), .int (nI c), .int (nI d), .int (nI (plc (gr X f) (X 1 f) c)), .int (nI (plc (gr X f) (X 1 f) d)), .int (nI i), .int (nI (X 2 ((f * 8) + i))), .int (nI i79)]) dX0_sameKernel_82 rfl ⟨(Nat.le_of_ble_eq_true rfl), (Nat.le_of_ble_eq_true rfl)⟩ ?_
            refine j_iload (pc := 84) dX0_sameKernel_84 rfl ?_
            refine j_iload_n (pc := 86) (i := 2) dX0_sameKernel_86 rfl rfl ?_
            refine n_andn (pc := 87) dX0_sameKernel_87 dX0_sameKernel_88 dX0_sameKernel_89 ?_
            refine j_iload_n (pc := 90) (i := 3) dX0_sameKernel_90 rfl rfl ?_
            refine n_iand (pc := 91) dX0_sameKernel_91 ?_
            refine n_if_ne (pc := 92) (tgt := 110) dX0_sameKernel_92 (by decide) (by omega) (fun h92 => ?_) (fun h92 => ?_)
            · skip
              have hbad : ¬ (nd (gr X f i) c &&& d = 0 ∧ ∃ k, k < X 1 f ∧ gr X f k = nd (gr X f i) c ||| d) := fun z => h92 z.1
              refine j_iconst (pc := 110) (v := nI 0) dX0_sameKernel_110 (by decide) ?_
              exact ret _ _ _ _ dX0_sameKernel_111 rfl ⟨rfl, Or.inr ⟨rfl, fun z => hbad (z.2 i hi (plc_bit.mp h66).2)⟩⟩
            · skip
              refine j_iload (pc := 95) dX0_sameKernel_95 rfl ?_
              refine n_if_lt (pc := 97) (tgt := 110) dX0_sameKernel_97 (by decide) (by omega) ?_
              refine j_iload (pc := 100) dX0_sameKernel_100 rfl ?_
              refine j_iload (pc := 102) dX0_sameKernel_102 rfl ?_
              refine s_calli (pc := 104) (st := []) (met_in (kl G) Y.1 (plc (gr X f) (X 1 f) d) i79 (by omega) (by omega)) hG (by decide) dX0_sameKernel_104 cpD_X0_in (Nat.le_of_ble_eq_true rfl) rfl (fun r104 hr104 => ?_)
              subst hr104
              refine b_if_ne (pc := 107) (tgt := 112) dX0_sameKernel_107 (by decide) (fun h107 => ?_) (fun h107 => ?_)
              · skip
                refine n_iinc (pc := 112) (n := 1) (lv' := [.ref (Y.2.1 0), .int (nI f), .int (nI c), .int (nI d), .int (nI (plc (gr X f) (X 1 f) c)), .int (nI (plc (gr X f) (X 1 f) d)), .int (nI (i + 1)), .int (nI (X 2 ((f * 8) + i))), .int (nI i79)]) dX0_sameKernel_112 rfl rfl (Nat.le_of_ble_eq_true rfl) ?_
                refine j_goto (pc := 115) (tgt := 34) dX0_sameKernel_115 (by decide) ?_
                refine j_take 7 (lv' := [.ref (Y.2.1 0), .int (nI f), .int (nI c), .int (nI d), .int (nI (plc (gr X f) (X 1 f) c)), .int (nI (plc (gr X f) (X 1 f) d)), .int (nI (i + 1))]) rfl ?_
                have hgj : gr X f i79 = nd (X 2 (f * 8 + i)) c ||| d := (nI_eq (Nat.lt_trans (hcc i79 hi79) (by decide)) (by omega)).mp hc79
                exact ih (lt_s hyes (fun _ => ⟨h92, i79, hi79, hgj⟩))
              · skip
                have hgj : gr X f i79 = nd (X 2 (f * 8 + i)) c ||| d := (nI_eq (Nat.lt_trans (hcc i79 hi79) (by decide)) (by omega)).mp hc79
                have hz : sub d (gr X f i79) := fun b hb => by rw [hgj, Nat.testBit_or, hb, Bool.or_true]
                have hbad : ¬ (nd (gr X f i) c &&& d = 0 ∧ ∃ k, k < X 1 f ∧ gr X f k = nd (gr X f i) c ||| d) := fun _ => absurd (plc_bit.mpr ⟨hi79, hz⟩) (by rw [h107]; decide)
                refine j_iconst (pc := 110) (v := nI 0) dX0_sameKernel_110 (by decide) ?_
                exact ret _ _ _ _ dX0_sameKernel_111 rfl ⟨rfl, Or.inr ⟨rfl, fun z => hbad (z.2 i hi (plc_bit.mp h66).2)⟩⟩
          · skip
            skip
            refine j_istore (pc := 82) (i := 8) (lv' := [.ref (Y.2.1 0), .int (nI f), .int (nI c), .int (nI d), .int (nI (plc (gr X f) (X 1 f) c)), .int (nI (plc (gr X f) (X 1 f) d)), .int (nI i), .int (nI (X 2 ((f * 8) + i))), .int (-1)]) dX0_sameKernel_82 rfl ⟨(Nat.le_of_ble_eq_true rfl), (Nat.le_of_ble_eq_true rfl)⟩ ?_
            refine j_iload (pc := 84) dX0_sameKernel_84 rfl ?_
            refine j_iload_n (pc := 86) (i := 2) dX0_sameKernel_86 rfl rfl ?_
            refine n_andn (pc := 87) dX0_sameKernel_87 dX0_sameKernel_88 dX0_sameKernel_89 ?_
            refine j_iload_n (pc := 90) (i := 3) dX0_sameKernel_90 rfl rfl ?_
            refine n_iand (pc := 91) dX0_sameKernel_91 ?_
            refine n_if_ne (pc := 92) (tgt := 110) dX0_sameKernel_92 (by decide) (by omega) (fun h92 => ?_) (fun h92 => ?_)
            · skip
              have hbad : ¬ (nd (gr X f i) c &&& d = 0 ∧ ∃ k, k < X 1 f ∧ gr X f k = nd (gr X f i) c ||| d) := fun z => h92 z.1
              refine j_iconst (pc := 110) (v := nI 0) dX0_sameKernel_110 (by decide) ?_
              exact ret _ _ _ _ dX0_sameKernel_111 rfl ⟨rfl, Or.inr ⟨rfl, fun z => hbad (z.2 i hi (plc_bit.mp h66).2)⟩⟩
            · skip
              have hbad : ¬ (nd (gr X f i) c &&& d = 0 ∧ ∃ k, k < X 1 f ∧ gr X f k = nd (gr X f i) c ||| d) := fun ⟨_, k, hk, e⟩ => hno79 k hk (by rw [show X 2 (f * 8 + k) = nd (X 2 (f * 8 + i)) c ||| d from e])
              refine j_iload (pc := 95) dX0_sameKernel_95 rfl ?_
              refine j_if_lt (pc := 97) (tgt := 110) dX0_sameKernel_97 (by decide) (fun _ => ?_) (fun h => absurd (by decide) h)
              refine j_iconst (pc := 110) (v := nI 0) dX0_sameKernel_110 (by decide) ?_
              exact ret _ _ _ _ dX0_sameKernel_111 rfl ⟨rfl, Or.inr ⟨rfl, fun z => hbad (z.2 i hi (plc_bit.mp h66).2)⟩⟩
  refine j_aload_n (pc := 0) (i := 0) dX0_sameKernel_0 rfl rfl ?_
  refine d_get_holders (pc := 1) dX0_sameKernel_1 ?_
  refine j_iload_n (pc := 4) (i := 2) dX0_sameKernel_4 rfl rfl ?_
  refine d_ld_holders (pc := 5) dX0_sameKernel_5 (by omega) ?_
  rw [hoc]
  refine j_istore (pc := 6) (i := 4) (lv' := [.ref (Y.2.1 0), .int (nI f), .int (nI c), .int (nI d), .int (nI (plc (gr X f) (X 1 f) c))]) dX0_sameKernel_6 rfl ⟨(Nat.le_of_ble_eq_true rfl), (Nat.le_of_ble_eq_true rfl)⟩ ?_
  refine j_aload_n (pc := 8) (i := 0) dX0_sameKernel_8 rfl rfl ?_
  refine d_get_holders (pc := 9) dX0_sameKernel_9 ?_
  refine j_iload_n (pc := 12) (i := 3) dX0_sameKernel_12 rfl rfl ?_
  refine d_ld_holders (pc := 13) dX0_sameKernel_13 (by omega) ?_
  rw [hod]
  refine j_istore (pc := 14) (i := 5) (lv' := [.ref (Y.2.1 0), .int (nI f), .int (nI c), .int (nI d), .int (nI (plc (gr X f) (X 1 f) c)), .int (nI (plc (gr X f) (X 1 f) d))]) dX0_sameKernel_14 rfl ⟨(Nat.le_of_ble_eq_true rfl), (Nat.le_of_ble_eq_true rfl)⟩ ?_
  refine j_iload (pc := 16) dX0_sameKernel_16 rfl ?_
  refine s_calli (pc := 18) (st := []) (met_ones (kl G) Y.1 (plc (gr X f) (X 1 f) c) (by omega)) hG (by decide) dX0_sameKernel_18 cpD_X0_ones (Nat.le_of_ble_eq_true rfl) rfl (fun r18 hr18 => ?_)
  subst hr18
  refine j_iload (pc := 21) dX0_sameKernel_21 rfl ?_
  refine s_calli (pc := 23) (st := [.int (nI (pop (plc (gr X f) (X 1 f) c) 8))]) (met_ones (kl G) Y.1 (plc (gr X f) (X 1 f) d) (by omega)) hG (by decide) dX0_sameKernel_23 cpD_X0_ones (Nat.le_of_ble_eq_true rfl) rfl (fun r23 hr23 => ?_)
  subst hr23
  refine n_icmp_eq (pc := 26) (tgt := 31) dX0_sameKernel_26 (by decide) (by omega) (fun h26 => ?_) (fun h26 => ?_)
  · skip
    refine j_iconst (pc := 31) (v := nI 0) dX0_sameKernel_31 (by decide) ?_
    refine j_istore (pc := 32) (i := 6) (lv' := [.ref (Y.2.1 0), .int (nI f), .int (nI c), .int (nI d), .int (nI (plc (gr X f) (X 1 f) c)), .int (nI (plc (gr X f) (X 1 f) d)), .int (nI 0)]) dX0_sameKernel_32 rfl ⟨(Nat.le_of_ble_eq_true rfl), (Nat.le_of_ble_eq_true rfl)⟩ ?_
    exact loop h26 0 (Nat.zero_le _) lt_0
  · skip
    refine j_iconst (pc := 29) (v := nI 0) dX0_sameKernel_29 (by decide) ?_
    exact ret _ _ _ _ dX0_sameKernel_30 rfl ⟨rfl, Or.inr ⟨rfl, fun z => h26 z.1⟩⟩

theorem dX0_isFirst_0 : decode cX0_isFirst 0 = .ok (.iconst 0, 1) := by decide +kernel
theorem dX0_isFirst_1 : decode cX0_isFirst 1 = .ok (.istore_n 3, 1) := by decide +kernel
theorem dX0_isFirst_2 : decode cX0_isFirst 2 = .ok (.iload_n 3, 1) := by decide +kernel
theorem dX0_isFirst_3 : decode cX0_isFirst 3 = .ok (.iload_n 2, 1) := by decide +kernel
theorem dX0_isFirst_4 : decode cX0_isFirst 4 = .ok (.if_icmp .ge 30, 3) := by decide +kernel
theorem dX0_isFirst_7 : decode cX0_isFirst 7 = .ok (.aload_n 0, 1) := by decide +kernel
theorem dX0_isFirst_8 : decode cX0_isFirst 8 = .ok (.getfield 19, 3) := by decide +kernel
theorem dX0_isFirst_11 : decode cX0_isFirst 11 = .ok (.iload_n 3, 1) := by decide +kernel
theorem dX0_isFirst_12 : decode cX0_isFirst 12 = .ok (.baload, 1) := by decide +kernel
theorem dX0_isFirst_13 : decode cX0_isFirst 13 = .ok (.ifCond .eq 15, 3) := by decide +kernel
theorem dX0_isFirst_16 : decode cX0_isFirst 16 = .ok (.aload_n 0, 1) := by decide +kernel
theorem dX0_isFirst_17 : decode cX0_isFirst 17 = .ok (.iload_n 1, 1) := by decide +kernel
theorem dX0_isFirst_18 : decode cX0_isFirst 18 = .ok (.iload_n 2, 1) := by decide +kernel
theorem dX0_isFirst_19 : decode cX0_isFirst 19 = .ok (.iload_n 3, 1) := by decide +kernel
theorem dX0_isFirst_20 : decode cX0_isFirst 20 = .ok (.invokevirtual 104, 3) := by decide +kernel
theorem dX0_isFirst_23 : decode cX0_isFirst 23 = .ok (.ifCond .eq 5, 3) := by decide +kernel
theorem dX0_isFirst_26 : decode cX0_isFirst 26 = .ok (.iconst 0, 1) := by decide +kernel
theorem dX0_isFirst_27 : decode cX0_isFirst 27 = .ok (.ireturn, 1) := by decide +kernel
theorem dX0_isFirst_28 : decode cX0_isFirst 28 = .ok (.iinc 3 1, 3) := by decide +kernel
theorem dX0_isFirst_31 : decode cX0_isFirst 31 = .ok (.goto (-29), 3) := by decide +kernel
theorem dX0_isFirst_34 : decode cX0_isFirst 34 = .ok (.iconst 1, 1) := by decide +kernel
theorem dX0_isFirst_35 : decode cX0_isFirst 35 = .ok (.ireturn, 1) := by decide +kernel
set_option maxRecDepth 100000 in
set_option maxHeartbeats 4000000 in
theorem met_isFirst (l : Launch) (Y : dL) (X : Nat → Nat → Nat) (f c : Nat) (hf : f < 4) (hG0 : Good X) (hc : c < 128) (hAc : Al (gr X f) (X 1 f) c) (hv4 : ∀ D, D < 128 → X 4 D = ind (Al (gr X f) (X 1 f) D)) (hv5 : ∀ D, D < 128 → Al (gr X f) (X 1 f) D → X 5 D = plc (gr X f) (X 1 f) D) : dMi l yX0_isFirst cX0_isFirst 4 (some .boolean) 3 Y [.int (nI f), .int (nI c)] X (fun r X' => X' = X ∧ ((r = nI 0 ∧ ∃ d, d < c ∧ Al (gr X f) (X 1 f) d ∧ SK (gr X f) (X 1 f) c d) ∨ (r = nI 1 ∧ ∀ d, d < c → Al (gr X f) (X 1 f) d → ¬ SK (gr X f) (X 1 f) c d))) := by
  refine d_ofi .boolean (own := RX0) rfl rfl (by decide) (Nat.le_of_ble_eq_true rfl) (by simp [lcat, Value.category]) ?_
  intro G hG ret
  have loop : ∀ d, d ≤ c → (∀ j, j < d → Al (gr X f) (X 1 f) j → ¬ SK (gr X f) (X 1 f) c j) → J cX0_isFirst 4 RX0 G (dV G Y (dA Y) X) 2 [.ref (Y.2.1 0), .int (nI f), .int (nI c), .int (nI d)] [] := by
    refine up_loop _ c (fun hno => ?_) (fun d hd ih hno => ?_)
    · skip
      refine j_iload_n (pc := 2) (i := 3) dX0_isFirst_2 rfl rfl ?_
      refine j_iload_n (pc := 3) (i := 2) dX0_isFirst_3 rfl rfl ?_
      refine n_icmp_ge (pc := 4) (tgt := 34) dX0_isFirst_4 (by decide) (by omega) (fun h4 => ?_) (fun h4 => ?_)
      · skip
        refine j_iconst (pc := 34) (v := nI 1) dX0_isFirst_34 (by decide) ?_
        exact ret _ _ _ _ dX0_isFirst_35 rfl ⟨rfl, Or.inr ⟨rfl, hno⟩⟩
      · skip
        exact absurd h4 (by omega)
    · skip
      have hv := hv4 d (by omega)
      have hvl := ind_le (Al (gr X f) (X 1 f) d)
      refine j_iload_n (pc := 2) (i := 3) dX0_isFirst_2 rfl rfl ?_
      refine j_iload_n (pc := 3) (i := 2) dX0_isFirst_3 rfl rfl ?_
      refine n_icmp_ge (pc := 4) (tgt := 34) dX0_isFirst_4 (by decide) (by omega) (fun h4 => ?_) (fun h4 => ?_)
      · skip
        exact absurd h4 (by omega)
      · skip
        refine j_aload_n (pc := 7) (i := 0) dX0_isFirst_7 rfl rfl ?_
        refine d_get_isCokernel (pc := 8) dX0_isFirst_8 ?_
        refine j_iload_n (pc := 11) (i := 3) dX0_isFirst_11 rfl rfl ?_
        refine d_ld_isCokernel (pc := 12) dX0_isFirst_12 (by omega) ?_
        refine n_if_eq (pc := 13) (tgt := 28) dX0_isFirst_13 (by decide) (by omega) (fun h13 => ?_) (fun h13 => ?_)
        · skip
          refine n_iinc (pc := 28) (n := 1) (lv' := [.ref (Y.2.1 0), .int (nI f), .int (nI c), .int (nI (d + 1))]) dX0_isFirst_28 rfl rfl (Nat.le_of_ble_eq_true rfl) ?_
          refine j_goto (pc := 31) (tgt := 2) dX0_isFirst_31 (by decide) ?_
          first | exact ih (lt_s hno (fun _ => hsk)) | exact ih (lt_s hno (fun z => by rw [hv, ind_t z] at h13; cases h13))
        · skip
          have hAd : Al (gr X f) (X 1 f) d := Classical.byContradiction (fun z => h13 (by rw [hv, ind_f z]))
          refine j_aload_n (pc := 16) (i := 0) dX0_isFirst_16 rfl rfl ?_
          refine j_iload_n (pc := 17) (i := 1) dX0_isFirst_17 rfl rfl ?_
          refine j_iload_n (pc := 18) (i := 2) dX0_isFirst_18 rfl rfl ?_
          refine j_iload_n (pc := 19) (i := 3) dX0_isFirst_19 rfl rfl ?_
          refine d_calli (pc := 20) (st := []) (met_sameKernel (kl G) Y X f c d hf hG0 hc (by omega) (hv5 c hc hAc) (hv5 d (by omega) hAd)) hG (by decide) dX0_isFirst_20 cpD_X0_sameKernel (Nat.le_of_ble_eq_true rfl) rfl (fun r20 X20 hr20 => ?_)
          obtain ⟨hE20, hr20⟩ := hr20
          rw [hE20]
          rcases hr20 with ⟨rfl, hsk⟩ | ⟨rfl, hsk⟩
          · skip
            skip
            refine n_if_eq (pc := 23) (tgt := 28) dX0_isFirst_23 (by decide) (by decide) (fun h => absurd h (by decide)) (fun _ => ?_)
            refine j_iconst (pc := 26) (v := nI 0) dX0_isFirst_26 (by decide) ?_
            exact ret _ _ _ _ dX0_isFirst_27 rfl ⟨rfl, Or.inl ⟨rfl, d, hd, hAd, hsk⟩⟩
          · skip
            skip
            refine n_if_eq (pc := 23) (tgt := 28) dX0_isFirst_23 (by decide) (by decide) (fun _ => ?_) (fun h => absurd h (by decide))
            refine n_iinc (pc := 28) (n := 1) (lv' := [.ref (Y.2.1 0), .int (nI f), .int (nI c), .int (nI (d + 1))]) dX0_isFirst_28 rfl rfl (Nat.le_of_ble_eq_true rfl) ?_
            refine j_goto (pc := 31) (tgt := 2) dX0_isFirst_31 (by decide) ?_
            first | exact ih (lt_s hno (fun _ => hsk)) | exact ih (lt_s hno (fun z => by rw [hv, ind_t z] at h13; cases h13))
  refine j_iconst (pc := 0) (v := nI 0) dX0_isFirst_0 (by decide) ?_
  refine j_istore_n (pc := 1) (i := 3) (lv' := [.ref (Y.2.1 0), .int (nI f), .int (nI c), .int (nI 0)]) dX0_isFirst_1 rfl rfl ⟨(Nat.le_of_ble_eq_true rfl), (Nat.le_of_ble_eq_true rfl)⟩ ?_
  exact loop 0 (Nat.zero_le _) lt_0

theorem dX0_cokernels_0 : decode cX0_cokernels 0 = .ok (.iload_n 1, 1) := by decide +kernel
theorem dX0_cokernels_1 : decode cX0_cokernels 1 = .ok (.invokestatic 33, 3) := by decide +kernel
theorem dX0_cokernels_4 : decode cX0_cokernels 4 = .ok (.ifCond .ne 5, 3) := by decide +kernel
theorem dX0_cokernels_7 : decode cX0_cokernels 7 = .ok (.iconst (-1), 1) := by decide +kernel
theorem dX0_cokernels_8 : decode cX0_cokernels 8 = .ok (.ireturn, 1) := by decide +kernel
theorem dX0_cokernels_9 : decode cX0_cokernels 9 = .ok (.aload_n 0, 1) := by decide +kernel
theorem dX0_cokernels_10 : decode cX0_cokernels 10 = .ok (.iload_n 1, 1) := by decide +kernel
theorem dX0_cokernels_11 : decode cX0_cokernels 11 = .ok (.invokevirtual 81, 3) := by decide +kernel
theorem dX0_cokernels_14 : decode cX0_cokernels 14 = .ok (.iconst 0, 1) := by decide +kernel
theorem dX0_cokernels_15 : decode cX0_cokernels 15 = .ok (.istore_n 2, 1) := by decide +kernel
theorem dX0_cokernels_16 : decode cX0_cokernels 16 = .ok (.iconst 0, 1) := by decide +kernel
theorem dX0_cokernels_17 : decode cX0_cokernels 17 = .ok (.istore_n 3, 1) := by decide +kernel
theorem dX0_cokernels_18 : decode cX0_cokernels 18 = .ok (.iload_n 3, 1) := by decide +kernel
theorem dX0_cokernels_19 : decode cX0_cokernels 19 = .ok (.sipush 128, 3) := by decide +kernel
theorem dX0_cokernels_22 : decode cX0_cokernels 22 = .ok (.if_icmp .ge 26, 3) := by decide +kernel
theorem dX0_cokernels_25 : decode cX0_cokernels 25 = .ok (.iload_n 2, 1) := by decide +kernel
theorem dX0_cokernels_26 : decode cX0_cokernels 26 = .ok (.aload_n 0, 1) := by decide +kernel
theorem dX0_cokernels_27 : decode cX0_cokernels 27 = .ok (.getfield 19, 3) := by decide +kernel
theorem dX0_cokernels_30 : decode cX0_cokernels 30 = .ok (.iload_n 3, 1) := by decide +kernel
theorem dX0_cokernels_31 : decode cX0_cokernels 31 = .ok (.baload, 1) := by decide +kernel
theorem dX0_cokernels_32 : decode cX0_cokernels 32 = .ok (.ifCond .eq 7, 3) := by decide +kernel
theorem dX0_cokernels_35 : decode cX0_cokernels 35 = .ok (.iconst 1, 1) := by decide +kernel
theorem dX0_cokernels_36 : decode cX0_cokernels 36 = .ok (.goto 4, 3) := by decide +kernel
theorem dX0_cokernels_39 : decode cX0_cokernels 39 = .ok (.iconst 0, 1) := by decide +kernel
theorem dX0_cokernels_40 : decode cX0_cokernels 40 = .ok (.iadd, 1) := by decide +kernel
theorem dX0_cokernels_41 : decode cX0_cokernels 41 = .ok (.istore_n 2, 1) := by decide +kernel
theorem dX0_cokernels_42 : decode cX0_cokernels 42 = .ok (.iinc 3 1, 3) := by decide +kernel
theorem dX0_cokernels_45 : decode cX0_cokernels 45 = .ok (.goto (-27), 3) := by decide +kernel
theorem dX0_cokernels_48 : decode cX0_cokernels 48 = .ok (.iload_n 2, 1) := by decide +kernel
theorem dX0_cokernels_49 : decode cX0_cokernels 49 = .ok (.ireturn, 1) := by decide +kernel
set_option maxRecDepth 100000 in
set_option maxHeartbeats 4000000 in
theorem met_cokernels (l : Launch) (Y : dL) (X : Nat → Nat → Nat) (x : Int32) (hG0 : Good X) : dMi l yX0_cokernels cX0_cokernels 4 (some .int) 5 Y [.int x] X (fun r X' => X' 1 = X 1 ∧ X' 2 = X 2 ∧ ((r = -1 ∧ (∀ k, k < 4 → x ≠ nI k)) ∨ ∃ e, e < 4 ∧ x = nI e ∧ r = nI (sumN (fun c => ind (Al (gr X e) (X 1 e) c)) 128))) := by
  refine d_ofi .int (own := RX0) rfl rfl (by decide) (Nat.le_of_ble_eq_true rfl) (by simp [lcat, Value.category]) ?_
  intro G hG ret
  refine j_iload_n (pc := 0) (i := 1) dX0_cokernels_0 rfl rfl ?_
  refine s_calli (pc := 1) (st := []) (met_isExpression (kl G) Y.1 x) hG (by decide) dX0_cokernels_1 cpD_X0_isExpression (Nat.le_of_ble_eq_true rfl) rfl (fun r1 hr1 => ?_)
  rcases hr1 with ⟨rfl, hq1⟩ | ⟨rfl, hbx⟩
  · skip
    obtain ⟨x0, hx0, rfl⟩ := hq1
    refine n_if_ne (pc := 4) (tgt := 9) dX0_cokernels_4 (by decide) (by decide) (fun _ => ?_) (fun h => absurd h (by decide))
    refine j_aload_n (pc := 9) (i := 0) dX0_cokernels_9 rfl rfl ?_
    refine j_iload_n (pc := 10) (i := 1) dX0_cokernels_10 rfl rfl ?_
    refine d_callv (pc := 11) (st := []) (met_explore (kl G) Y X x0 hx0 hG0) hG (by decide) dX0_cokernels_11 cpD_X0_explore (Nat.le_of_ble_eq_true rfl) rfl (fun X11 hr11 => ?_)
    obtain ⟨e1, e2, hv4, hv5⟩ := hr11
    refine j_iconst (pc := 14) (v := nI 0) dX0_cokernels_14 (by decide) ?_
    refine j_istore_n (pc := 15) (i := 2) (lv' := [.ref (Y.2.1 0), .int (nI x0), .int (nI 0)]) dX0_cokernels_15 rfl rfl ⟨(Nat.le_of_ble_eq_true rfl), (Nat.le_of_ble_eq_true rfl)⟩ ?_
    refine j_iconst (pc := 16) (v := nI 0) dX0_cokernels_16 (by decide) ?_
    refine j_istore_n (pc := 17) (i := 3) (lv' := [.ref (Y.2.1 0), .int (nI x0), .int (nI 0), .int (nI 0)]) dX0_cokernels_17 rfl rfl ⟨(Nat.le_of_ble_eq_true rfl), (Nat.le_of_ble_eq_true rfl)⟩ ?_
    have hgr : gr X11 x0 = gr X x0 := by unfold gr; rw [e2]
    have loop : ∀ c, c ≤ 128 → J cX0_cokernels 4 RX0 G (dV G Y (dA Y) X11) 18 [.ref (Y.2.1 0), .int (nI x0), .int (nI (sumN (fun c => ind (Al (gr X x0) (X 1 x0) c)) c)), .int (nI c)] [] := by
      refine up_loop _ 128 ?_ (fun c hc ih => ?_)
      · skip
        refine j_iload_n (pc := 18) (i := 3) dX0_cokernels_18 rfl rfl ?_
        refine j_sipush (pc := 19) (v := nI 128) dX0_cokernels_19 (by decide) ?_
        refine n_icmp_ge (pc := 22) (tgt := 48) dX0_cokernels_22 (by decide) (by omega) (fun h22 => ?_) (fun h22 => ?_)
        · skip
          refine j_iload_n (pc := 48) (i := 2) dX0_cokernels_48 rfl rfl ?_
          exact ret _ _ _ _ dX0_cokernels_49 rfl ⟨e1, e2, Or.inr ⟨x0, hx0, rfl, rfl⟩⟩
        · skip
          exact absurd h22 (by omega)
      · skip
        have hv := hv4 c hc
        have hvl := ind_le (Al (gr X x0) (X 1 x0) c)
        refine j_iload_n (pc := 18) (i := 3) dX0_cokernels_18 rfl rfl ?_
        refine j_sipush (pc := 19) (v := nI 128) dX0_cokernels_19 (by decide) ?_
        refine n_icmp_ge (pc := 22) (tgt := 48) dX0_cokernels_22 (by decide) (by omega) (fun h22 => ?_) (fun h22 => ?_)
        · skip
          exact absurd h22 (by omega)
        · skip
          refine j_iload_n (pc := 25) (i := 2) dX0_cokernels_25 rfl rfl ?_
          refine j_aload_n (pc := 26) (i := 0) dX0_cokernels_26 rfl rfl ?_
          refine d_get_isCokernel (pc := 27) dX0_cokernels_27 ?_
          refine j_iload_n (pc := 30) (i := 3) dX0_cokernels_30 rfl rfl ?_
          refine d_ld_isCokernel (pc := 31) dX0_cokernels_31 (by omega) ?_
          refine n_if_eq (pc := 32) (tgt := 39) dX0_cokernels_32 (by decide) (by omega) (fun h32 => ?_) (fun h32 => ?_)
          · skip
            refine j_iconst (pc := 39) (v := nI 0) dX0_cokernels_39 (by decide) ?_
            refine n_iadd (pc := 40) dX0_cokernels_40 ?_
            refine j_istore_n (pc := 41) (i := 2) (lv' := [.ref (Y.2.1 0), .int (nI x0), .int (nI ((sumN (fun c => ind (Al (gr X x0) (X 1 x0) c)) c) + 0)), .int (nI c)]) dX0_cokernels_41 rfl rfl ⟨(Nat.le_of_ble_eq_true rfl), (Nat.le_of_ble_eq_true rfl)⟩ ?_
            refine n_iinc (pc := 42) (n := 1) (lv' := [.ref (Y.2.1 0), .int (nI x0), .int (nI ((sumN (fun c => ind (Al (gr X x0) (X 1 x0) c)) c) + 0)), .int (nI (c + 1))]) dX0_cokernels_42 rfl rfl (Nat.le_of_ble_eq_true rfl) ?_
            refine j_goto (pc := 45) (tgt := 18) dX0_cokernels_45 (by decide) ?_
            rw [show (sumN (fun c => ind (Al (gr X x0) (X 1 x0) c)) c) + 0 = sumN (fun c => ind (Al (gr X x0) (X 1 x0) c)) (c + 1) by
              show _ = sumN (fun c => ind (Al (gr X x0) (X 1 x0) c)) c + ind (Al (gr X x0) (X 1 x0) c)
              first | (rw [ind_t hAc]; done) | rw [← hv, h32]]
            exact ih
          · skip
            have hAc : Al (gr X x0) (X 1 x0) c := Classical.byContradiction (fun z => h32 (by rw [hv, ind_f z]))
            refine j_iconst (pc := 35) (v := nI 1) dX0_cokernels_35 (by decide) ?_
            refine j_goto (pc := 36) (tgt := 40) dX0_cokernels_36 (by decide) ?_
            refine n_iadd (pc := 40) dX0_cokernels_40 ?_
            refine j_istore_n (pc := 41) (i := 2) (lv' := [.ref (Y.2.1 0), .int (nI x0), .int (nI ((sumN (fun c => ind (Al (gr X x0) (X 1 x0) c)) c) + 1)), .int (nI c)]) dX0_cokernels_41 rfl rfl ⟨(Nat.le_of_ble_eq_true rfl), (Nat.le_of_ble_eq_true rfl)⟩ ?_
            refine n_iinc (pc := 42) (n := 1) (lv' := [.ref (Y.2.1 0), .int (nI x0), .int (nI ((sumN (fun c => ind (Al (gr X x0) (X 1 x0) c)) c) + 1)), .int (nI (c + 1))]) dX0_cokernels_42 rfl rfl (Nat.le_of_ble_eq_true rfl) ?_
            refine j_goto (pc := 45) (tgt := 18) dX0_cokernels_45 (by decide) ?_
            rw [show (sumN (fun c => ind (Al (gr X x0) (X 1 x0) c)) c) + 1 = sumN (fun c => ind (Al (gr X x0) (X 1 x0) c)) (c + 1) by
              show _ = sumN (fun c => ind (Al (gr X x0) (X 1 x0) c)) c + ind (Al (gr X x0) (X 1 x0) c)
              first | (rw [ind_t hAc]; done) | rw [← hv, h32]]
            exact ih
    exact loop 0 (Nat.zero_le _)
  · skip
    skip
    refine n_if_ne (pc := 4) (tgt := 9) dX0_cokernels_4 (by decide) (by decide) (fun h => absurd h (by decide)) (fun _ => ?_)
    refine j_iconst (pc := 7) (v := -1) dX0_cokernels_7 (by decide) ?_
    exact ret _ _ _ _ dX0_cokernels_8 rfl ⟨rfl, rfl, Or.inl ⟨rfl, hbx⟩⟩

theorem dX0_kernels_0 : decode cX0_kernels 0 = .ok (.iload_n 1, 1) := by decide +kernel
theorem dX0_kernels_1 : decode cX0_kernels 1 = .ok (.invokestatic 33, 3) := by decide +kernel
theorem dX0_kernels_4 : decode cX0_kernels 4 = .ok (.ifCond .ne 5, 3) := by decide +kernel
theorem dX0_kernels_7 : decode cX0_kernels 7 = .ok (.iconst (-1), 1) := by decide +kernel
theorem dX0_kernels_8 : decode cX0_kernels 8 = .ok (.ireturn, 1) := by decide +kernel
theorem dX0_kernels_9 : decode cX0_kernels 9 = .ok (.aload_n 0, 1) := by decide +kernel
theorem dX0_kernels_10 : decode cX0_kernels 10 = .ok (.iload_n 1, 1) := by decide +kernel
theorem dX0_kernels_11 : decode cX0_kernels 11 = .ok (.invokevirtual 81, 3) := by decide +kernel
theorem dX0_kernels_14 : decode cX0_kernels 14 = .ok (.iconst 0, 1) := by decide +kernel
theorem dX0_kernels_15 : decode cX0_kernels 15 = .ok (.istore_n 2, 1) := by decide +kernel
theorem dX0_kernels_16 : decode cX0_kernels 16 = .ok (.iconst 0, 1) := by decide +kernel
theorem dX0_kernels_17 : decode cX0_kernels 17 = .ok (.istore_n 3, 1) := by decide +kernel
theorem dX0_kernels_18 : decode cX0_kernels 18 = .ok (.iload_n 3, 1) := by decide +kernel
theorem dX0_kernels_19 : decode cX0_kernels 19 = .ok (.sipush 128, 3) := by decide +kernel
theorem dX0_kernels_22 : decode cX0_kernels 22 = .ok (.if_icmp .ge 35, 3) := by decide +kernel
theorem dX0_kernels_25 : decode cX0_kernels 25 = .ok (.iload_n 2, 1) := by decide +kernel
theorem dX0_kernels_26 : decode cX0_kernels 26 = .ok (.aload_n 0, 1) := by decide +kernel
theorem dX0_kernels_27 : decode cX0_kernels 27 = .ok (.getfield 19, 3) := by decide +kernel
theorem dX0_kernels_30 : decode cX0_kernels 30 = .ok (.iload_n 3, 1) := by decide +kernel
theorem dX0_kernels_31 : decode cX0_kernels 31 = .ok (.baload, 1) := by decide +kernel
theorem dX0_kernels_32 : decode cX0_kernels 32 = .ok (.ifCond .eq 16, 3) := by decide +kernel
theorem dX0_kernels_35 : decode cX0_kernels 35 = .ok (.aload_n 0, 1) := by decide +kernel
theorem dX0_kernels_36 : decode cX0_kernels 36 = .ok (.iload_n 1, 1) := by decide +kernel
theorem dX0_kernels_37 : decode cX0_kernels 37 = .ok (.iload_n 3, 1) := by decide +kernel
theorem dX0_kernels_38 : decode cX0_kernels 38 = .ok (.invokevirtual 85, 3) := by decide +kernel
theorem dX0_kernels_41 : decode cX0_kernels 41 = .ok (.ifCond .eq 7, 3) := by decide +kernel
theorem dX0_kernels_44 : decode cX0_kernels 44 = .ok (.iconst 1, 1) := by decide +kernel
theorem dX0_kernels_45 : decode cX0_kernels 45 = .ok (.goto 4, 3) := by decide +kernel
theorem dX0_kernels_48 : decode cX0_kernels 48 = .ok (.iconst 0, 1) := by decide +kernel
theorem dX0_kernels_49 : decode cX0_kernels 49 = .ok (.iadd, 1) := by decide +kernel
theorem dX0_kernels_50 : decode cX0_kernels 50 = .ok (.istore_n 2, 1) := by decide +kernel
theorem dX0_kernels_51 : decode cX0_kernels 51 = .ok (.iinc 3 1, 3) := by decide +kernel
theorem dX0_kernels_54 : decode cX0_kernels 54 = .ok (.goto (-36), 3) := by decide +kernel
theorem dX0_kernels_57 : decode cX0_kernels 57 = .ok (.iload_n 2, 1) := by decide +kernel
theorem dX0_kernels_58 : decode cX0_kernels 58 = .ok (.ireturn, 1) := by decide +kernel
set_option maxRecDepth 100000 in
set_option maxHeartbeats 4000000 in
theorem met_kernels (l : Launch) (Y : dL) (X : Nat → Nat → Nat) (x : Int32) (hG0 : Good X) : dMi l yX0_kernels cX0_kernels 4 (some .int) 5 Y [.int x] X (fun r X' => X' 1 = X 1 ∧ X' 2 = X 2 ∧ ((r = -1 ∧ (∀ k, k < 4 → x ≠ nI k)) ∨ ∃ e, e < 4 ∧ x = nI e ∧ r = nI (sumN (fun c => ind (Al (gr X e) (X 1 e) c ∧ ∀ d, d < c → Al (gr X e) (X 1 e) d → ¬ SK (gr X e) (X 1 e) c d)) 128))) := by
  refine d_ofi .int (own := RX0) rfl rfl (by decide) (Nat.le_of_ble_eq_true rfl) (by simp [lcat, Value.category]) ?_
  intro G hG ret
  refine j_iload_n (pc := 0) (i := 1) dX0_kernels_0 rfl rfl ?_
  refine s_calli (pc := 1) (st := []) (met_isExpression (kl G) Y.1 x) hG (by decide) dX0_kernels_1 cpD_X0_isExpression (Nat.le_of_ble_eq_true rfl) rfl (fun r1 hr1 => ?_)
  rcases hr1 with ⟨rfl, hq1⟩ | ⟨rfl, hbx⟩
  · skip
    obtain ⟨x0, hx0, rfl⟩ := hq1
    refine n_if_ne (pc := 4) (tgt := 9) dX0_kernels_4 (by decide) (by decide) (fun _ => ?_) (fun h => absurd h (by decide))
    refine j_aload_n (pc := 9) (i := 0) dX0_kernels_9 rfl rfl ?_
    refine j_iload_n (pc := 10) (i := 1) dX0_kernels_10 rfl rfl ?_
    refine d_callv (pc := 11) (st := []) (met_explore (kl G) Y X x0 hx0 hG0) hG (by decide) dX0_kernels_11 cpD_X0_explore (Nat.le_of_ble_eq_true rfl) rfl (fun X11 hr11 => ?_)
    obtain ⟨e1, e2, hv4, hv5⟩ := hr11
    refine j_iconst (pc := 14) (v := nI 0) dX0_kernels_14 (by decide) ?_
    refine j_istore_n (pc := 15) (i := 2) (lv' := [.ref (Y.2.1 0), .int (nI x0), .int (nI 0)]) dX0_kernels_15 rfl rfl ⟨(Nat.le_of_ble_eq_true rfl), (Nat.le_of_ble_eq_true rfl)⟩ ?_
    refine j_iconst (pc := 16) (v := nI 0) dX0_kernels_16 (by decide) ?_
    refine j_istore_n (pc := 17) (i := 3) (lv' := [.ref (Y.2.1 0), .int (nI x0), .int (nI 0), .int (nI 0)]) dX0_kernels_17 rfl rfl ⟨(Nat.le_of_ble_eq_true rfl), (Nat.le_of_ble_eq_true rfl)⟩ ?_
    have hgr : gr X11 x0 = gr X x0 := by unfold gr; rw [e2]
    have loop : ∀ c, c ≤ 128 → J cX0_kernels 4 RX0 G (dV G Y (dA Y) X11) 18 [.ref (Y.2.1 0), .int (nI x0), .int (nI (sumN (fun c => ind (Al (gr X x0) (X 1 x0) c ∧ ∀ d, d < c → Al (gr X x0) (X 1 x0) d → ¬ SK (gr X x0) (X 1 x0) c d)) c)), .int (nI c)] [] := by
      refine up_loop _ 128 ?_ (fun c hc ih => ?_)
      · skip
        refine j_iload_n (pc := 18) (i := 3) dX0_kernels_18 rfl rfl ?_
        refine j_sipush (pc := 19) (v := nI 128) dX0_kernels_19 (by decide) ?_
        refine n_icmp_ge (pc := 22) (tgt := 57) dX0_kernels_22 (by decide) (by omega) (fun h22 => ?_) (fun h22 => ?_)
        · skip
          refine j_iload_n (pc := 57) (i := 2) dX0_kernels_57 rfl rfl ?_
          exact ret _ _ _ _ dX0_kernels_58 rfl ⟨e1, e2, Or.inr ⟨x0, hx0, rfl, rfl⟩⟩
        · skip
          exact absurd h22 (by omega)
      · skip
        have hv := hv4 c hc
        have hvl := ind_le (Al (gr X x0) (X 1 x0) c)
        refine j_iload_n (pc := 18) (i := 3) dX0_kernels_18 rfl rfl ?_
        refine j_sipush (pc := 19) (v := nI 128) dX0_kernels_19 (by decide) ?_
        refine n_icmp_ge (pc := 22) (tgt := 57) dX0_kernels_22 (by decide) (by omega) (fun h22 => ?_) (fun h22 => ?_)
        · skip
          exact absurd h22 (by omega)
        · skip
          refine j_iload_n (pc := 25) (i := 2) dX0_kernels_25 rfl rfl ?_
          refine j_aload_n (pc := 26) (i := 0) dX0_kernels_26 rfl rfl ?_
          refine d_get_isCokernel (pc := 27) dX0_kernels_27 ?_
          refine j_iload_n (pc := 30) (i := 3) dX0_kernels_30 rfl rfl ?_
          refine d_ld_isCokernel (pc := 31) dX0_kernels_31 (by omega) ?_
          refine n_if_eq (pc := 32) (tgt := 48) dX0_kernels_32 (by decide) (by omega) (fun h32 => ?_) (fun h32 => ?_)
          · skip
            refine j_iconst (pc := 48) (v := nI 0) dX0_kernels_48 (by decide) ?_
            refine n_iadd (pc := 49) dX0_kernels_49 ?_
            refine j_istore_n (pc := 50) (i := 2) (lv' := [.ref (Y.2.1 0), .int (nI x0), .int (nI ((sumN (fun c => ind (Al (gr X x0) (X 1 x0) c ∧ ∀ d, d < c → Al (gr X x0) (X 1 x0) d → ¬ SK (gr X x0) (X 1 x0) c d)) c) + 0)), .int (nI c)]) dX0_kernels_50 rfl rfl ⟨(Nat.le_of_ble_eq_true rfl), (Nat.le_of_ble_eq_true rfl)⟩ ?_
            refine n_iinc (pc := 51) (n := 1) (lv' := [.ref (Y.2.1 0), .int (nI x0), .int (nI ((sumN (fun c => ind (Al (gr X x0) (X 1 x0) c ∧ ∀ d, d < c → Al (gr X x0) (X 1 x0) d → ¬ SK (gr X x0) (X 1 x0) c d)) c) + 0)), .int (nI (c + 1))]) dX0_kernels_51 rfl rfl (Nat.le_of_ble_eq_true rfl) ?_
            refine j_goto (pc := 54) (tgt := 18) dX0_kernels_54 (by decide) ?_
            rw [show (sumN (fun c => ind (Al (gr X x0) (X 1 x0) c ∧ ∀ d, d < c → Al (gr X x0) (X 1 x0) d → ¬ SK (gr X x0) (X 1 x0) c d)) c) + 0 = sumN (fun c => ind (Al (gr X x0) (X 1 x0) c ∧ ∀ d, d < c → Al (gr X x0) (X 1 x0) d → ¬ SK (gr X x0) (X 1 x0) c d)) (c + 1) by
              show _ = sumN (fun c => ind (Al (gr X x0) (X 1 x0) c ∧ ∀ d, d < c → Al (gr X x0) (X 1 x0) d → ¬ SK (gr X x0) (X 1 x0) c d)) c + ind (Al (gr X x0) (X 1 x0) c ∧ ∀ d, d < c → Al (gr X x0) (X 1 x0) d → ¬ SK (gr X x0) (X 1 x0) c d)
              first | (rw [ind_t ⟨hAc, hsk⟩]; done) | (rw [ind_f (fun z => by obtain ⟨d, h1, h2, h3⟩ := hsk; exact z.2 d h1 h2 h3)]; done) | rw [ind_f (fun z => by rw [hv, ind_t z.1] at h32; cases h32)]]
            exact ih
          · skip
            have hAc : Al (gr X x0) (X 1 x0) c := Classical.byContradiction (fun z => h32 (by rw [hv, ind_f z]))
            refine j_aload_n (pc := 35) (i := 0) dX0_kernels_35 rfl rfl ?_
            refine j_iload_n (pc := 36) (i := 1) dX0_kernels_36 rfl rfl ?_
            refine j_iload_n (pc := 37) (i := 3) dX0_kernels_37 rfl rfl ?_
            refine d_calli (pc := 38) (st := [.int (nI (sumN (fun c => ind (Al (gr X x0) (X 1 x0) c ∧ ∀ d, d < c → Al (gr X x0) (X 1 x0) d → ¬ SK (gr X x0) (X 1 x0) c d)) c))]) (met_isFirst (kl G) Y X11 x0 c hx0 (hG0.of e1 e2) hc (by rw [hgr, e1]; exact hAc) (by rw [hgr, e1]; exact hv4) (by rw [hgr, e1]; exact hv5)) hG (by decide) dX0_kernels_38 cpD_X0_isFirst (Nat.le_of_ble_eq_true rfl) rfl (fun r38 X38 hr38 => ?_)
            rw [hgr, e1] at hr38
            obtain ⟨hE38, hr38⟩ := hr38
            rw [hE38]
            rcases hr38 with ⟨rfl, hsk⟩ | ⟨rfl, hsk⟩
            · skip
              skip
              refine n_if_eq (pc := 41) (tgt := 48) dX0_kernels_41 (by decide) (by decide) (fun _ => ?_) (fun h => absurd h (by decide))
              refine j_iconst (pc := 48) (v := nI 0) dX0_kernels_48 (by decide) ?_
              refine n_iadd (pc := 49) dX0_kernels_49 ?_
              refine j_istore_n (pc := 50) (i := 2) (lv' := [.ref (Y.2.1 0), .int (nI x0), .int (nI ((sumN (fun c => ind (Al (gr X x0) (X 1 x0) c ∧ ∀ d, d < c → Al (gr X x0) (X 1 x0) d → ¬ SK (gr X x0) (X 1 x0) c d)) c) + 0)), .int (nI c)]) dX0_kernels_50 rfl rfl ⟨(Nat.le_of_ble_eq_true rfl), (Nat.le_of_ble_eq_true rfl)⟩ ?_
              refine n_iinc (pc := 51) (n := 1) (lv' := [.ref (Y.2.1 0), .int (nI x0), .int (nI ((sumN (fun c => ind (Al (gr X x0) (X 1 x0) c ∧ ∀ d, d < c → Al (gr X x0) (X 1 x0) d → ¬ SK (gr X x0) (X 1 x0) c d)) c) + 0)), .int (nI (c + 1))]) dX0_kernels_51 rfl rfl (Nat.le_of_ble_eq_true rfl) ?_
              refine j_goto (pc := 54) (tgt := 18) dX0_kernels_54 (by decide) ?_
              rw [show (sumN (fun c => ind (Al (gr X x0) (X 1 x0) c ∧ ∀ d, d < c → Al (gr X x0) (X 1 x0) d → ¬ SK (gr X x0) (X 1 x0) c d)) c) + 0 = sumN (fun c => ind (Al (gr X x0) (X 1 x0) c ∧ ∀ d, d < c → Al (gr X x0) (X 1 x0) d → ¬ SK (gr X x0) (X 1 x0) c d)) (c + 1) by
                show _ = sumN (fun c => ind (Al (gr X x0) (X 1 x0) c ∧ ∀ d, d < c → Al (gr X x0) (X 1 x0) d → ¬ SK (gr X x0) (X 1 x0) c d)) c + ind (Al (gr X x0) (X 1 x0) c ∧ ∀ d, d < c → Al (gr X x0) (X 1 x0) d → ¬ SK (gr X x0) (X 1 x0) c d)
                first | (rw [ind_t ⟨hAc, hsk⟩]; done) | (rw [ind_f (fun z => by obtain ⟨d, h1, h2, h3⟩ := hsk; exact z.2 d h1 h2 h3)]; done) | rw [ind_f (fun z => by rw [hv, ind_t z.1] at h32; cases h32)]]
              exact ih
            · skip
              skip
              refine n_if_eq (pc := 41) (tgt := 48) dX0_kernels_41 (by decide) (by decide) (fun h => absurd h (by decide)) (fun _ => ?_)
              refine j_iconst (pc := 44) (v := nI 1) dX0_kernels_44 (by decide) ?_
              refine j_goto (pc := 45) (tgt := 49) dX0_kernels_45 (by decide) ?_
              refine n_iadd (pc := 49) dX0_kernels_49 ?_
              refine j_istore_n (pc := 50) (i := 2) (lv' := [.ref (Y.2.1 0), .int (nI x0), .int (nI ((sumN (fun c => ind (Al (gr X x0) (X 1 x0) c ∧ ∀ d, d < c → Al (gr X x0) (X 1 x0) d → ¬ SK (gr X x0) (X 1 x0) c d)) c) + 1)), .int (nI c)]) dX0_kernels_50 rfl rfl ⟨(Nat.le_of_ble_eq_true rfl), (Nat.le_of_ble_eq_true rfl)⟩ ?_
              refine n_iinc (pc := 51) (n := 1) (lv' := [.ref (Y.2.1 0), .int (nI x0), .int (nI ((sumN (fun c => ind (Al (gr X x0) (X 1 x0) c ∧ ∀ d, d < c → Al (gr X x0) (X 1 x0) d → ¬ SK (gr X x0) (X 1 x0) c d)) c) + 1)), .int (nI (c + 1))]) dX0_kernels_51 rfl rfl (Nat.le_of_ble_eq_true rfl) ?_
              refine j_goto (pc := 54) (tgt := 18) dX0_kernels_54 (by decide) ?_
              rw [show (sumN (fun c => ind (Al (gr X x0) (X 1 x0) c ∧ ∀ d, d < c → Al (gr X x0) (X 1 x0) d → ¬ SK (gr X x0) (X 1 x0) c d)) c) + 1 = sumN (fun c => ind (Al (gr X x0) (X 1 x0) c ∧ ∀ d, d < c → Al (gr X x0) (X 1 x0) d → ¬ SK (gr X x0) (X 1 x0) c d)) (c + 1) by
                show _ = sumN (fun c => ind (Al (gr X x0) (X 1 x0) c ∧ ∀ d, d < c → Al (gr X x0) (X 1 x0) d → ¬ SK (gr X x0) (X 1 x0) c d)) c + ind (Al (gr X x0) (X 1 x0) c ∧ ∀ d, d < c → Al (gr X x0) (X 1 x0) d → ¬ SK (gr X x0) (X 1 x0) c d)
                first | (rw [ind_t ⟨hAc, hsk⟩]; done) | (rw [ind_f (fun z => by obtain ⟨d, h1, h2, h3⟩ := hsk; exact z.2 d h1 h2 h3)]; done) | rw [ind_f (fun z => by rw [hv, ind_t z.1] at h32; cases h32)]]
              exact ih
    exact loop 0 (Nat.zero_le _)
  · skip
    skip
    refine n_if_ne (pc := 4) (tgt := 9) dX0_kernels_4 (by decide) (by decide) (fun h => absurd h (by decide)) (fun _ => ?_)
    refine j_iconst (pc := 7) (v := -1) dX0_kernels_7 (by decide) ?_
    exact ret _ _ _ _ dX0_kernels_8 rfl ⟨rfl, rfl, Or.inl ⟨rfl, hbx⟩⟩

theorem dX0_nextCokernel_0 : decode cX0_nextCokernel 0 = .ok (.iload_n 1, 1) := by decide +kernel
theorem dX0_nextCokernel_1 : decode cX0_nextCokernel 1 = .ok (.invokestatic 33, 3) := by decide +kernel
theorem dX0_nextCokernel_4 : decode cX0_nextCokernel 4 = .ok (.ifCond .ne 5, 3) := by decide +kernel
theorem dX0_nextCokernel_7 : decode cX0_nextCokernel 7 = .ok (.iconst (-1), 1) := by decide +kernel
theorem dX0_nextCokernel_8 : decode cX0_nextCokernel 8 = .ok (.ireturn, 1) := by decide +kernel
theorem dX0_nextCokernel_9 : decode cX0_nextCokernel 9 = .ok (.aload_n 0, 1) := by decide +kernel
theorem dX0_nextCokernel_10 : decode cX0_nextCokernel 10 = .ok (.iload_n 1, 1) := by decide +kernel
theorem dX0_nextCokernel_11 : decode cX0_nextCokernel 11 = .ok (.invokevirtual 81, 3) := by decide +kernel
theorem dX0_nextCokernel_14 : decode cX0_nextCokernel 14 = .ok (.iload_n 2, 1) := by decide +kernel
theorem dX0_nextCokernel_15 : decode cX0_nextCokernel 15 = .ok (.ifCond .ge 7, 3) := by decide +kernel
theorem dX0_nextCokernel_18 : decode cX0_nextCokernel 18 = .ok (.iconst 0, 1) := by decide +kernel
theorem dX0_nextCokernel_19 : decode cX0_nextCokernel 19 = .ok (.goto 4, 3) := by decide +kernel
theorem dX0_nextCokernel_22 : decode cX0_nextCokernel 22 = .ok (.iload_n 2, 1) := by decide +kernel
theorem dX0_nextCokernel_23 : decode cX0_nextCokernel 23 = .ok (.istore_n 3, 1) := by decide +kernel
theorem dX0_nextCokernel_24 : decode cX0_nextCokernel 24 = .ok (.iload_n 3, 1) := by decide +kernel
theorem dX0_nextCokernel_25 : decode cX0_nextCokernel 25 = .ok (.sipush 128, 3) := by decide +kernel
theorem dX0_nextCokernel_28 : decode cX0_nextCokernel 28 = .ok (.if_icmp .ge 20, 3) := by decide +kernel
theorem dX0_nextCokernel_31 : decode cX0_nextCokernel 31 = .ok (.aload_n 0, 1) := by decide +kernel
theorem dX0_nextCokernel_32 : decode cX0_nextCokernel 32 = .ok (.getfield 19, 3) := by decide +kernel
theorem dX0_nextCokernel_35 : decode cX0_nextCokernel 35 = .ok (.iload_n 3, 1) := by decide +kernel
theorem dX0_nextCokernel_36 : decode cX0_nextCokernel 36 = .ok (.baload, 1) := by decide +kernel
theorem dX0_nextCokernel_37 : decode cX0_nextCokernel 37 = .ok (.ifCond .eq 5, 3) := by decide +kernel
theorem dX0_nextCokernel_40 : decode cX0_nextCokernel 40 = .ok (.iload_n 3, 1) := by decide +kernel
theorem dX0_nextCokernel_41 : decode cX0_nextCokernel 41 = .ok (.ireturn, 1) := by decide +kernel
theorem dX0_nextCokernel_42 : decode cX0_nextCokernel 42 = .ok (.iinc 3 1, 3) := by decide +kernel
theorem dX0_nextCokernel_45 : decode cX0_nextCokernel 45 = .ok (.goto (-21), 3) := by decide +kernel
theorem dX0_nextCokernel_48 : decode cX0_nextCokernel 48 = .ok (.iconst (-1), 1) := by decide +kernel
theorem dX0_nextCokernel_49 : decode cX0_nextCokernel 49 = .ok (.ireturn, 1) := by decide +kernel
set_option maxRecDepth 100000 in
set_option maxHeartbeats 4000000 in
theorem met_nextCokernel (l : Launch) (Y : dL) (X : Nat → Nat → Nat) (x w : Int32) (hG0 : Good X) : dMi l yX0_nextCokernel cX0_nextCokernel 4 (some .int) 5 Y [.int x, .int w] X (fun r X' => X' 1 = X 1 ∧ X' 2 = X 2 ∧ ((r = -1 ∧ (∀ k, k < 4 → x ≠ nI k)) ∨ ∃ e, e < 4 ∧ x = nI e ∧ ((r = -1 ∧ ∀ D, D < 128 → Al (gr X e) (X 1 e) D → ¬ w ≤ nI D) ∨ ∃ D, D < 128 ∧ Al (gr X e) (X 1 e) D ∧ w ≤ nI D ∧ r = nI D ∧ ∀ D', D' < D → Al (gr X e) (X 1 e) D' → ¬ w ≤ nI D'))) := by
  refine d_ofi .int (own := RX0) rfl rfl (by decide) (Nat.le_of_ble_eq_true rfl) (by simp [lcat, Value.category]) ?_
  intro G hG ret
  refine j_iload_n (pc := 0) (i := 1) dX0_nextCokernel_0 rfl rfl ?_
  refine s_calli (pc := 1) (st := []) (met_isExpression (kl G) Y.1 x) hG (by decide) dX0_nextCokernel_1 cpD_X0_isExpression (Nat.le_of_ble_eq_true rfl) rfl (fun r1 hr1 => ?_)
  rcases hr1 with ⟨rfl, hq1⟩ | ⟨rfl, hbx⟩
  · skip
    obtain ⟨x0, hx0, rfl⟩ := hq1
    refine n_if_ne (pc := 4) (tgt := 9) dX0_nextCokernel_4 (by decide) (by decide) (fun _ => ?_) (fun h => absurd h (by decide))
    refine j_aload_n (pc := 9) (i := 0) dX0_nextCokernel_9 rfl rfl ?_
    refine j_iload_n (pc := 10) (i := 1) dX0_nextCokernel_10 rfl rfl ?_
    refine d_callv (pc := 11) (st := []) (met_explore (kl G) Y X x0 hx0 hG0) hG (by decide) dX0_nextCokernel_11 cpD_X0_explore (Nat.le_of_ble_eq_true rfl) rfl (fun X11 hr11 => ?_)
    obtain ⟨e1, e2, hv4, hv5⟩ := hr11
    have loop : ∀ lo, (∀ D, D < 128 → (w ≤ nI D ↔ lo ≤ D)) → ∀ c, c ≤ 128 → lo ≤ c → (∀ D, lo ≤ D → D < c → ¬ Al (gr X x0) (X 1 x0) D) → J cX0_nextCokernel 4 RX0 G (dV G Y (dA Y) X11) 24 [.ref (Y.2.1 0), .int (nI x0), .int w, .int (nI c)] [] := by
      intro lo hlo
      refine up_loop _ 128 (fun hl hno => ?_) (fun c hc ih hl hno => ?_)
      · skip
        refine j_iload_n (pc := 24) (i := 3) dX0_nextCokernel_24 rfl rfl ?_
        refine j_sipush (pc := 25) (v := nI 128) dX0_nextCokernel_25 (by decide) ?_
        refine n_icmp_ge (pc := 28) (tgt := 48) dX0_nextCokernel_28 (by decide) (by omega) (fun h28 => ?_) (fun h28 => ?_)
        · skip
          refine j_iconst (pc := 48) (v := -1) dX0_nextCokernel_48 (by decide) ?_
          exact ret _ _ _ _ dX0_nextCokernel_49 rfl ⟨e1, e2, Or.inr ⟨x0, hx0, rfl, Or.inl ⟨rfl, fun D hD hA z => hno D ((hlo D hD).mp z) hD hA⟩⟩⟩
        · skip
          exact absurd h28 (by omega)
      · skip
        have hv := hv4 c hc
        have hvl := ind_le (Al (gr X x0) (X 1 x0) c)
        refine j_iload_n (pc := 24) (i := 3) dX0_nextCokernel_24 rfl rfl ?_
        refine j_sipush (pc := 25) (v := nI 128) dX0_nextCokernel_25 (by decide) ?_
        refine n_icmp_ge (pc := 28) (tgt := 48) dX0_nextCokernel_28 (by decide) (by omega) (fun h28 => ?_) (fun h28 => ?_)
        · skip
          exact absurd h28 (by omega)
        · skip
          refine j_aload_n (pc := 31) (i := 0) dX0_nextCokernel_31 rfl rfl ?_
          refine d_get_isCokernel (pc := 32) dX0_nextCokernel_32 ?_
          refine j_iload_n (pc := 35) (i := 3) dX0_nextCokernel_35 rfl rfl ?_
          refine d_ld_isCokernel (pc := 36) dX0_nextCokernel_36 (by omega) ?_
          refine n_if_eq (pc := 37) (tgt := 42) dX0_nextCokernel_37 (by decide) (by omega) (fun h37 => ?_) (fun h37 => ?_)
          · skip
            refine n_iinc (pc := 42) (n := 1) (lv' := [.ref (Y.2.1 0), .int (nI x0), .int w, .int (nI (c + 1))]) dX0_nextCokernel_42 rfl rfl (Nat.le_of_ble_eq_true rfl) ?_
            refine j_goto (pc := 45) (tgt := 24) dX0_nextCokernel_45 (by decide) ?_
            refine ih (by omega) (fun D h1 h2 => ?_)
            rcases Nat.lt_or_ge D c with z | z
            · exact hno D h1 z
            · rw [show D = c by omega]
              intro y
              rw [hv, ind_t y] at h37
              cases h37
          · skip
            have hAc : Al (gr X x0) (X 1 x0) c := Classical.byContradiction (fun z => h37 (by rw [hv, ind_f z]))
            refine j_iload_n (pc := 40) (i := 3) dX0_nextCokernel_40 rfl rfl ?_
            exact ret _ _ _ _ dX0_nextCokernel_41 rfl ⟨e1, e2, Or.inr ⟨x0, hx0, rfl, Or.inr ⟨c, hc, hAc, (hlo c hc).mpr hl, rfl, fun D' hD' hA z => hno D' ((hlo D' (by omega)).mp z) hD' hA⟩⟩⟩
    refine j_iload_n (pc := 14) (i := 2) dX0_nextCokernel_14 rfl rfl ?_
    refine j_if_ge (pc := 15) (tgt := 22) dX0_nextCokernel_15 (by decide) (fun h15 => ?_) (fun h15 => ?_)
    · skip
      obtain ⟨w0, hw0, rfl⟩ := nI_of (show ¬ w < 0 from fun z => by rw [Int32.lt_iff_toInt_lt] at z; rw [Int32.le_iff_toInt_le] at h15; omega)
      refine j_iload_n (pc := 22) (i := 2) dX0_nextCokernel_22 rfl rfl ?_
      refine j_istore_n (pc := 23) (i := 3) (lv' := [.ref (Y.2.1 0), .int (nI x0), .int (nI w0), .int (nI w0)]) dX0_nextCokernel_23 rfl rfl ⟨(Nat.le_of_ble_eq_true rfl), (Nat.le_of_ble_eq_true rfl)⟩ ?_
      rcases Nat.lt_or_ge w0 128 with z | z
      · exact loop w0 (fun D hD => nI_leI hw0 (by omega)) w0 (by omega) (Nat.le_refl _) (fun D h1 h2 => absurd h2 (by omega))
      · skip
        refine j_iload_n (pc := 24) (i := 3) dX0_nextCokernel_24 rfl rfl ?_
        refine j_sipush (pc := 25) (v := nI 128) dX0_nextCokernel_25 (by decide) ?_
        refine n_icmp_ge (pc := 28) (tgt := 48) dX0_nextCokernel_28 (by decide) (by omega) (fun h28 => ?_) (fun h28 => ?_)
        · skip
          refine j_iconst (pc := 48) (v := -1) dX0_nextCokernel_48 (by decide) ?_
          exact ret _ _ _ _ dX0_nextCokernel_49 rfl ⟨e1, e2, Or.inr ⟨x0, hx0, rfl, Or.inl ⟨rfl, fun D hD hA z => absurd ((nI_leI hw0 (by omega)).mp z) (by omega)⟩⟩⟩
        · skip
          exact absurd h28 (by omega)
    · skip
      refine j_iconst (pc := 18) (v := nI 0) dX0_nextCokernel_18 (by decide) ?_
      refine j_goto (pc := 19) (tgt := 23) dX0_nextCokernel_19 (by decide) ?_
      refine j_istore_n (pc := 23) (i := 3) (lv' := [.ref (Y.2.1 0), .int (nI x0), .int w, .int (nI 0)]) dX0_nextCokernel_23 rfl rfl ⟨(Nat.le_of_ble_eq_true rfl), (Nat.le_of_ble_eq_true rfl)⟩ ?_
      exact loop 0 (fun D hD => ⟨fun _ => Nat.zero_le _, fun _ => by rw [Int32.le_iff_toInt_le] at h15 ⊢; rw [nI_toInt (by omega)]; have := Int32.toInt_zero; omega⟩) 0 (Nat.zero_le _) (Nat.le_refl _) (fun D h1 h2 => absurd h2 (by omega))
  · skip
    skip
    refine n_if_ne (pc := 4) (tgt := 9) dX0_nextCokernel_4 (by decide) (by decide) (fun h => absurd h (by decide)) (fun _ => ?_)
    refine j_iconst (pc := 7) (v := -1) dX0_nextCokernel_7 (by decide) ?_
    exact ret _ _ _ _ dX0_nextCokernel_8 rfl ⟨rfl, rfl, Or.inl ⟨rfl, hbx⟩⟩
end
section
/-! the reference: its simple methods -/
def ms (Z : Nat → Nat → Bool) (e : Nat) : Nat → Bool := fun c => Z 0 (128 * e + c)
def cntB (q : Nat → Bool) : Nat → Nat
  | 0 => 0
  | i + 1 => if q i then cntB q i + 1 else cntB q i
theorem cntB_le (q : Nat → Bool) : ∀ n, cntB q n ≤ n
  | 0 => Nat.le_refl _
  | n + 1 => by
    have := cntB_le q n
    unfold cntB
    split <;> omega
def comB (q : Nat → Bool) : Nat → Nat
  | 0 => 127
  | c + 1 => if q c then comB q c &&& c else comB q c
theorem comB_le (q : Nat → Bool) : ∀ n, comB q n ≤ 127
  | 0 => Nat.le_refl _
  | n + 1 => by
    have := comB_le q n
    unfold comB
    split
    · exact Nat.le_trans Nat.and_le_left this
    · exact this
def qh (Z : Nat → Nat → Bool) (f c x : Nat) : Bool := decide (x &&& c = 0) && ms Z f (x ||| c)
theorem rg_dec (x : Int32) {N : Nat} (hN : N < 2147483648) : (∃ k, k < N ∧ x = nI k) ∨ ∀ k, k < N → x ≠ nI k := by
  rcases pk_ix x (show N < 2 ^ 31 by omega) with q | q | q
  · exact Or.inr (rg_neg (by omega) q)
  · exact Or.inr (rg_hi hN q)
  · exact Or.inl q

theorem dX1_expression_0 : decode cX1_expression 0 = .ok (.iload_n 1, 1) := by decide +kernel
theorem dX1_expression_1 : decode cX1_expression 1 = .ok (.ifCond .lt 12, 3) := by decide +kernel
theorem dX1_expression_4 : decode cX1_expression 4 = .ok (.iload_n 1, 1) := by decide +kernel
theorem dX1_expression_5 : decode cX1_expression 5 = .ok (.iconst 3, 1) := by decide +kernel
theorem dX1_expression_6 : decode cX1_expression 6 = .ok (.if_icmp .gt 7, 3) := by decide +kernel
theorem dX1_expression_9 : decode cX1_expression 9 = .ok (.iconst 1, 1) := by decide +kernel
theorem dX1_expression_10 : decode cX1_expression 10 = .ok (.goto 4, 3) := by decide +kernel
theorem dX1_expression_13 : decode cX1_expression 13 = .ok (.iconst 0, 1) := by decide +kernel
theorem dX1_expression_14 : decode cX1_expression 14 = .ok (.ireturn, 1) := by decide +kernel
set_option maxRecDepth 100000 in
set_option maxHeartbeats 4000000 in
theorem met_mexpression (l : Launch) (Y : dL) (Z : Nat → Nat → Bool) (x : Int32) : mMi l yX1_expression cX1_expression 2 (some .boolean) 1 Y [.int x] Z (fun r Z' => Z' = Z ∧ ((r = nI 1 ∧ ∃ k, k < 4 ∧ x = nI k) ∨ (r = nI 0 ∧ ∀ k, k < 4 → x ≠ nI k))) := by
  refine m_ofi .boolean (own := RX1) rfl rfl (by decide) (Nat.le_of_ble_eq_true rfl) (by simp [lcat, Value.category]) ?_
  intro G hG ret
  refine j_iload_n (pc := 0) (i := 1) dX1_expression_0 rfl rfl ?_
  refine j_if_lt (pc := 1) (tgt := 13) dX1_expression_1 (by decide) (fun h1 => ?_) (fun h1 => ?_)
  · skip
    have hbad := rg_neg (N := 4) (by decide) h1
    refine j_iconst (pc := 13) (v := nI 0) dX1_expression_13 (by decide) ?_
    exact ret _ _ _ _ dX1_expression_14 rfl ⟨rfl, Or.inr ⟨rfl, hbad⟩⟩
  · skip
    have hneg := h1
    refine j_iload_n (pc := 4) (i := 1) dX1_expression_4 rfl rfl ?_
    refine j_iconst (pc := 5) (v := nI 3) dX1_expression_5 (by decide) ?_
    refine j_icmp_gt (pc := 6) (tgt := 13) dX1_expression_6 (by decide) (fun h6 => ?_) (fun h6 => ?_)
    · skip
      have hbad := rg_gt (N := 3) (by decide) h6
      refine j_iconst (pc := 13) (v := nI 0) dX1_expression_13 (by decide) ?_
      exact ret _ _ _ _ dX1_expression_14 rfl ⟨rfl, Or.inr ⟨rfl, hbad⟩⟩
    · skip
      have hhi := h6
      refine j_iconst (pc := 9) (v := nI 1) dX1_expression_9 (by decide) ?_
      refine j_goto (pc := 10) (tgt := 14) dX1_expression_10 (by decide) ?_
      exact ret _ _ _ _ dX1_expression_14 rfl ⟨rfl, Or.inl ⟨rfl, rg_inl (N := 3) (by decide) hneg hhi⟩⟩

theorem dX1_isCube_0 : decode cX1_isCube 0 = .ok (.iload_n 1, 1) := by decide +kernel
theorem dX1_isCube_1 : decode cX1_isCube 1 = .ok (.ifCond .lt 13, 3) := by decide +kernel
theorem dX1_isCube_4 : decode cX1_isCube 4 = .ok (.iload_n 1, 1) := by decide +kernel
theorem dX1_isCube_5 : decode cX1_isCube 5 = .ok (.bipush 127, 2) := by decide +kernel
theorem dX1_isCube_7 : decode cX1_isCube 7 = .ok (.if_icmp .gt 7, 3) := by decide +kernel
theorem dX1_isCube_10 : decode cX1_isCube 10 = .ok (.iconst 1, 1) := by decide +kernel
theorem dX1_isCube_11 : decode cX1_isCube 11 = .ok (.goto 4, 3) := by decide +kernel
theorem dX1_isCube_14 : decode cX1_isCube 14 = .ok (.iconst 0, 1) := by decide +kernel
theorem dX1_isCube_15 : decode cX1_isCube 15 = .ok (.ireturn, 1) := by decide +kernel
set_option maxRecDepth 100000 in
set_option maxHeartbeats 4000000 in
theorem met_misCube (l : Launch) (Y : dL) (Z : Nat → Nat → Bool) (x : Int32) : mMi l yX1_isCube cX1_isCube 2 (some .boolean) 1 Y [.int x] Z (fun r Z' => Z' = Z ∧ ((r = nI 1 ∧ ∃ k, k < 128 ∧ x = nI k) ∨ (r = nI 0 ∧ ∀ k, k < 128 → x ≠ nI k))) := by
  refine m_ofi .boolean (own := RX1) rfl rfl (by decide) (Nat.le_of_ble_eq_true rfl) (by simp [lcat, Value.category]) ?_
  intro G hG ret
  refine j_iload_n (pc := 0) (i := 1) dX1_isCube_0 rfl rfl ?_
  refine j_if_lt (pc := 1) (tgt := 14) dX1_isCube_1 (by decide) (fun h1 => ?_) (fun h1 => ?_)
  · skip
    have hbad := rg_neg (N := 128) (by decide) h1
    refine j_iconst (pc := 14) (v := nI 0) dX1_isCube_14 (by decide) ?_
    exact ret _ _ _ _ dX1_isCube_15 rfl ⟨rfl, Or.inr ⟨rfl, hbad⟩⟩
  · skip
    have hneg := h1
    refine j_iload_n (pc := 4) (i := 1) dX1_isCube_4 rfl rfl ?_
    refine j_bipush (pc := 5) (v := nI 127) dX1_isCube_5 (by decide) ?_
    refine j_icmp_gt (pc := 7) (tgt := 14) dX1_isCube_7 (by decide) (fun h7 => ?_) (fun h7 => ?_)
    · skip
      have hbad := rg_gt (N := 127) (by decide) h7
      refine j_iconst (pc := 14) (v := nI 0) dX1_isCube_14 (by decide) ?_
      exact ret _ _ _ _ dX1_isCube_15 rfl ⟨rfl, Or.inr ⟨rfl, hbad⟩⟩
    · skip
      have hhi := h7
      refine j_iconst (pc := 10) (v := nI 1) dX1_isCube_10 (by decide) ?_
      refine j_goto (pc := 11) (tgt := 15) dX1_isCube_11 (by decide) ?_
      exact ret _ _ _ _ dX1_isCube_15 rfl ⟨rfl, Or.inl ⟨rfl, rg_inl (N := 127) (by decide) hneg hhi⟩⟩

theorem dX1_letters_0 : decode cX1_letters 0 = .ok (.iconst 0, 1) := by decide +kernel
theorem dX1_letters_1 : decode cX1_letters 1 = .ok (.istore_n 2, 1) := by decide +kernel
theorem dX1_letters_2 : decode cX1_letters 2 = .ok (.iconst 0, 1) := by decide +kernel
theorem dX1_letters_3 : decode cX1_letters 3 = .ok (.istore_n 3, 1) := by decide +kernel
theorem dX1_letters_4 : decode cX1_letters 4 = .ok (.iload_n 3, 1) := by decide +kernel
theorem dX1_letters_5 : decode cX1_letters 5 = .ok (.bipush 7, 2) := by decide +kernel
theorem dX1_letters_7 : decode cX1_letters 7 = .ok (.if_icmp .ge 17, 3) := by decide +kernel
theorem dX1_letters_10 : decode cX1_letters 10 = .ok (.iload_n 2, 1) := by decide +kernel
theorem dX1_letters_11 : decode cX1_letters 11 = .ok (.iload_n 1, 1) := by decide +kernel
theorem dX1_letters_12 : decode cX1_letters 12 = .ok (.iload_n 3, 1) := by decide +kernel
theorem dX1_letters_13 : decode cX1_letters 13 = .ok (.ishr, 1) := by decide +kernel
theorem dX1_letters_14 : decode cX1_letters 14 = .ok (.iconst 1, 1) := by decide +kernel
theorem dX1_letters_15 : decode cX1_letters 15 = .ok (.iand, 1) := by decide +kernel
theorem dX1_letters_16 : decode cX1_letters 16 = .ok (.iadd, 1) := by decide +kernel
theorem dX1_letters_17 : decode cX1_letters 17 = .ok (.istore_n 2, 1) := by decide +kernel
theorem dX1_letters_18 : decode cX1_letters 18 = .ok (.iinc 3 1, 3) := by decide +kernel
theorem dX1_letters_21 : decode cX1_letters 21 = .ok (.goto (-17), 3) := by decide +kernel
theorem dX1_letters_24 : decode cX1_letters 24 = .ok (.iload_n 2, 1) := by decide +kernel
theorem dX1_letters_25 : decode cX1_letters 25 = .ok (.ireturn, 1) := by decide +kernel
set_option maxRecDepth 100000 in
set_option maxHeartbeats 4000000 in
theorem met_mletters (l : Launch) (Y : dL) (Z : Nat → Nat → Bool) (a : Nat) (ha : a < 2147483648) : mMi l yX1_letters cX1_letters 4 (some .int) 1 Y [.int (nI a)] Z (fun r Z' => Z' = Z ∧ r = nI (pop a 7)) := by
  refine m_ofi .int (own := RX1) rfl rfl (by decide) (Nat.le_of_ble_eq_true rfl) (by simp [lcat, Value.category]) ?_
  intro G hG ret
  have loop : ∀ i, i ≤ 7 → J cX1_letters 4 RX1 G (mV G Y (mA Y) Z) 4 [.ref (Y.2.1 0), .int (nI a), .int (nI (pop a i)), .int (nI i)] [] := by
    refine up_loop _ 7 ?_ (fun i hi ih => ?_)
    · skip
      refine j_iload_n (pc := 4) (i := 3) dX1_letters_4 rfl rfl ?_
      refine j_bipush (pc := 5) (v := nI 7) dX1_letters_5 (by decide) ?_
      refine n_icmp_ge (pc := 7) (tgt := 24) dX1_letters_7 (by decide) (by omega) (fun h7 => ?_) (fun h7 => ?_)
      · skip
        refine j_iload_n (pc := 24) (i := 2) dX1_letters_24 rfl rfl ?_
        exact ret _ _ _ _ dX1_letters_25 rfl ⟨rfl, rfl⟩
      · skip
        exact absurd h7 (by omega)
    · skip
      refine j_iload_n (pc := 4) (i := 3) dX1_letters_4 rfl rfl ?_
      refine j_bipush (pc := 5) (v := nI 7) dX1_letters_5 (by decide) ?_
      refine n_icmp_ge (pc := 7) (tgt := 24) dX1_letters_7 (by decide) (by omega) (fun h7 => ?_) (fun h7 => ?_)
      · skip
        exact absurd h7 (by omega)
      · skip
        refine j_iload_n (pc := 10) (i := 2) dX1_letters_10 rfl rfl ?_
        refine j_iload_n (pc := 11) (i := 1) dX1_letters_11 rfl rfl ?_
        refine j_iload_n (pc := 12) (i := 3) dX1_letters_12 rfl rfl ?_
        refine n_ishr (pc := 13) dX1_letters_13 (by omega) ?_
        refine j_iconst (pc := 14) (v := nI 1) dX1_letters_14 (by decide) ?_
        refine n_iand (pc := 15) dX1_letters_15 ?_
        refine n_iadd (pc := 16) dX1_letters_16 ?_
        refine j_istore_n (pc := 17) (i := 2) (lv' := [.ref (Y.2.1 0), .int (nI a), .int (nI ((pop a i) + ((a / 2 ^ i) &&& 1))), .int (nI i)]) dX1_letters_17 rfl rfl ⟨(Nat.le_of_ble_eq_true rfl), (Nat.le_of_ble_eq_true rfl)⟩ ?_
        refine n_iinc (pc := 18) (n := 1) (lv' := [.ref (Y.2.1 0), .int (nI a), .int (nI ((pop a i) + ((a / 2 ^ i) &&& 1))), .int (nI (i + 1))]) dX1_letters_18 rfl rfl (Nat.le_of_ble_eq_true rfl) ?_
        refine j_goto (pc := 21) (tgt := 4) dX1_letters_21 (by decide) ?_
        have hb := nn_bit a i
        rw [show pop a i + (a / 2 ^ i &&& 1) = pop a (i + 1) by rw [Nat.and_one_is_mod, hb]; rfl]
        exact ih
  refine j_iconst (pc := 0) (v := nI 0) dX1_letters_0 (by decide) ?_
  refine j_istore_n (pc := 1) (i := 2) (lv' := [.ref (Y.2.1 0), .int (nI a), .int (nI 0)]) dX1_letters_1 rfl rfl ⟨(Nat.le_of_ble_eq_true rfl), (Nat.le_of_ble_eq_true rfl)⟩ ?_
  refine j_iconst (pc := 2) (v := nI 0) dX1_letters_2 (by decide) ?_
  refine j_istore_n (pc := 3) (i := 3) (lv' := [.ref (Y.2.1 0), .int (nI a), .int (nI 0), .int (nI 0)]) dX1_letters_3 rfl rfl ⟨(Nat.le_of_ble_eq_true rfl), (Nat.le_of_ble_eq_true rfl)⟩ ?_
  exact loop 0 (Nat.zero_le _)

theorem dX1_many_0 : decode cX1_many 0 = .ok (.iconst 0, 1) := by decide +kernel
theorem dX1_many_1 : decode cX1_many 1 = .ok (.istore_n 2, 1) := by decide +kernel
theorem dX1_many_2 : decode cX1_many 2 = .ok (.iconst 0, 1) := by decide +kernel
theorem dX1_many_3 : decode cX1_many 3 = .ok (.istore_n 3, 1) := by decide +kernel
theorem dX1_many_4 : decode cX1_many 4 = .ok (.iload_n 3, 1) := by decide +kernel
theorem dX1_many_5 : decode cX1_many 5 = .ok (.sipush 128, 3) := by decide +kernel
theorem dX1_many_8 : decode cX1_many 8 = .ok (.if_icmp .ge 32, 3) := by decide +kernel
theorem dX1_many_11 : decode cX1_many 11 = .ok (.aload_n 0, 1) := by decide +kernel
theorem dX1_many_12 : decode cX1_many 12 = .ok (.getfield 7, 3) := by decide +kernel
theorem dX1_many_15 : decode cX1_many 15 = .ok (.sipush 128, 3) := by decide +kernel
theorem dX1_many_18 : decode cX1_many 18 = .ok (.iload_n 1, 1) := by decide +kernel
theorem dX1_many_19 : decode cX1_many 19 = .ok (.imul, 1) := by decide +kernel
theorem dX1_many_20 : decode cX1_many 20 = .ok (.iload_n 3, 1) := by decide +kernel
theorem dX1_many_21 : decode cX1_many 21 = .ok (.iadd, 1) := by decide +kernel
theorem dX1_many_22 : decode cX1_many 22 = .ok (.baload, 1) := by decide +kernel
theorem dX1_many_23 : decode cX1_many 23 = .ok (.ifCond .eq 9, 3) := by decide +kernel
theorem dX1_many_26 : decode cX1_many 26 = .ok (.iload_n 2, 1) := by decide +kernel
theorem dX1_many_27 : decode cX1_many 27 = .ok (.iconst 1, 1) := by decide +kernel
theorem dX1_many_28 : decode cX1_many 28 = .ok (.iadd, 1) := by decide +kernel
theorem dX1_many_29 : decode cX1_many 29 = .ok (.goto 4, 3) := by decide +kernel
theorem dX1_many_32 : decode cX1_many 32 = .ok (.iload_n 2, 1) := by decide +kernel
theorem dX1_many_33 : decode cX1_many 33 = .ok (.istore_n 2, 1) := by decide +kernel
theorem dX1_many_34 : decode cX1_many 34 = .ok (.iinc 3 1, 3) := by decide +kernel
theorem dX1_many_37 : decode cX1_many 37 = .ok (.goto (-33), 3) := by decide +kernel
theorem dX1_many_40 : decode cX1_many 40 = .ok (.iload_n 2, 1) := by decide +kernel
theorem dX1_many_41 : decode cX1_many 41 = .ok (.ireturn, 1) := by decide +kernel
set_option maxRecDepth 100000 in
set_option maxHeartbeats 4000000 in
theorem met_mmany (l : Launch) (Y : dL) (Z : Nat → Nat → Bool) (e : Nat) (he : e < 4) : mMi l yX1_many cX1_many 4 (some .int) 1 Y [.int (nI e)] Z (fun r Z' => Z' = Z ∧ r = nI (cntB (ms Z e) 128)) := by
  refine m_ofi .int (own := RX1) rfl rfl (by decide) (Nat.le_of_ble_eq_true rfl) (by simp [lcat, Value.category]) ?_
  intro G hG ret
  have loop : ∀ c, c ≤ 128 → J cX1_many 4 RX1 G (mV G Y (mA Y) Z) 4 [.ref (Y.2.1 0), .int (nI e), .int (nI (cntB (ms Z e) c)), .int (nI c)] [] := by
    refine up_loop _ 128 ?_ (fun c hc ih => ?_)
    · skip
      refine j_iload_n (pc := 4) (i := 3) dX1_many_4 rfl rfl ?_
      refine j_sipush (pc := 5) (v := nI 128) dX1_many_5 (by decide) ?_
      refine n_icmp_ge (pc := 8) (tgt := 40) dX1_many_8 (by decide) (by omega) (fun h8 => ?_) (fun h8 => ?_)
      · skip
        refine j_iload_n (pc := 40) (i := 2) dX1_many_40 rfl rfl ?_
        exact ret _ _ _ _ dX1_many_41 rfl ⟨rfl, rfl⟩
      · skip
        exact absurd h8 (by omega)
    · skip
      refine j_iload_n (pc := 4) (i := 3) dX1_many_4 rfl rfl ?_
      refine j_sipush (pc := 5) (v := nI 128) dX1_many_5 (by decide) ?_
      refine n_icmp_ge (pc := 8) (tgt := 40) dX1_many_8 (by decide) (by omega) (fun h8 => ?_) (fun h8 => ?_)
      · skip
        exact absurd h8 (by omega)
      · skip
        refine j_aload_n (pc := 11) (i := 0) dX1_many_11 rfl rfl ?_
        refine m_get_in (pc := 12) dX1_many_12 ?_
        refine j_sipush (pc := 15) (v := nI 128) dX1_many_15 (by decide) ?_
        refine j_iload_n (pc := 18) (i := 1) dX1_many_18 rfl rfl ?_
        refine n_imul (pc := 19) dX1_many_19 ?_
        refine j_iload_n (pc := 20) (i := 3) dX1_many_20 rfl rfl ?_
        refine n_iadd (pc := 21) dX1_many_21 ?_
        refine m_ld_in (pc := 22) dX1_many_22 (by omega) ?_
        refine b_if_eq (pc := 23) (tgt := 32) dX1_many_23 (by decide) (fun h23 => ?_) (fun h23 => ?_)
        · skip
          refine j_iload_n (pc := 32) (i := 2) dX1_many_32 rfl rfl ?_
          refine j_istore_n (pc := 33) (i := 2) (lv' := [.ref (Y.2.1 0), .int (nI e), .int (nI (cntB (ms Z e) c)), .int (nI c)]) dX1_many_33 rfl rfl ⟨(Nat.le_of_ble_eq_true rfl), (Nat.le_of_ble_eq_true rfl)⟩ ?_
          refine n_iinc (pc := 34) (n := 1) (lv' := [.ref (Y.2.1 0), .int (nI e), .int (nI (cntB (ms Z e) c)), .int (nI (c + 1))]) dX1_many_34 rfl rfl (Nat.le_of_ble_eq_true rfl) ?_
          refine j_goto (pc := 37) (tgt := 4) dX1_many_37 (by decide) ?_
          rw [show cntB (ms Z e) c = cntB (ms Z e) (c + 1) by simp [cntB, ms, h23]]
          exact ih
        · skip
          refine j_iload_n (pc := 26) (i := 2) dX1_many_26 rfl rfl ?_
          refine j_iconst (pc := 27) (v := nI 1) dX1_many_27 (by decide) ?_
          refine n_iadd (pc := 28) dX1_many_28 ?_
          refine j_goto (pc := 29) (tgt := 33) dX1_many_29 (by decide) ?_
          refine j_istore_n (pc := 33) (i := 2) (lv' := [.ref (Y.2.1 0), .int (nI e), .int (nI ((cntB (ms Z e) c) + 1)), .int (nI c)]) dX1_many_33 rfl rfl ⟨(Nat.le_of_ble_eq_true rfl), (Nat.le_of_ble_eq_true rfl)⟩ ?_
          refine n_iinc (pc := 34) (n := 1) (lv' := [.ref (Y.2.1 0), .int (nI e), .int (nI ((cntB (ms Z e) c) + 1)), .int (nI (c + 1))]) dX1_many_34 rfl rfl (Nat.le_of_ble_eq_true rfl) ?_
          refine j_goto (pc := 37) (tgt := 4) dX1_many_37 (by decide) ?_
          rw [show (cntB (ms Z e) c) + 1 = cntB (ms Z e) (c + 1) by simp [cntB, ms, h23]]
          exact ih
  refine j_iconst (pc := 0) (v := nI 0) dX1_many_0 (by decide) ?_
  refine j_istore_n (pc := 1) (i := 2) (lv' := [.ref (Y.2.1 0), .int (nI e), .int (nI 0)]) dX1_many_1 rfl rfl ⟨(Nat.le_of_ble_eq_true rfl), (Nat.le_of_ble_eq_true rfl)⟩ ?_
  refine j_iconst (pc := 2) (v := nI 0) dX1_many_2 (by decide) ?_
  refine j_istore_n (pc := 3) (i := 3) (lv' := [.ref (Y.2.1 0), .int (nI e), .int (nI 0), .int (nI 0)]) dX1_many_3 rfl rfl ⟨(Nat.le_of_ble_eq_true rfl), (Nat.le_of_ble_eq_true rfl)⟩ ?_
  exact loop 0 (Nat.zero_le _)

theorem dX1_quotientHas_0 : decode cX1_quotientHas 0 = .ok (.iload_n 3, 1) := by decide +kernel
theorem dX1_quotientHas_1 : decode cX1_quotientHas 1 = .ok (.iload_n 2, 1) := by decide +kernel
theorem dX1_quotientHas_2 : decode cX1_quotientHas 2 = .ok (.iand, 1) := by decide +kernel
theorem dX1_quotientHas_3 : decode cX1_quotientHas 3 = .ok (.ifCond .ne 24, 3) := by decide +kernel
theorem dX1_quotientHas_6 : decode cX1_quotientHas 6 = .ok (.aload_n 0, 1) := by decide +kernel
theorem dX1_quotientHas_7 : decode cX1_quotientHas 7 = .ok (.getfield 7, 3) := by decide +kernel
theorem dX1_quotientHas_10 : decode cX1_quotientHas 10 = .ok (.sipush 128, 3) := by decide +kernel
theorem dX1_quotientHas_13 : decode cX1_quotientHas 13 = .ok (.iload_n 1, 1) := by decide +kernel
theorem dX1_quotientHas_14 : decode cX1_quotientHas 14 = .ok (.imul, 1) := by decide +kernel
theorem dX1_quotientHas_15 : decode cX1_quotientHas 15 = .ok (.iload_n 3, 1) := by decide +kernel
theorem dX1_quotientHas_16 : decode cX1_quotientHas 16 = .ok (.iload_n 2, 1) := by decide +kernel
theorem dX1_quotientHas_17 : decode cX1_quotientHas 17 = .ok (.ior, 1) := by decide +kernel
theorem dX1_quotientHas_18 : decode cX1_quotientHas 18 = .ok (.iadd, 1) := by decide +kernel
theorem dX1_quotientHas_19 : decode cX1_quotientHas 19 = .ok (.baload, 1) := by decide +kernel
theorem dX1_quotientHas_20 : decode cX1_quotientHas 20 = .ok (.ifCond .eq 7, 3) := by decide +kernel
theorem dX1_quotientHas_23 : decode cX1_quotientHas 23 = .ok (.iconst 1, 1) := by decide +kernel
theorem dX1_quotientHas_24 : decode cX1_quotientHas 24 = .ok (.goto 4, 3) := by decide +kernel
theorem dX1_quotientHas_27 : decode cX1_quotientHas 27 = .ok (.iconst 0, 1) := by decide +kernel
theorem dX1_quotientHas_28 : decode cX1_quotientHas 28 = .ok (.ireturn, 1) := by decide +kernel
set_option maxRecDepth 100000 in
set_option maxHeartbeats 4000000 in
theorem met_mquotientHas (l : Launch) (Y : dL) (Z : Nat → Nat → Bool) (f c x : Nat) (hf : f < 4) (hc : c < 128) (hx : x < 128) : mMi l yX1_quotientHas cX1_quotientHas 4 (some .boolean) 1 Y [.int (nI f), .int (nI c), .int (nI x)] Z (fun r Z' => Z' = Z ∧ r = nI (qh Z f c x).toNat) := by
  refine m_ofi .boolean (own := RX1) rfl rfl (by decide) (Nat.le_of_ble_eq_true rfl) (by simp [lcat, Value.category]) ?_
  intro G hG ret
  have hor : x ||| c < 128 := Nat.or_lt_two_pow (n := 7) hx hc
  have hand : x &&& c < 128 := Nat.lt_of_le_of_lt Nat.and_le_left hx
  refine j_iload_n (pc := 0) (i := 3) dX1_quotientHas_0 rfl rfl ?_
  refine j_iload_n (pc := 1) (i := 2) dX1_quotientHas_1 rfl rfl ?_
  refine n_iand (pc := 2) dX1_quotientHas_2 ?_
  refine n_if_ne (pc := 3) (tgt := 27) dX1_quotientHas_3 (by decide) (by omega) (fun h3 => ?_) (fun h3 => ?_)
  · skip
    refine j_iconst (pc := 27) (v := nI 0) dX1_quotientHas_27 (by decide) ?_
    exact ret _ _ _ _ dX1_quotientHas_28 rfl ⟨rfl, by unfold qh ms; first | (rw [decide_eq_true h3, h20]; rfl) | (rw [decide_eq_false h3]; rfl)⟩
  · skip
    refine j_aload_n (pc := 6) (i := 0) dX1_quotientHas_6 rfl rfl ?_
    refine m_get_in (pc := 7) dX1_quotientHas_7 ?_
    refine j_sipush (pc := 10) (v := nI 128) dX1_quotientHas_10 (by decide) ?_
    refine j_iload_n (pc := 13) (i := 1) dX1_quotientHas_13 rfl rfl ?_
    refine n_imul (pc := 14) dX1_quotientHas_14 ?_
    refine j_iload_n (pc := 15) (i := 3) dX1_quotientHas_15 rfl rfl ?_
    refine j_iload_n (pc := 16) (i := 2) dX1_quotientHas_16 rfl rfl ?_
    refine n_ior (pc := 17) dX1_quotientHas_17 ?_
    refine n_iadd (pc := 18) dX1_quotientHas_18 ?_
    refine m_ld_in (pc := 19) dX1_quotientHas_19 (by omega) ?_
    refine b_if_eq (pc := 20) (tgt := 27) dX1_quotientHas_20 (by decide) (fun h20 => ?_) (fun h20 => ?_)
    · skip
      refine j_iconst (pc := 27) (v := nI 0) dX1_quotientHas_27 (by decide) ?_
      exact ret _ _ _ _ dX1_quotientHas_28 rfl ⟨rfl, by unfold qh ms; first | (rw [decide_eq_true h3, h20]; rfl) | (rw [decide_eq_false h3]; rfl)⟩
    · skip
      refine j_iconst (pc := 23) (v := nI 1) dX1_quotientHas_23 (by decide) ?_
      refine j_goto (pc := 24) (tgt := 28) dX1_quotientHas_24 (by decide) ?_
      exact ret _ _ _ _ dX1_quotientHas_28 rfl ⟨rfl, by unfold qh ms; first | (rw [decide_eq_true h3, h20]; rfl) | (rw [decide_eq_false h3]; rfl)⟩

theorem dX1_put_0 : decode cX1_put 0 = .ok (.aload_n 0, 1) := by decide +kernel
theorem dX1_put_1 : decode cX1_put 1 = .ok (.iload_n 1, 1) := by decide +kernel
theorem dX1_put_2 : decode cX1_put 2 = .ok (.invokevirtual 19, 3) := by decide +kernel
theorem dX1_put_5 : decode cX1_put 5 = .ok (.ifCond .eq 36, 3) := by decide +kernel
theorem dX1_put_8 : decode cX1_put 8 = .ok (.aload_n 0, 1) := by decide +kernel
theorem dX1_put_9 : decode cX1_put 9 = .ok (.iload_n 2, 1) := by decide +kernel
theorem dX1_put_10 : decode cX1_put 10 = .ok (.invokevirtual 23, 3) := by decide +kernel
theorem dX1_put_13 : decode cX1_put 13 = .ok (.ifCond .eq 28, 3) := by decide +kernel
theorem dX1_put_16 : decode cX1_put 16 = .ok (.aload_n 0, 1) := by decide +kernel
theorem dX1_put_17 : decode cX1_put 17 = .ok (.getfield 7, 3) := by decide +kernel
theorem dX1_put_20 : decode cX1_put 20 = .ok (.sipush 128, 3) := by decide +kernel
theorem dX1_put_23 : decode cX1_put 23 = .ok (.iload_n 1, 1) := by decide +kernel
theorem dX1_put_24 : decode cX1_put 24 = .ok (.imul, 1) := by decide +kernel
theorem dX1_put_25 : decode cX1_put 25 = .ok (.iload_n 2, 1) := by decide +kernel
theorem dX1_put_26 : decode cX1_put 26 = .ok (.iadd, 1) := by decide +kernel
theorem dX1_put_27 : decode cX1_put 27 = .ok (.baload, 1) := by decide +kernel
theorem dX1_put_28 : decode cX1_put 28 = .ok (.ifCond .ne 15, 3) := by decide +kernel
theorem dX1_put_31 : decode cX1_put 31 = .ok (.aload_n 0, 1) := by decide +kernel
theorem dX1_put_32 : decode cX1_put 32 = .ok (.iload_n 1, 1) := by decide +kernel
theorem dX1_put_33 : decode cX1_put 33 = .ok (.invokevirtual 26, 3) := by decide +kernel
theorem dX1_put_36 : decode cX1_put 36 = .ok (.bipush 8, 2) := by decide +kernel
theorem dX1_put_38 : decode cX1_put 38 = .ok (.if_icmp .lt 5, 3) := by decide +kernel
theorem dX1_put_41 : decode cX1_put 41 = .ok (.iconst 0, 1) := by decide +kernel
theorem dX1_put_42 : decode cX1_put 42 = .ok (.ireturn, 1) := by decide +kernel
theorem dX1_put_43 : decode cX1_put 43 = .ok (.aload_n 0, 1) := by decide +kernel
theorem dX1_put_44 : decode cX1_put 44 = .ok (.getfield 7, 3) := by decide +kernel
theorem dX1_put_47 : decode cX1_put 47 = .ok (.sipush 128, 3) := by decide +kernel
theorem dX1_put_50 : decode cX1_put 50 = .ok (.iload_n 1, 1) := by decide +kernel
theorem dX1_put_51 : decode cX1_put 51 = .ok (.imul, 1) := by decide +kernel
theorem dX1_put_52 : decode cX1_put 52 = .ok (.iload_n 2, 1) := by decide +kernel
theorem dX1_put_53 : decode cX1_put 53 = .ok (.iadd, 1) := by decide +kernel
theorem dX1_put_54 : decode cX1_put 54 = .ok (.iconst 1, 1) := by decide +kernel
theorem dX1_put_55 : decode cX1_put 55 = .ok (.bastore, 1) := by decide +kernel
theorem dX1_put_56 : decode cX1_put 56 = .ok (.iconst 1, 1) := by decide +kernel
theorem dX1_put_57 : decode cX1_put 57 = .ok (.ireturn, 1) := by decide +kernel
set_option maxRecDepth 100000 in
set_option maxHeartbeats 4000000 in
theorem met_mput (l : Launch) (Y : dL) (Z : Nat → Nat → Bool) (x c : Int32) : mMi l yX1_put cX1_put 3 (some .boolean) 2 Y [.int x, .int c] Z (fun r Z' => (r = nI 0 ∧ Z' = Z ∧ ((∀ k, k < 4 → x ≠ nI k) ∨ (∀ k, k < 128 → c ≠ nI k))) ∨ ∃ e k, e < 4 ∧ k < 128 ∧ x = nI e ∧ c = nI k ∧ ((ms Z e k = false ∧ 8 ≤ cntB (ms Z e) 128 ∧ r = nI 0 ∧ Z' = Z) ∨ ((ms Z e k = true ∨ cntB (ms Z e) 128 < 8) ∧ r = nI 1 ∧ Z' = upb Z 0 (128 * e + k) true))) := by
  refine m_ofi .boolean (own := RX1) rfl rfl (by decide) (Nat.le_of_ble_eq_true rfl) (by simp [lcat, Value.category]) ?_
  intro G hG ret
  refine j_aload_n (pc := 0) (i := 0) dX1_put_0 rfl rfl ?_
  refine j_iload_n (pc := 1) (i := 1) dX1_put_1 rfl rfl ?_
  refine m_calli (pc := 2) (st := []) (met_mexpression (kl G) Y Z x) hG (by decide) dX1_put_2 cpM_X1_expression (Nat.le_of_ble_eq_true rfl) rfl (fun r2 Z2 hr2 => ?_)
  obtain ⟨hE2, hr2⟩ := hr2
  rw [hE2]
  rcases hr2 with ⟨rfl, hq2⟩ | ⟨rfl, hbx⟩
  · skip
    obtain ⟨x0, hx0, rfl⟩ := hq2
    refine n_if_eq (pc := 5) (tgt := 41) dX1_put_5 (by decide) (by decide) (fun h => absurd h (by decide)) (fun _ => ?_)
    refine j_aload_n (pc := 8) (i := 0) dX1_put_8 rfl rfl ?_
    refine j_iload_n (pc := 9) (i := 2) dX1_put_9 rfl rfl ?_
    refine m_calli (pc := 10) (st := []) (met_misCube (kl G) Y Z c) hG (by decide) dX1_put_10 cpM_X1_isCube (Nat.le_of_ble_eq_true rfl) rfl (fun r10 Z10 hr10 => ?_)
    obtain ⟨hE10, hr10⟩ := hr10
    rw [hE10]
    rcases hr10 with ⟨rfl, hq10⟩ | ⟨rfl, hbc⟩
    · skip
      obtain ⟨c0, hc0, rfl⟩ := hq10
      refine n_if_eq (pc := 13) (tgt := 41) dX1_put_13 (by decide) (by decide) (fun h => absurd h (by decide)) (fun _ => ?_)
      refine j_aload_n (pc := 16) (i := 0) dX1_put_16 rfl rfl ?_
      refine m_get_in (pc := 17) dX1_put_17 ?_
      refine j_sipush (pc := 20) (v := nI 128) dX1_put_20 (by decide) ?_
      refine j_iload_n (pc := 23) (i := 1) dX1_put_23 rfl rfl ?_
      refine n_imul (pc := 24) dX1_put_24 ?_
      refine j_iload_n (pc := 25) (i := 2) dX1_put_25 rfl rfl ?_
      refine n_iadd (pc := 26) dX1_put_26 ?_
      refine m_ld_in (pc := 27) dX1_put_27 (by omega) ?_
      refine b_if_ne (pc := 28) (tgt := 43) dX1_put_28 (by decide) (fun h28 => ?_) (fun h28 => ?_)
      · skip
        refine j_aload_n (pc := 43) (i := 0) dX1_put_43 rfl rfl ?_
        refine m_get_in (pc := 44) dX1_put_44 ?_
        refine j_sipush (pc := 47) (v := nI 128) dX1_put_47 (by decide) ?_
        refine j_iload_n (pc := 50) (i := 1) dX1_put_50 rfl rfl ?_
        refine n_imul (pc := 51) dX1_put_51 ?_
        refine j_iload_n (pc := 52) (i := 2) dX1_put_52 rfl rfl ?_
        refine n_iadd (pc := 53) dX1_put_53 ?_
        refine j_iconst (pc := 54) (v := nI 1) dX1_put_54 (by decide) ?_
        refine m_st_in (pc := 55) (v := true) dX1_put_55 (by omega) (fun Z55 hZ55 => ?_)
        refine j_iconst (pc := 56) (v := nI 1) dX1_put_56 (by decide) ?_
        first | exact ret _ _ _ _ dX1_put_57 rfl (Or.inr ⟨x0, c0, hx0, hc0, rfl, rfl, Or.inr ⟨Or.inl h28, rfl, hZ55⟩⟩) | exact ret _ _ _ _ dX1_put_57 rfl (Or.inr ⟨x0, c0, hx0, hc0, rfl, rfl, Or.inr ⟨Or.inr h38, rfl, hZ55⟩⟩)
      · skip
        have hcl := cntB_le (ms Z x0) 128
        refine j_aload_n (pc := 31) (i := 0) dX1_put_31 rfl rfl ?_
        refine j_iload_n (pc := 32) (i := 1) dX1_put_32 rfl rfl ?_
        refine m_calli (pc := 33) (st := []) (met_mmany (kl G) Y Z x0 (by omega)) hG (by decide) dX1_put_33 cpM_X1_many (Nat.le_of_ble_eq_true rfl) rfl (fun r33 Z33 hr33 => ?_)
        obtain ⟨hE33, hr33⟩ := hr33
        rw [hE33]
        subst hr33
        refine j_bipush (pc := 36) (v := nI 8) dX1_put_36 (by decide) ?_
        refine n_icmp_lt (pc := 38) (tgt := 43) dX1_put_38 (by decide) (by omega) (fun h38 => ?_) (fun h38 => ?_)
        · skip
          refine j_aload_n (pc := 43) (i := 0) dX1_put_43 rfl rfl ?_
          refine m_get_in (pc := 44) dX1_put_44 ?_
          refine j_sipush (pc := 47) (v := nI 128) dX1_put_47 (by decide) ?_
          refine j_iload_n (pc := 50) (i := 1) dX1_put_50 rfl rfl ?_
          refine n_imul (pc := 51) dX1_put_51 ?_
          refine j_iload_n (pc := 52) (i := 2) dX1_put_52 rfl rfl ?_
          refine n_iadd (pc := 53) dX1_put_53 ?_
          refine j_iconst (pc := 54) (v := nI 1) dX1_put_54 (by decide) ?_
          refine m_st_in (pc := 55) (v := true) dX1_put_55 (by omega) (fun Z55 hZ55 => ?_)
          refine j_iconst (pc := 56) (v := nI 1) dX1_put_56 (by decide) ?_
          first | exact ret _ _ _ _ dX1_put_57 rfl (Or.inr ⟨x0, c0, hx0, hc0, rfl, rfl, Or.inr ⟨Or.inl h28, rfl, hZ55⟩⟩) | exact ret _ _ _ _ dX1_put_57 rfl (Or.inr ⟨x0, c0, hx0, hc0, rfl, rfl, Or.inr ⟨Or.inr h38, rfl, hZ55⟩⟩)
        · skip
          refine j_iconst (pc := 41) (v := nI 0) dX1_put_41 (by decide) ?_
          first | exact ret _ _ _ _ dX1_put_42 rfl (Or.inl ⟨rfl, rfl, Or.inl hbx⟩) | exact ret _ _ _ _ dX1_put_42 rfl (Or.inl ⟨rfl, rfl, Or.inr hbc⟩) | exact ret _ _ _ _ dX1_put_42 rfl (Or.inr ⟨x0, c0, hx0, hc0, rfl, rfl, Or.inl ⟨h28, h38, rfl, rfl⟩⟩)
    · skip
      skip
      refine n_if_eq (pc := 13) (tgt := 41) dX1_put_13 (by decide) (by decide) (fun _ => ?_) (fun h => absurd h (by decide))
      refine j_iconst (pc := 41) (v := nI 0) dX1_put_41 (by decide) ?_
      first | exact ret _ _ _ _ dX1_put_42 rfl (Or.inl ⟨rfl, rfl, Or.inl hbx⟩) | exact ret _ _ _ _ dX1_put_42 rfl (Or.inl ⟨rfl, rfl, Or.inr hbc⟩) | exact ret _ _ _ _ dX1_put_42 rfl (Or.inr ⟨x0, c0, hx0, hc0, rfl, rfl, Or.inl ⟨h28, h38, rfl, rfl⟩⟩)
  · skip
    skip
    refine n_if_eq (pc := 5) (tgt := 41) dX1_put_5 (by decide) (by decide) (fun _ => ?_) (fun h => absurd h (by decide))
    refine j_iconst (pc := 41) (v := nI 0) dX1_put_41 (by decide) ?_
    first | exact ret _ _ _ _ dX1_put_42 rfl (Or.inl ⟨rfl, rfl, Or.inl hbx⟩) | exact ret _ _ _ _ dX1_put_42 rfl (Or.inl ⟨rfl, rfl, Or.inr hbc⟩) | exact ret _ _ _ _ dX1_put_42 rfl (Or.inr ⟨x0, c0, hx0, hc0, rfl, rfl, Or.inl ⟨h28, h38, rfl, rfl⟩⟩)

theorem dX1_take_0 : decode cX1_take 0 = .ok (.aload_n 0, 1) := by decide +kernel
theorem dX1_take_1 : decode cX1_take 1 = .ok (.iload_n 1, 1) := by decide +kernel
theorem dX1_take_2 : decode cX1_take 2 = .ok (.invokevirtual 19, 3) := by decide +kernel
theorem dX1_take_5 : decode cX1_take 5 = .ok (.ifCond .eq 26, 3) := by decide +kernel
theorem dX1_take_8 : decode cX1_take 8 = .ok (.aload_n 0, 1) := by decide +kernel
theorem dX1_take_9 : decode cX1_take 9 = .ok (.iload_n 2, 1) := by decide +kernel
theorem dX1_take_10 : decode cX1_take 10 = .ok (.invokevirtual 23, 3) := by decide +kernel
theorem dX1_take_13 : decode cX1_take 13 = .ok (.ifCond .eq 18, 3) := by decide +kernel
theorem dX1_take_16 : decode cX1_take 16 = .ok (.aload_n 0, 1) := by decide +kernel
theorem dX1_take_17 : decode cX1_take 17 = .ok (.getfield 7, 3) := by decide +kernel
theorem dX1_take_20 : decode cX1_take 20 = .ok (.sipush 128, 3) := by decide +kernel
theorem dX1_take_23 : decode cX1_take 23 = .ok (.iload_n 1, 1) := by decide +kernel
theorem dX1_take_24 : decode cX1_take 24 = .ok (.imul, 1) := by decide +kernel
theorem dX1_take_25 : decode cX1_take 25 = .ok (.iload_n 2, 1) := by decide +kernel
theorem dX1_take_26 : decode cX1_take 26 = .ok (.iadd, 1) := by decide +kernel
theorem dX1_take_27 : decode cX1_take 27 = .ok (.baload, 1) := by decide +kernel
theorem dX1_take_28 : decode cX1_take 28 = .ok (.ifCond .ne 5, 3) := by decide +kernel
theorem dX1_take_31 : decode cX1_take 31 = .ok (.iconst 0, 1) := by decide +kernel
theorem dX1_take_32 : decode cX1_take 32 = .ok (.ireturn, 1) := by decide +kernel
theorem dX1_take_33 : decode cX1_take 33 = .ok (.aload_n 0, 1) := by decide +kernel
theorem dX1_take_34 : decode cX1_take 34 = .ok (.getfield 7, 3) := by decide +kernel
theorem dX1_take_37 : decode cX1_take 37 = .ok (.sipush 128, 3) := by decide +kernel
theorem dX1_take_40 : decode cX1_take 40 = .ok (.iload_n 1, 1) := by decide +kernel
theorem dX1_take_41 : decode cX1_take 41 = .ok (.imul, 1) := by decide +kernel
theorem dX1_take_42 : decode cX1_take 42 = .ok (.iload_n 2, 1) := by decide +kernel
theorem dX1_take_43 : decode cX1_take 43 = .ok (.iadd, 1) := by decide +kernel
theorem dX1_take_44 : decode cX1_take 44 = .ok (.iconst 0, 1) := by decide +kernel
theorem dX1_take_45 : decode cX1_take 45 = .ok (.bastore, 1) := by decide +kernel
theorem dX1_take_46 : decode cX1_take 46 = .ok (.iconst 1, 1) := by decide +kernel
theorem dX1_take_47 : decode cX1_take 47 = .ok (.ireturn, 1) := by decide +kernel
set_option maxRecDepth 100000 in
set_option maxHeartbeats 4000000 in
theorem met_mtake (l : Launch) (Y : dL) (Z : Nat → Nat → Bool) (x c : Int32) : mMi l yX1_take cX1_take 3 (some .boolean) 2 Y [.int x, .int c] Z (fun r Z' => (r = nI 0 ∧ Z' = Z ∧ ((∀ k, k < 4 → x ≠ nI k) ∨ (∀ k, k < 128 → c ≠ nI k))) ∨ ∃ e k, e < 4 ∧ k < 128 ∧ x = nI e ∧ c = nI k ∧ ((ms Z e k = false ∧ r = nI 0 ∧ Z' = Z) ∨ (ms Z e k = true ∧ r = nI 1 ∧ Z' = upb Z 0 (128 * e + k) false))) := by
  refine m_ofi .boolean (own := RX1) rfl rfl (by decide) (Nat.le_of_ble_eq_true rfl) (by simp [lcat, Value.category]) ?_
  intro G hG ret
  refine j_aload_n (pc := 0) (i := 0) dX1_take_0 rfl rfl ?_
  refine j_iload_n (pc := 1) (i := 1) dX1_take_1 rfl rfl ?_
  refine m_calli (pc := 2) (st := []) (met_mexpression (kl G) Y Z x) hG (by decide) dX1_take_2 cpM_X1_expression (Nat.le_of_ble_eq_true rfl) rfl (fun r2 Z2 hr2 => ?_)
  obtain ⟨hE2, hr2⟩ := hr2
  rw [hE2]
  rcases hr2 with ⟨rfl, hq2⟩ | ⟨rfl, hbx⟩
  · skip
    obtain ⟨x0, hx0, rfl⟩ := hq2
    refine n_if_eq (pc := 5) (tgt := 31) dX1_take_5 (by decide) (by decide) (fun h => absurd h (by decide)) (fun _ => ?_)
    refine j_aload_n (pc := 8) (i := 0) dX1_take_8 rfl rfl ?_
    refine j_iload_n (pc := 9) (i := 2) dX1_take_9 rfl rfl ?_
    refine m_calli (pc := 10) (st := []) (met_misCube (kl G) Y Z c) hG (by decide) dX1_take_10 cpM_X1_isCube (Nat.le_of_ble_eq_true rfl) rfl (fun r10 Z10 hr10 => ?_)
    obtain ⟨hE10, hr10⟩ := hr10
    rw [hE10]
    rcases hr10 with ⟨rfl, hq10⟩ | ⟨rfl, hbc⟩
    · skip
      obtain ⟨c0, hc0, rfl⟩ := hq10
      refine n_if_eq (pc := 13) (tgt := 31) dX1_take_13 (by decide) (by decide) (fun h => absurd h (by decide)) (fun _ => ?_)
      refine j_aload_n (pc := 16) (i := 0) dX1_take_16 rfl rfl ?_
      refine m_get_in (pc := 17) dX1_take_17 ?_
      refine j_sipush (pc := 20) (v := nI 128) dX1_take_20 (by decide) ?_
      refine j_iload_n (pc := 23) (i := 1) dX1_take_23 rfl rfl ?_
      refine n_imul (pc := 24) dX1_take_24 ?_
      refine j_iload_n (pc := 25) (i := 2) dX1_take_25 rfl rfl ?_
      refine n_iadd (pc := 26) dX1_take_26 ?_
      refine m_ld_in (pc := 27) dX1_take_27 (by omega) ?_
      refine b_if_ne (pc := 28) (tgt := 33) dX1_take_28 (by decide) (fun h28 => ?_) (fun h28 => ?_)
      · skip
        refine j_aload_n (pc := 33) (i := 0) dX1_take_33 rfl rfl ?_
        refine m_get_in (pc := 34) dX1_take_34 ?_
        refine j_sipush (pc := 37) (v := nI 128) dX1_take_37 (by decide) ?_
        refine j_iload_n (pc := 40) (i := 1) dX1_take_40 rfl rfl ?_
        refine n_imul (pc := 41) dX1_take_41 ?_
        refine j_iload_n (pc := 42) (i := 2) dX1_take_42 rfl rfl ?_
        refine n_iadd (pc := 43) dX1_take_43 ?_
        refine j_iconst (pc := 44) (v := nI 0) dX1_take_44 (by decide) ?_
        refine m_st_in (pc := 45) (v := false) dX1_take_45 (by omega) (fun Z45 hZ45 => ?_)
        refine j_iconst (pc := 46) (v := nI 1) dX1_take_46 (by decide) ?_
        exact ret _ _ _ _ dX1_take_47 rfl (Or.inr ⟨x0, c0, hx0, hc0, rfl, rfl, Or.inr ⟨h28, rfl, hZ45⟩⟩)
      · skip
        refine j_iconst (pc := 31) (v := nI 0) dX1_take_31 (by decide) ?_
        first | exact ret _ _ _ _ dX1_take_32 rfl (Or.inl ⟨rfl, rfl, Or.inl hbx⟩) | exact ret _ _ _ _ dX1_take_32 rfl (Or.inl ⟨rfl, rfl, Or.inr hbc⟩) | exact ret _ _ _ _ dX1_take_32 rfl (Or.inr ⟨x0, c0, hx0, hc0, rfl, rfl, Or.inl ⟨h28, rfl, rfl⟩⟩)
    · skip
      skip
      refine n_if_eq (pc := 13) (tgt := 31) dX1_take_13 (by decide) (by decide) (fun _ => ?_) (fun h => absurd h (by decide))
      refine j_iconst (pc := 31) (v := nI 0) dX1_take_31 (by decide) ?_
      first | exact ret _ _ _ _ dX1_take_32 rfl (Or.inl ⟨rfl, rfl, Or.inl hbx⟩) | exact ret _ _ _ _ dX1_take_32 rfl (Or.inl ⟨rfl, rfl, Or.inr hbc⟩) | exact ret _ _ _ _ dX1_take_32 rfl (Or.inr ⟨x0, c0, hx0, hc0, rfl, rfl, Or.inl ⟨h28, rfl, rfl⟩⟩)
  · skip
    skip
    refine n_if_eq (pc := 5) (tgt := 31) dX1_take_5 (by decide) (by decide) (fun _ => ?_) (fun h => absurd h (by decide))
    refine j_iconst (pc := 31) (v := nI 0) dX1_take_31 (by decide) ?_
    first | exact ret _ _ _ _ dX1_take_32 rfl (Or.inl ⟨rfl, rfl, Or.inl hbx⟩) | exact ret _ _ _ _ dX1_take_32 rfl (Or.inl ⟨rfl, rfl, Or.inr hbc⟩) | exact ret _ _ _ _ dX1_take_32 rfl (Or.inr ⟨x0, c0, hx0, hc0, rfl, rfl, Or.inl ⟨h28, rfl, rfl⟩⟩)

/-- of the cells of e the first c are set as q says, all else as before -/
def blk (Z : Nat → Nat → Bool) (e c : Nat) (q : Nat → Bool) (Z' : Nat → Nat → Bool) : Prop := (∀ k, k ≠ 0 → Z' k = Z k) ∧ ∀ j, Z' 0 j = if 128 * e ≤ j ∧ j < 128 * e + c then q (j - 128 * e) else Z 0 j
theorem blk_0 (Z : Nat → Nat → Bool) (e : Nat) (q : Nat → Bool) : blk Z e 0 q Z := ⟨fun _ _ => rfl, fun j => by rw [if_neg (by omega)]⟩
theorem blk_s {Z Z' Z'' : Nat → Nat → Bool} {e c : Nat} {q : Nat → Bool} {v : Bool} (h : blk Z e c q Z') (hv : v = q c) (h2 : Z'' = upb Z' 0 (128 * e + c) v) : blk Z e (c + 1) q Z'' := by
  refine ⟨fun k hk => by rw [h2, upb_k _ _ _ hk]; exact h.1 k hk, fun j => ?_⟩
  rw [h2]
  by_cases z : j = 128 * e + c
  · subst z
    rw [upb_s, if_pos (by omega), hv]
    congr 1
    omega
  · rw [upb_n _ _ _ z, h.2]
    by_cases y : 128 * e ≤ j ∧ j < 128 * e + c
    · rw [if_pos y, if_pos (by omega)]
    · rw [if_neg y, if_neg (by omega)]
theorem blk_ms {Z Z' : Nat → Nat → Bool} {e : Nat} {q : Nat → Bool} (h : blk Z e 128 q Z') : (∀ x, x < 128 → ms Z' e x = q x) ∧ ∀ e' x, e' ≠ e → x < 128 → ms Z' e' x = ms Z e' x := by
  constructor
  · intro x hx
    unfold ms
    rw [h.2, if_pos (by omega)]
    congr 1
    omega
  · intro e' x he hx
    unfold ms
    rw [h.2, if_neg (by omega)]

theorem dX1_clear_0 : decode cX1_clear 0 = .ok (.iconst 0, 1) := by decide +kernel
theorem dX1_clear_1 : decode cX1_clear 1 = .ok (.istore_n 2, 1) := by decide +kernel
theorem dX1_clear_2 : decode cX1_clear 2 = .ok (.iload_n 2, 1) := by decide +kernel
theorem dX1_clear_3 : decode cX1_clear 3 = .ok (.sipush 128, 3) := by decide +kernel
theorem dX1_clear_6 : decode cX1_clear 6 = .ok (.if_icmp .ge 30, 3) := by decide +kernel
theorem dX1_clear_9 : decode cX1_clear 9 = .ok (.aload_n 0, 1) := by decide +kernel
theorem dX1_clear_10 : decode cX1_clear 10 = .ok (.iload_n 1, 1) := by decide +kernel
theorem dX1_clear_11 : decode cX1_clear 11 = .ok (.invokevirtual 19, 3) := by decide +kernel
theorem dX1_clear_14 : decode cX1_clear 14 = .ok (.ifCond .eq 22, 3) := by decide +kernel
theorem dX1_clear_17 : decode cX1_clear 17 = .ok (.aload_n 0, 1) := by decide +kernel
theorem dX1_clear_18 : decode cX1_clear 18 = .ok (.getfield 7, 3) := by decide +kernel
theorem dX1_clear_21 : decode cX1_clear 21 = .ok (.sipush 128, 3) := by decide +kernel
theorem dX1_clear_24 : decode cX1_clear 24 = .ok (.iload_n 1, 1) := by decide +kernel
theorem dX1_clear_25 : decode cX1_clear 25 = .ok (.imul, 1) := by decide +kernel
theorem dX1_clear_26 : decode cX1_clear 26 = .ok (.iload_n 2, 1) := by decide +kernel
theorem dX1_clear_27 : decode cX1_clear 27 = .ok (.iadd, 1) := by decide +kernel
theorem dX1_clear_28 : decode cX1_clear 28 = .ok (.iconst 0, 1) := by decide +kernel
theorem dX1_clear_29 : decode cX1_clear 29 = .ok (.bastore, 1) := by decide +kernel
theorem dX1_clear_30 : decode cX1_clear 30 = .ok (.iinc 2 1, 3) := by decide +kernel
theorem dX1_clear_33 : decode cX1_clear 33 = .ok (.goto (-31), 3) := by decide +kernel
theorem dX1_clear_36 : decode cX1_clear 36 = .ok (.aload_n 0, 1) := by decide +kernel
theorem dX1_clear_37 : decode cX1_clear 37 = .ok (.iload_n 1, 1) := by decide +kernel
theorem dX1_clear_38 : decode cX1_clear 38 = .ok (.invokevirtual 19, 3) := by decide +kernel
theorem dX1_clear_41 : decode cX1_clear 41 = .ok (.ireturn, 1) := by decide +kernel
set_option maxRecDepth 100000 in
set_option maxHeartbeats 4000000 in
theorem met_mclear (l : Launch) (Y : dL) (Z : Nat → Nat → Bool) (x : Int32) : mMi l yX1_clear cX1_clear 3 (some .boolean) 2 Y [.int x] Z (fun r Z' => (r = nI 0 ∧ Z' = Z ∧ (∀ k, k < 4 → x ≠ nI k)) ∨ ∃ e, e < 4 ∧ x = nI e ∧ r = nI 1 ∧ blk Z e 128 (fun _ => false) Z') := by
  refine m_ofi .boolean (own := RX1) rfl rfl (by decide) (Nat.le_of_ble_eq_true rfl) (by simp [lcat, Value.category]) ?_
  intro G hG ret
  rcases rg_dec x (N := 4) (by decide) with ⟨x0, hx0, rfl⟩ | hbx
  · skip
    have loop : ∀ c, c ≤ 128 → ∀ Z', blk Z x0 c (fun _ => false) Z' → J cX1_clear 3 RX1 G (mV G Y (mA Y) Z') 2 [.ref (Y.2.1 0), .int (nI x0), .int (nI c)] [] := by
      refine up_loop _ 128 (fun Z' hI => ?_) (fun c hc ih Z' hI => ?_)
      · skip
        refine j_iload_n (pc := 2) (i := 2) dX1_clear_2 rfl rfl ?_
        refine j_sipush (pc := 3) (v := nI 128) dX1_clear_3 (by decide) ?_
        refine n_icmp_ge (pc := 6) (tgt := 36) dX1_clear_6 (by decide) (by omega) (fun h6 => ?_) (fun h6 => ?_)
        · skip
          refine j_aload_n (pc := 36) (i := 0) dX1_clear_36 rfl rfl ?_
          refine j_iload_n (pc := 37) (i := 1) dX1_clear_37 rfl rfl ?_
          refine m_calli (pc := 38) (st := []) (met_mexpression (kl G) Y Z' (nI x0)) hG (by decide) dX1_clear_38 cpM_X1_expression (Nat.le_of_ble_eq_true rfl) rfl (fun r38 Z38 hr38 => ?_)
          obtain ⟨hE38, hr38⟩ := hr38
          rw [hE38]
          rcases hr38 with ⟨rfl, hq38⟩ | ⟨rfl, hb38⟩
          · skip
            skip
            exact ret _ _ _ _ dX1_clear_41 rfl (Or.inr ⟨x0, hx0, rfl, rfl, hI⟩)
          · skip
            exact absurd rfl (hb38 _ (by omega))
        · skip
          exact absurd h6 (by omega)
      · skip
        refine j_iload_n (pc := 2) (i := 2) dX1_clear_2 rfl rfl ?_
        refine j_sipush (pc := 3) (v := nI 128) dX1_clear_3 (by decide) ?_
        refine n_icmp_ge (pc := 6) (tgt := 36) dX1_clear_6 (by decide) (by omega) (fun h6 => ?_) (fun h6 => ?_)
        · skip
          exact absurd h6 (by omega)
        · skip
          refine j_aload_n (pc := 9) (i := 0) dX1_clear_9 rfl rfl ?_
          refine j_iload_n (pc := 10) (i := 1) dX1_clear_10 rfl rfl ?_
          refine m_calli (pc := 11) (st := []) (met_mexpression (kl G) Y Z' (nI x0)) hG (by decide) dX1_clear_11 cpM_X1_expression (Nat.le_of_ble_eq_true rfl) rfl (fun r11 Z11 hr11 => ?_)
          obtain ⟨hE11, hr11⟩ := hr11
          rw [hE11]
          rcases hr11 with ⟨rfl, hq11⟩ | ⟨rfl, hb11⟩
          · skip
            skip
            refine n_if_eq (pc := 14) (tgt := 36) dX1_clear_14 (by decide) (by decide) (fun h => absurd h (by decide)) (fun _ => ?_)
            refine j_aload_n (pc := 17) (i := 0) dX1_clear_17 rfl rfl ?_
            refine m_get_in (pc := 18) dX1_clear_18 ?_
            refine j_sipush (pc := 21) (v := nI 128) dX1_clear_21 (by decide) ?_
            refine j_iload_n (pc := 24) (i := 1) dX1_clear_24 rfl rfl ?_
            refine n_imul (pc := 25) dX1_clear_25 ?_
            refine j_iload_n (pc := 26) (i := 2) dX1_clear_26 rfl rfl ?_
            refine n_iadd (pc := 27) dX1_clear_27 ?_
            refine j_iconst (pc := 28) (v := nI 0) dX1_clear_28 (by decide) ?_
            refine m_st_in (pc := 29) (v := false) dX1_clear_29 (by omega) (fun Z29 hZ29 => ?_)
            refine n_iinc (pc := 30) (n := 1) (lv' := [.ref (Y.2.1 0), .int (nI x0), .int (nI (c + 1))]) dX1_clear_30 rfl rfl (Nat.le_of_ble_eq_true rfl) ?_
            refine j_goto (pc := 33) (tgt := 2) dX1_clear_33 (by decide) ?_
            exact ih Z29 (blk_s hI rfl hZ29)
          · skip
            exact absurd rfl (hb11 _ (by omega))
    refine j_iconst (pc := 0) (v := nI 0) dX1_clear_0 (by decide) ?_
    refine j_istore_n (pc := 1) (i := 2) (lv' := [.ref (Y.2.1 0), .int (nI x0), .int (nI 0)]) dX1_clear_1 rfl rfl ⟨(Nat.le_of_ble_eq_true rfl), (Nat.le_of_ble_eq_true rfl)⟩ ?_
    exact loop 0 (Nat.zero_le _) Z (blk_0 Z _ _)
  · skip
    refine j_iconst (pc := 0) (v := nI 0) dX1_clear_0 (by decide) ?_
    refine j_istore_n (pc := 1) (i := 2) (lv' := [.ref (Y.2.1 0), .int x, .int (nI 0)]) dX1_clear_1 rfl rfl ⟨(Nat.le_of_ble_eq_true rfl), (Nat.le_of_ble_eq_true rfl)⟩ ?_
    refine j_iload_n (pc := 2) (i := 2) dX1_clear_2 rfl rfl ?_
    refine j_sipush (pc := 3) (v := nI 128) dX1_clear_3 (by decide) ?_
    refine n_icmp_ge (pc := 6) (tgt := 36) dX1_clear_6 (by decide) (by omega) (fun h6 => ?_) (fun h6 => ?_)
    · skip
      exact absurd h6 (by decide)
    · skip
      refine j_aload_n (pc := 9) (i := 0) dX1_clear_9 rfl rfl ?_
      refine j_iload_n (pc := 10) (i := 1) dX1_clear_10 rfl rfl ?_
      refine m_calli (pc := 11) (st := []) (met_mexpression (kl G) Y Z x) hG (by decide) dX1_clear_11 cpM_X1_expression (Nat.le_of_ble_eq_true rfl) rfl (fun r11 Z11 hr11 => ?_)
      obtain ⟨hE11, hr11⟩ := hr11
      rw [hE11]
      rcases hr11 with ⟨rfl, k, hk, e⟩ | ⟨rfl, hb11⟩
      · skip
        exact absurd e (hbx k hk)
      · skip
        skip
        refine n_if_eq (pc := 14) (tgt := 36) dX1_clear_14 (by decide) (by decide) (fun _ => ?_) (fun h => absurd h (by decide))
        refine j_aload_n (pc := 36) (i := 0) dX1_clear_36 rfl rfl ?_
        refine j_iload_n (pc := 37) (i := 1) dX1_clear_37 rfl rfl ?_
        refine m_calli (pc := 38) (st := []) (met_mexpression (kl G) Y Z x) hG (by decide) dX1_clear_38 cpM_X1_expression (Nat.le_of_ble_eq_true rfl) rfl (fun r38 Z38 hr38 => ?_)
        obtain ⟨hE38, hr38⟩ := hr38
        rw [hE38]
        rcases hr38 with ⟨rfl, k, hk, e⟩ | ⟨rfl, hb38⟩
        · skip
          exact absurd e (hbx k hk)
        · skip
          skip
          exact ret _ _ _ _ dX1_clear_41 rfl (Or.inl ⟨rfl, rfl, hbx⟩)

theorem dX1_size_0 : decode cX1_size 0 = .ok (.aload_n 0, 1) := by decide +kernel
theorem dX1_size_1 : decode cX1_size 1 = .ok (.iload_n 1, 1) := by decide +kernel
theorem dX1_size_2 : decode cX1_size 2 = .ok (.invokevirtual 19, 3) := by decide +kernel
theorem dX1_size_5 : decode cX1_size 5 = .ok (.ifCond .eq 11, 3) := by decide +kernel
theorem dX1_size_8 : decode cX1_size 8 = .ok (.aload_n 0, 1) := by decide +kernel
theorem dX1_size_9 : decode cX1_size 9 = .ok (.iload_n 1, 1) := by decide +kernel
theorem dX1_size_10 : decode cX1_size 10 = .ok (.invokevirtual 26, 3) := by decide +kernel
theorem dX1_size_13 : decode cX1_size 13 = .ok (.goto 4, 3) := by decide +kernel
theorem dX1_size_16 : decode cX1_size 16 = .ok (.iconst (-1), 1) := by decide +kernel
theorem dX1_size_17 : decode cX1_size 17 = .ok (.ireturn, 1) := by decide +kernel
set_option maxRecDepth 100000 in
set_option maxHeartbeats 4000000 in
theorem met_msize (l : Launch) (Y : dL) (Z : Nat → Nat → Bool) (x : Int32) : mMi l yX1_size cX1_size 2 (some .int) 2 Y [.int x] Z (fun r Z' => Z' = Z ∧ ((r = -1 ∧ (∀ k, k < 4 → x ≠ nI k)) ∨ ∃ e, e < 4 ∧ x = nI e ∧ r = nI (cntB (ms Z e) 128))) := by
  refine m_ofi .int (own := RX1) rfl rfl (by decide) (Nat.le_of_ble_eq_true rfl) (by simp [lcat, Value.category]) ?_
  intro G hG ret
  refine j_aload_n (pc := 0) (i := 0) dX1_size_0 rfl rfl ?_
  refine j_iload_n (pc := 1) (i := 1) dX1_size_1 rfl rfl ?_
  refine m_calli (pc := 2) (st := []) (met_mexpression (kl G) Y Z x) hG (by decide) dX1_size_2 cpM_X1_expression (Nat.le_of_ble_eq_true rfl) rfl (fun r2 Z2 hr2 => ?_)
  obtain ⟨hE2, hr2⟩ := hr2
  rw [hE2]
  rcases hr2 with ⟨rfl, hq2⟩ | ⟨rfl, hbx⟩
  · skip
    obtain ⟨x0, hx0, rfl⟩ := hq2
    refine n_if_eq (pc := 5) (tgt := 16) dX1_size_5 (by decide) (by decide) (fun h => absurd h (by decide)) (fun _ => ?_)
    refine j_aload_n (pc := 8) (i := 0) dX1_size_8 rfl rfl ?_
    refine j_iload_n (pc := 9) (i := 1) dX1_size_9 rfl rfl ?_
    refine m_calli (pc := 10) (st := []) (met_mmany (kl G) Y Z x0 (by omega)) hG (by decide) dX1_size_10 cpM_X1_many (Nat.le_of_ble_eq_true rfl) rfl (fun r10 Z10 hr10 => ?_)
    obtain ⟨hE10, hr10⟩ := hr10
    rw [hE10]
    subst hr10
    refine j_goto (pc := 13) (tgt := 17) dX1_size_13 (by decide) ?_
    first | exact ret _ _ _ _ dX1_size_17 rfl ⟨rfl, Or.inl ⟨rfl, hbx⟩⟩ | exact ret _ _ _ _ dX1_size_17 rfl ⟨rfl, Or.inr ⟨x0, hx0, rfl, rfl⟩⟩
  · skip
    skip
    refine n_if_eq (pc := 5) (tgt := 16) dX1_size_5 (by decide) (by decide) (fun _ => ?_) (fun h => absurd h (by decide))
    refine j_iconst (pc := 16) (v := -1) dX1_size_16 (by decide) ?_
    first | exact ret _ _ _ _ dX1_size_17 rfl ⟨rfl, Or.inl ⟨rfl, hbx⟩⟩ | exact ret _ _ _ _ dX1_size_17 rfl ⟨rfl, Or.inr ⟨x0, hx0, rfl, rfl⟩⟩

theorem dX1_cube_0 : decode cX1_cube 0 = .ok (.iconst 0, 1) := by decide +kernel
theorem dX1_cube_1 : decode cX1_cube 1 = .ok (.istore_n 3, 1) := by decide +kernel
theorem dX1_cube_2 : decode cX1_cube 2 = .ok (.iconst 0, 1) := by decide +kernel
theorem dX1_cube_3 : decode cX1_cube 3 = .ok (.istore 4, 2) := by decide +kernel
theorem dX1_cube_5 : decode cX1_cube 5 = .ok (.iload 4, 2) := by decide +kernel
theorem dX1_cube_7 : decode cX1_cube 7 = .ok (.sipush 128, 3) := by decide +kernel
theorem dX1_cube_10 : decode cX1_cube 10 = .ok (.if_icmp .ge 44, 3) := by decide +kernel
theorem dX1_cube_13 : decode cX1_cube 13 = .ok (.aload_n 0, 1) := by decide +kernel
theorem dX1_cube_14 : decode cX1_cube 14 = .ok (.iload_n 1, 1) := by decide +kernel
theorem dX1_cube_15 : decode cX1_cube 15 = .ok (.invokevirtual 19, 3) := by decide +kernel
theorem dX1_cube_18 : decode cX1_cube 18 = .ok (.ifCond .eq 36, 3) := by decide +kernel
theorem dX1_cube_21 : decode cX1_cube 21 = .ok (.aload_n 0, 1) := by decide +kernel
theorem dX1_cube_22 : decode cX1_cube 22 = .ok (.getfield 7, 3) := by decide +kernel
theorem dX1_cube_25 : decode cX1_cube 25 = .ok (.sipush 128, 3) := by decide +kernel
theorem dX1_cube_28 : decode cX1_cube 28 = .ok (.iload_n 1, 1) := by decide +kernel
theorem dX1_cube_29 : decode cX1_cube 29 = .ok (.imul, 1) := by decide +kernel
theorem dX1_cube_30 : decode cX1_cube 30 = .ok (.iload 4, 2) := by decide +kernel
theorem dX1_cube_32 : decode cX1_cube 32 = .ok (.iadd, 1) := by decide +kernel
theorem dX1_cube_33 : decode cX1_cube 33 = .ok (.baload, 1) := by decide +kernel
theorem dX1_cube_34 : decode cX1_cube 34 = .ok (.ifCond .eq 14, 3) := by decide +kernel
theorem dX1_cube_37 : decode cX1_cube 37 = .ok (.iload_n 3, 1) := by decide +kernel
theorem dX1_cube_38 : decode cX1_cube 38 = .ok (.iload_n 2, 1) := by decide +kernel
theorem dX1_cube_39 : decode cX1_cube 39 = .ok (.if_icmp .ne 6, 3) := by decide +kernel
theorem dX1_cube_42 : decode cX1_cube 42 = .ok (.iload 4, 2) := by decide +kernel
theorem dX1_cube_44 : decode cX1_cube 44 = .ok (.ireturn, 1) := by decide +kernel
theorem dX1_cube_45 : decode cX1_cube 45 = .ok (.iinc 3 1, 3) := by decide +kernel
theorem dX1_cube_48 : decode cX1_cube 48 = .ok (.iinc 4 1, 3) := by decide +kernel
theorem dX1_cube_51 : decode cX1_cube 51 = .ok (.goto (-46), 3) := by decide +kernel
theorem dX1_cube_54 : decode cX1_cube 54 = .ok (.iconst (-1), 1) := by decide +kernel
theorem dX1_cube_55 : decode cX1_cube 55 = .ok (.ireturn, 1) := by decide +kernel
set_option maxRecDepth 100000 in
set_option maxHeartbeats 4000000 in
theorem met_mcube (l : Launch) (Y : dL) (Z : Nat → Nat → Bool) (x i : Int32) : mMi l yX1_cube cX1_cube 5 (some .int) 2 Y [.int x, .int i] Z (fun r Z' => Z' = Z ∧ ((r = -1 ∧ (∀ k, k < 4 → x ≠ nI k)) ∨ ∃ e, e < 4 ∧ x = nI e ∧ ((r = -1 ∧ ∀ c, c < 128 → ms Z e c = true → nI (cntB (ms Z e) c) ≠ i) ∨ ∃ c, c < 128 ∧ ms Z e c = true ∧ nI (cntB (ms Z e) c) = i ∧ r = nI c))) := by
  refine m_ofi .int (own := RX1) rfl rfl (by decide) (Nat.le_of_ble_eq_true rfl) (by simp [lcat, Value.category]) ?_
  intro G hG ret
  rcases rg_dec x (N := 4) (by decide) with ⟨x0, hx0, rfl⟩ | hbx
  · skip
    have loop : ∀ c, c ≤ 128 → (∀ j, j < c → ms Z x0 j = true → nI (cntB (ms Z x0) j) ≠ i) → J cX1_cube 5 RX1 G (mV G Y (mA Y) Z) 5 [.ref (Y.2.1 0), .int (nI x0), .int i, .int (nI (cntB (ms Z x0) c)), .int (nI c)] [] := by
      refine up_loop _ 128 (fun hno => ?_) (fun c hc ih hno => ?_)
      · skip
        refine j_iload (pc := 5) dX1_cube_5 rfl ?_
        refine j_sipush (pc := 7) (v := nI 128) dX1_cube_7 (by decide) ?_
        refine n_icmp_ge (pc := 10) (tgt := 54) dX1_cube_10 (by decide) (by omega) (fun h10 => ?_) (fun h10 => ?_)
        · skip
          refine j_iconst (pc := 54) (v := -1) dX1_cube_54 (by decide) ?_
          exact ret _ _ _ _ dX1_cube_55 rfl ⟨rfl, Or.inr ⟨x0, hx0, rfl, Or.inl ⟨rfl, hno⟩⟩⟩
        · skip
          exact absurd h10 (by omega)
      · skip
        refine j_iload (pc := 5) dX1_cube_5 rfl ?_
        refine j_sipush (pc := 7) (v := nI 128) dX1_cube_7 (by decide) ?_
        refine n_icmp_ge (pc := 10) (tgt := 54) dX1_cube_10 (by decide) (by omega) (fun h10 => ?_) (fun h10 => ?_)
        · skip
          exact absurd h10 (by omega)
        · skip
          refine j_aload_n (pc := 13) (i := 0) dX1_cube_13 rfl rfl ?_
          refine j_iload_n (pc := 14) (i := 1) dX1_cube_14 rfl rfl ?_
          refine m_calli (pc := 15) (st := []) (met_mexpression (kl G) Y Z (nI x0)) hG (by decide) dX1_cube_15 cpM_X1_expression (Nat.le_of_ble_eq_true rfl) rfl (fun r15 Z15 hr15 => ?_)
          obtain ⟨hE15, hr15⟩ := hr15
          rw [hE15]
          rcases hr15 with ⟨rfl, hq15⟩ | ⟨rfl, hb15⟩
          · skip
            skip
            refine n_if_eq (pc := 18) (tgt := 54) dX1_cube_18 (by decide) (by decide) (fun h => absurd h (by decide)) (fun _ => ?_)
            refine j_aload_n (pc := 21) (i := 0) dX1_cube_21 rfl rfl ?_
            refine m_get_in (pc := 22) dX1_cube_22 ?_
            refine j_sipush (pc := 25) (v := nI 128) dX1_cube_25 (by decide) ?_
            refine j_iload_n (pc := 28) (i := 1) dX1_cube_28 rfl rfl ?_
            refine n_imul (pc := 29) dX1_cube_29 ?_
            refine j_iload (pc := 30) dX1_cube_30 rfl ?_
            refine n_iadd (pc := 32) dX1_cube_32 ?_
            refine m_ld_in (pc := 33) dX1_cube_33 (by omega) ?_
            refine b_if_eq (pc := 34) (tgt := 48) dX1_cube_34 (by decide) (fun h34 => ?_) (fun h34 => ?_)
            · skip
              refine n_iinc (pc := 48) (n := 1) (lv' := [.ref (Y.2.1 0), .int (nI x0), .int i, .int (nI (cntB (ms Z x0) c)), .int (nI (c + 1))]) dX1_cube_48 rfl rfl (Nat.le_of_ble_eq_true rfl) ?_
              refine j_goto (pc := 51) (tgt := 5) dX1_cube_51 (by decide) ?_
              rw [show cntB (ms Z x0) c = cntB (ms Z x0) (c + 1) by simp [cntB, ms, h34]]
              first | exact ih (lt_s hno (fun _ => h39)) | exact ih (lt_s hno (fun z => by unfold ms at z; rw [h34] at z; cases z))
            · skip
              refine j_iload_n (pc := 37) (i := 3) dX1_cube_37 rfl rfl ?_
              refine j_iload_n (pc := 38) (i := 2) dX1_cube_38 rfl rfl ?_
              refine j_icmp_ne (pc := 39) (tgt := 45) dX1_cube_39 (by decide) (fun h39 => ?_) (fun h39 => ?_)
              · skip
                refine n_iinc (pc := 45) (n := 1) (lv' := [.ref (Y.2.1 0), .int (nI x0), .int i, .int (nI (cntB (ms Z x0) c + 1)), .int (nI c)]) dX1_cube_45 rfl rfl (Nat.le_of_ble_eq_true rfl) ?_
                refine n_iinc (pc := 48) (n := 1) (lv' := [.ref (Y.2.1 0), .int (nI x0), .int i, .int (nI (cntB (ms Z x0) c + 1)), .int (nI (c + 1))]) dX1_cube_48 rfl rfl (Nat.le_of_ble_eq_true rfl) ?_
                refine j_goto (pc := 51) (tgt := 5) dX1_cube_51 (by decide) ?_
                rw [show cntB (ms Z x0) c + 1 = cntB (ms Z x0) (c + 1) by simp [cntB, ms, h34]]
                first | exact ih (lt_s hno (fun _ => h39)) | exact ih (lt_s hno (fun z => by unfold ms at z; rw [h34] at z; cases z))
              · skip
                refine j_iload (pc := 42) dX1_cube_42 rfl ?_
                exact ret _ _ _ _ dX1_cube_44 rfl ⟨rfl, Or.inr ⟨x0, hx0, rfl, Or.inr ⟨c, hc, h34, h39, rfl⟩⟩⟩
          · skip
            exact absurd rfl (hb15 _ (by omega))
    refine j_iconst (pc := 0) (v := nI 0) dX1_cube_0 (by decide) ?_
    refine j_istore_n (pc := 1) (i := 3) (lv' := [.ref (Y.2.1 0), .int (nI x0), .int i, .int (nI 0)]) dX1_cube_1 rfl rfl ⟨(Nat.le_of_ble_eq_true rfl), (Nat.le_of_ble_eq_true rfl)⟩ ?_
    refine j_iconst (pc := 2) (v := nI 0) dX1_cube_2 (by decide) ?_
    refine j_istore (pc := 3) (i := 4) (lv' := [.ref (Y.2.1 0), .int (nI x0), .int i, .int (nI 0), .int (nI 0)]) dX1_cube_3 rfl ⟨(Nat.le_of_ble_eq_true rfl), (Nat.le_of_ble_eq_true rfl)⟩ ?_
    exact loop 0 (Nat.zero_le _) lt_0
  · skip
    refine j_iconst (pc := 0) (v := nI 0) dX1_cube_0 (by decide) ?_
    refine j_istore_n (pc := 1) (i := 3) (lv' := [.ref (Y.2.1 0), .int x, .int i, .int (nI 0)]) dX1_cube_1 rfl rfl ⟨(Nat.le_of_ble_eq_true rfl), (Nat.le_of_ble_eq_true rfl)⟩ ?_
    refine j_iconst (pc := 2) (v := nI 0) dX1_cube_2 (by decide) ?_
    refine j_istore (pc := 3) (i := 4) (lv' := [.ref (Y.2.1 0), .int x, .int i, .int (nI 0), .int (nI 0)]) dX1_cube_3 rfl ⟨(Nat.le_of_ble_eq_true rfl), (Nat.le_of_ble_eq_true rfl)⟩ ?_
    refine j_iload (pc := 5) dX1_cube_5 rfl ?_
    refine j_sipush (pc := 7) (v := nI 128) dX1_cube_7 (by decide) ?_
    refine n_icmp_ge (pc := 10) (tgt := 54) dX1_cube_10 (by decide) (by omega) (fun h10 => ?_) (fun h10 => ?_)
    · skip
      exact absurd h10 (by decide)
    · skip
      refine j_aload_n (pc := 13) (i := 0) dX1_cube_13 rfl rfl ?_
      refine j_iload_n (pc := 14) (i := 1) dX1_cube_14 rfl rfl ?_
      refine m_calli (pc := 15) (st := []) (met_mexpression (kl G) Y Z x) hG (by decide) dX1_cube_15 cpM_X1_expression (Nat.le_of_ble_eq_true rfl) rfl (fun r15 Z15 hr15 => ?_)
      obtain ⟨hE15, hr15⟩ := hr15
      rw [hE15]
      rcases hr15 with ⟨rfl, k, hk, e⟩ | ⟨rfl, hb15⟩
      · skip
        exact absurd e (hbx k hk)
      · skip
        skip
        refine n_if_eq (pc := 18) (tgt := 54) dX1_cube_18 (by decide) (by decide) (fun _ => ?_) (fun h => absurd h (by decide))
        refine j_iconst (pc := 54) (v := -1) dX1_cube_54 (by decide) ?_
        exact ret _ _ _ _ dX1_cube_55 rfl ⟨rfl, Or.inl ⟨rfl, hbx⟩⟩

theorem dX1_store_0 : decode cX1_store 0 = .ok (.iconst 0, 1) := by decide +kernel
theorem dX1_store_1 : decode cX1_store 1 = .ok (.istore_n 3, 1) := by decide +kernel
theorem dX1_store_2 : decode cX1_store 2 = .ok (.iload_n 3, 1) := by decide +kernel
theorem dX1_store_3 : decode cX1_store 3 = .ok (.sipush 128, 3) := by decide +kernel
theorem dX1_store_6 : decode cX1_store 6 = .ok (.if_icmp .ge 40, 3) := by decide +kernel
theorem dX1_store_9 : decode cX1_store 9 = .ok (.aload_n 0, 1) := by decide +kernel
theorem dX1_store_10 : decode cX1_store 10 = .ok (.getfield 7, 3) := by decide +kernel
theorem dX1_store_13 : decode cX1_store 13 = .ok (.sipush 128, 3) := by decide +kernel
theorem dX1_store_16 : decode cX1_store 16 = .ok (.iload_n 1, 1) := by decide +kernel
theorem dX1_store_17 : decode cX1_store 17 = .ok (.imul, 1) := by decide +kernel
theorem dX1_store_18 : decode cX1_store 18 = .ok (.iload_n 3, 1) := by decide +kernel
theorem dX1_store_19 : decode cX1_store 19 = .ok (.iadd, 1) := by decide +kernel
theorem dX1_store_20 : decode cX1_store 20 = .ok (.iload_n 2, 1) := by decide +kernel
theorem dX1_store_21 : decode cX1_store 21 = .ok (.ifCond .eq 12, 3) := by decide +kernel
theorem dX1_store_24 : decode cX1_store 24 = .ok (.aload_n 0, 1) := by decide +kernel
theorem dX1_store_25 : decode cX1_store 25 = .ok (.getfield 16, 3) := by decide +kernel
theorem dX1_store_28 : decode cX1_store 28 = .ok (.iload_n 3, 1) := by decide +kernel
theorem dX1_store_29 : decode cX1_store 29 = .ok (.baload, 1) := by decide +kernel
theorem dX1_store_30 : decode cX1_store 30 = .ok (.goto 9, 3) := by decide +kernel
theorem dX1_store_33 : decode cX1_store 33 = .ok (.aload_n 0, 1) := by decide +kernel
theorem dX1_store_34 : decode cX1_store 34 = .ok (.getfield 13, 3) := by decide +kernel
theorem dX1_store_37 : decode cX1_store 37 = .ok (.iload_n 3, 1) := by decide +kernel
theorem dX1_store_38 : decode cX1_store 38 = .ok (.baload, 1) := by decide +kernel
theorem dX1_store_39 : decode cX1_store 39 = .ok (.bastore, 1) := by decide +kernel
theorem dX1_store_40 : decode cX1_store 40 = .ok (.iinc 3 1, 3) := by decide +kernel
theorem dX1_store_43 : decode cX1_store 43 = .ok (.goto (-41), 3) := by decide +kernel
theorem dX1_store_46 : decode cX1_store 46 = .ok (.return_, 1) := by decide +kernel
set_option maxRecDepth 100000 in
set_option maxHeartbeats 4000000 in
theorem met_mstore (l : Launch) (Y : dL) (Z : Nat → Nat → Bool) (e : Nat) (b : Bool) (he : e < 4) : mMv l yX1_store cX1_store 4 1 Y [.int (nI e), .int (nI b.toNat)] Z (fun Z' => blk Z e 128 (fun x => if b then Z 2 x else Z 1 x) Z') := by
  refine m_ofv (own := RX1) rfl (by decide) (Nat.le_of_ble_eq_true rfl) (by simp [lcat, Value.category]) ?_
  intro G hG ret
  have loop : ∀ c, c ≤ 128 → ∀ Z', blk Z e c (fun x => if b then Z 2 x else Z 1 x) Z' → J cX1_store 4 RX1 G (mV G Y (mA Y) Z') 2 [.ref (Y.2.1 0), .int (nI e), .int (nI b.toNat), .int (nI c)] [] := by
    refine up_loop _ 128 (fun Z' hI => ?_) (fun c hc ih Z' hI => ?_)
    · skip
      refine j_iload_n (pc := 2) (i := 3) dX1_store_2 rfl rfl ?_
      refine j_sipush (pc := 3) (v := nI 128) dX1_store_3 (by decide) ?_
      refine n_icmp_ge (pc := 6) (tgt := 46) dX1_store_6 (by decide) (by omega) (fun h6 => ?_) (fun h6 => ?_)
      · skip
        exact ret _ _ _ dX1_store_46 hI
      · skip
        exact absurd h6 (by omega)
    · skip
      refine j_iload_n (pc := 2) (i := 3) dX1_store_2 rfl rfl ?_
      refine j_sipush (pc := 3) (v := nI 128) dX1_store_3 (by decide) ?_
      refine n_icmp_ge (pc := 6) (tgt := 46) dX1_store_6 (by decide) (by omega) (fun h6 => ?_) (fun h6 => ?_)
      · skip
        exact absurd h6 (by omega)
      · skip
        refine j_aload_n (pc := 9) (i := 0) dX1_store_9 rfl rfl ?_
        refine m_get_in (pc := 10) dX1_store_10 ?_
        refine j_sipush (pc := 13) (v := nI 128) dX1_store_13 (by decide) ?_
        refine j_iload_n (pc := 16) (i := 1) dX1_store_16 rfl rfl ?_
        refine n_imul (pc := 17) dX1_store_17 ?_
        refine j_iload_n (pc := 18) (i := 3) dX1_store_18 rfl rfl ?_
        refine n_iadd (pc := 19) dX1_store_19 ?_
        refine j_iload_n (pc := 20) (i := 2) dX1_store_20 rfl rfl ?_
        refine b_if_eq (pc := 21) (tgt := 33) dX1_store_21 (by decide) (fun h21 => ?_) (fun h21 => ?_)
        · skip
          refine j_aload_n (pc := 33) (i := 0) dX1_store_33 rfl rfl ?_
          refine m_get_quotient (pc := 34) dX1_store_34 ?_
          refine j_iload_n (pc := 37) (i := 3) dX1_store_37 rfl rfl ?_
          refine m_ld_quotient (pc := 38) dX1_store_38 (by omega) ?_
          refine m_st_in (pc := 39) (v := Z' 1 c) dX1_store_39 (by omega) (fun Z39 hZ39 => ?_)
          refine n_iinc (pc := 40) (n := 1) (lv' := [.ref (Y.2.1 0), .int (nI e), .int (nI b.toNat), .int (nI (c + 1))]) dX1_store_40 rfl rfl (Nat.le_of_ble_eq_true rfl) ?_
          refine j_goto (pc := 43) (tgt := 2) dX1_store_43 (by decide) ?_
          exact ih Z39 (blk_s hI (by simp only [h21]; first | (rw [hI.1 2 (by decide)]; rfl) | (rw [hI.1 1 (by decide)]; rfl)) hZ39)
        · skip
          refine j_aload_n (pc := 24) (i := 0) dX1_store_24 rfl rfl ?_
          refine m_get_left (pc := 25) dX1_store_25 ?_
          refine j_iload_n (pc := 28) (i := 3) dX1_store_28 rfl rfl ?_
          refine m_ld_left (pc := 29) dX1_store_29 (by omega) ?_
          refine j_goto (pc := 30) (tgt := 39) dX1_store_30 (by decide) ?_
          refine m_st_in (pc := 39) (v := Z' 2 c) dX1_store_39 (by omega) (fun Z39 hZ39 => ?_)
          refine n_iinc (pc := 40) (n := 1) (lv' := [.ref (Y.2.1 0), .int (nI e), .int (nI b.toNat), .int (nI (c + 1))]) dX1_store_40 rfl rfl (Nat.le_of_ble_eq_true rfl) ?_
          refine j_goto (pc := 43) (tgt := 2) dX1_store_43 (by decide) ?_
          exact ih Z39 (blk_s hI (by simp only [h21]; first | (rw [hI.1 2 (by decide)]; rfl) | (rw [hI.1 1 (by decide)]; rfl)) hZ39)
  refine j_iconst (pc := 0) (v := nI 0) dX1_store_0 (by decide) ?_
  refine j_istore_n (pc := 1) (i := 3) (lv' := [.ref (Y.2.1 0), .int (nI e), .int (nI b.toNat), .int (nI 0)]) dX1_store_1 rfl rfl ⟨(Nat.le_of_ble_eq_true rfl), (Nat.le_of_ble_eq_true rfl)⟩ ?_
  exact loop 0 (Nat.zero_le _) Z (blk_0 Z _ _)

/-- what a method that stores the set q into e leaves and answers -/
def stP (Z : Nat → Nat → Bool) (e : Nat) (q : Nat → Bool) (r : Int32) (Z' : Nat → Nat → Bool) : Prop := (∀ x, x < 128 → ms Z' e x = q x) ∧ (∀ e' x, e' ≠ e → x < 128 → ms Z' e' x = ms Z e' x) ∧ r = nI (cntB (ms Z' e) 128)
theorem ms_of {Z Z' : Nat → Nat → Bool} (h : Z' 0 = Z 0) (e : Nat) : ms Z' e = ms Z e := by unfold ms; rw [h]
theorem qh_of {Z Z' : Nat → Nat → Bool} (h : Z' 0 = Z 0) (f c x : Nat) : qh Z' f c x = qh Z f c x := by unfold qh; rw [ms_of h]
theorem stP_of {Z Z1 Z' : Nat → Nat → Bool} {e : Nat} {q q' : Nat → Bool} {r : Int32} (h0 : Z1 0 = Z 0) (hq : ∀ x, x < 128 → q' x = q x) (hb : blk Z1 e 128 q' Z') (hr : r = nI (cntB (ms Z' e) 128)) : stP Z e q r Z' := by
  obtain ⟨h1, h2⟩ := blk_ms hb
  exact ⟨fun x hx => (h1 x hx).trans (hq x hx), fun e' x he hx => (h2 e' x he hx).trans (by rw [ms_of h0]), hr⟩

theorem dX1_divideBy_0 : decode cX1_divideBy 0 = .ok (.aload_n 0, 1) := by decide +kernel
theorem dX1_divideBy_1 : decode cX1_divideBy 1 = .ok (.iload_n 1, 1) := by decide +kernel
theorem dX1_divideBy_2 : decode cX1_divideBy 2 = .ok (.invokevirtual 19, 3) := by decide +kernel
theorem dX1_divideBy_5 : decode cX1_divideBy 5 = .ok (.ifCond .eq 19, 3) := by decide +kernel
theorem dX1_divideBy_8 : decode cX1_divideBy 8 = .ok (.aload_n 0, 1) := by decide +kernel
theorem dX1_divideBy_9 : decode cX1_divideBy 9 = .ok (.iload_n 2, 1) := by decide +kernel
theorem dX1_divideBy_10 : decode cX1_divideBy 10 = .ok (.invokevirtual 19, 3) := by decide +kernel
theorem dX1_divideBy_13 : decode cX1_divideBy 13 = .ok (.ifCond .eq 11, 3) := by decide +kernel
theorem dX1_divideBy_16 : decode cX1_divideBy 16 = .ok (.aload_n 0, 1) := by decide +kernel
theorem dX1_divideBy_17 : decode cX1_divideBy 17 = .ok (.iload_n 3, 1) := by decide +kernel
theorem dX1_divideBy_18 : decode cX1_divideBy 18 = .ok (.invokevirtual 23, 3) := by decide +kernel
theorem dX1_divideBy_21 : decode cX1_divideBy 21 = .ok (.ifCond .ne 5, 3) := by decide +kernel
theorem dX1_divideBy_24 : decode cX1_divideBy 24 = .ok (.iconst (-1), 1) := by decide +kernel
theorem dX1_divideBy_25 : decode cX1_divideBy 25 = .ok (.ireturn, 1) := by decide +kernel
theorem dX1_divideBy_26 : decode cX1_divideBy 26 = .ok (.iconst 0, 1) := by decide +kernel
theorem dX1_divideBy_27 : decode cX1_divideBy 27 = .ok (.istore 4, 2) := by decide +kernel
theorem dX1_divideBy_29 : decode cX1_divideBy 29 = .ok (.iload 4, 2) := by decide +kernel
theorem dX1_divideBy_31 : decode cX1_divideBy 31 = .ok (.sipush 128, 3) := by decide +kernel
theorem dX1_divideBy_34 : decode cX1_divideBy 34 = .ok (.if_icmp .ge 24, 3) := by decide +kernel
theorem dX1_divideBy_37 : decode cX1_divideBy 37 = .ok (.aload_n 0, 1) := by decide +kernel
theorem dX1_divideBy_38 : decode cX1_divideBy 38 = .ok (.getfield 13, 3) := by decide +kernel
theorem dX1_divideBy_41 : decode cX1_divideBy 41 = .ok (.iload 4, 2) := by decide +kernel
theorem dX1_divideBy_43 : decode cX1_divideBy 43 = .ok (.aload_n 0, 1) := by decide +kernel
theorem dX1_divideBy_44 : decode cX1_divideBy 44 = .ok (.iload_n 2, 1) := by decide +kernel
theorem dX1_divideBy_45 : decode cX1_divideBy 45 = .ok (.iload_n 3, 1) := by decide +kernel
theorem dX1_divideBy_46 : decode cX1_divideBy 46 = .ok (.iload 4, 2) := by decide +kernel
theorem dX1_divideBy_48 : decode cX1_divideBy 48 = .ok (.invokevirtual 30, 3) := by decide +kernel
theorem dX1_divideBy_51 : decode cX1_divideBy 51 = .ok (.bastore, 1) := by decide +kernel
theorem dX1_divideBy_52 : decode cX1_divideBy 52 = .ok (.iinc 4 1, 3) := by decide +kernel
theorem dX1_divideBy_55 : decode cX1_divideBy 55 = .ok (.goto (-26), 3) := by decide +kernel
theorem dX1_divideBy_58 : decode cX1_divideBy 58 = .ok (.aload_n 0, 1) := by decide +kernel
theorem dX1_divideBy_59 : decode cX1_divideBy 59 = .ok (.iload_n 1, 1) := by decide +kernel
theorem dX1_divideBy_60 : decode cX1_divideBy 60 = .ok (.iconst 0, 1) := by decide +kernel
theorem dX1_divideBy_61 : decode cX1_divideBy 61 = .ok (.invokevirtual 34, 3) := by decide +kernel
theorem dX1_divideBy_64 : decode cX1_divideBy 64 = .ok (.aload_n 0, 1) := by decide +kernel
theorem dX1_divideBy_65 : decode cX1_divideBy 65 = .ok (.iload_n 1, 1) := by decide +kernel
theorem dX1_divideBy_66 : decode cX1_divideBy 66 = .ok (.invokevirtual 26, 3) := by decide +kernel
theorem dX1_divideBy_69 : decode cX1_divideBy 69 = .ok (.ireturn, 1) := by decide +kernel
set_option maxRecDepth 100000 in
set_option maxHeartbeats 4000000 in
theorem met_mdivideBy (l : Launch) (Y : dL) (Z : Nat → Nat → Bool) (x y c : Int32) : mMi l yX1_divideBy cX1_divideBy 5 (some .int) 2 Y [.int x, .int y, .int c] Z (fun r Z' => (r = -1 ∧ Z' = Z ∧ ((∀ k, k < 4 → x ≠ nI k) ∨ (∀ k, k < 4 → y ≠ nI k) ∨ (∀ k, k < 128 → c ≠ nI k))) ∨ ∃ e f k, e < 4 ∧ f < 4 ∧ k < 128 ∧ x = nI e ∧ y = nI f ∧ c = nI k ∧ stP Z e (qh Z f k) r Z') := by
  refine m_ofi .int (own := RX1) rfl rfl (by decide) (Nat.le_of_ble_eq_true rfl) (by simp [lcat, Value.category]) ?_
  intro G hG ret
  refine j_aload_n (pc := 0) (i := 0) dX1_divideBy_0 rfl rfl ?_
  refine j_iload_n (pc := 1) (i := 1) dX1_divideBy_1 rfl rfl ?_
  refine m_calli (pc := 2) (st := []) (met_mexpression (kl G) Y Z x) hG (by decide) dX1_divideBy_2 cpM_X1_expression (Nat.le_of_ble_eq_true rfl) rfl (fun r2 Z2 hr2 => ?_)
  obtain ⟨hE2, hr2⟩ := hr2
  rw [hE2]
  rcases hr2 with ⟨rfl, hq2⟩ | ⟨rfl, hbx⟩
  · skip
    obtain ⟨x0, hx0, rfl⟩ := hq2
    refine n_if_eq (pc := 5) (tgt := 24) dX1_divideBy_5 (by decide) (by decide) (fun h => absurd h (by decide)) (fun _ => ?_)
    refine j_aload_n (pc := 8) (i := 0) dX1_divideBy_8 rfl rfl ?_
    refine j_iload_n (pc := 9) (i := 2) dX1_divideBy_9 rfl rfl ?_
    refine m_calli (pc := 10) (st := []) (met_mexpression (kl G) Y Z y) hG (by decide) dX1_divideBy_10 cpM_X1_expression (Nat.le_of_ble_eq_true rfl) rfl (fun r10 Z10 hr10 => ?_)
    obtain ⟨hE10, hr10⟩ := hr10
    rw [hE10]
    rcases hr10 with ⟨rfl, hq10⟩ | ⟨rfl, hby⟩
    · skip
      obtain ⟨y0, hy0, rfl⟩ := hq10
      refine n_if_eq (pc := 13) (tgt := 24) dX1_divideBy_13 (by decide) (by decide) (fun h => absurd h (by decide)) (fun _ => ?_)
      refine j_aload_n (pc := 16) (i := 0) dX1_divideBy_16 rfl rfl ?_
      refine j_iload_n (pc := 17) (i := 3) dX1_divideBy_17 rfl rfl ?_
      refine m_calli (pc := 18) (st := []) (met_misCube (kl G) Y Z c) hG (by decide) dX1_divideBy_18 cpM_X1_isCube (Nat.le_of_ble_eq_true rfl) rfl (fun r18 Z18 hr18 => ?_)
      obtain ⟨hE18, hr18⟩ := hr18
      rw [hE18]
      rcases hr18 with ⟨rfl, hq18⟩ | ⟨rfl, hbc⟩
      · skip
        obtain ⟨c0, hc0, rfl⟩ := hq18
        refine n_if_ne (pc := 21) (tgt := 26) dX1_divideBy_21 (by decide) (by decide) (fun _ => ?_) (fun h => absurd h (by decide))
        refine j_iconst (pc := 26) (v := nI 0) dX1_divideBy_26 (by decide) ?_
        refine j_istore (pc := 27) (i := 4) (lv' := [.ref (Y.2.1 0), .int (nI x0), .int (nI y0), .int (nI c0), .int (nI 0)]) dX1_divideBy_27 rfl ⟨(Nat.le_of_ble_eq_true rfl), (Nat.le_of_ble_eq_true rfl)⟩ ?_
        have loop : ∀ j, j ≤ 128 → ∀ Z', (Z' 0 = Z 0 ∧ ∀ i, i < j → Z' 1 i = qh Z y0 c0 i) → J cX1_divideBy 5 RX1 G (mV G Y (mA Y) Z') 29 [.ref (Y.2.1 0), .int (nI x0), .int (nI y0), .int (nI c0), .int (nI j)] [] := by
          refine up_loop _ 128 (fun Z' hI => ?_) (fun j hj ih Z' hI => ?_)
          · skip
            refine j_iload (pc := 29) dX1_divideBy_29 rfl ?_
            refine j_sipush (pc := 31) (v := nI 128) dX1_divideBy_31 (by decide) ?_
            refine n_icmp_ge (pc := 34) (tgt := 58) dX1_divideBy_34 (by decide) (by omega) (fun h34 => ?_) (fun h34 => ?_)
            · skip
              refine j_aload_n (pc := 58) (i := 0) dX1_divideBy_58 rfl rfl ?_
              refine j_iload_n (pc := 59) (i := 1) dX1_divideBy_59 rfl rfl ?_
              refine j_iconst (pc := 60) (v := nI 0) dX1_divideBy_60 (by decide) ?_
              refine m_callv (pc := 61) (st := []) (met_mstore (kl G) Y Z' x0 false hx0) hG (by decide) dX1_divideBy_61 cpM_X1_store (Nat.le_of_ble_eq_true rfl) rfl (fun Z61 hr61 => ?_)
              refine j_aload_n (pc := 64) (i := 0) dX1_divideBy_64 rfl rfl ?_
              refine j_iload_n (pc := 65) (i := 1) dX1_divideBy_65 rfl rfl ?_
              refine m_calli (pc := 66) (st := []) (met_mmany (kl G) Y Z61 x0 hx0) hG (by decide) dX1_divideBy_66 cpM_X1_many (Nat.le_of_ble_eq_true rfl) rfl (fun r66 Z66 hr66 => ?_)
              obtain ⟨hE66, hr66⟩ := hr66
              rw [hE66]
              subst hr66
              exact ret _ _ _ _ dX1_divideBy_69 rfl (Or.inr ⟨x0, y0, c0, hx0, hy0, hc0, rfl, rfl, rfl, stP_of hI.1 (fun z hz => hI.2 z hz) hr61 rfl⟩)
            · skip
              exact absurd h34 (by omega)
          · skip
            refine j_iload (pc := 29) dX1_divideBy_29 rfl ?_
            refine j_sipush (pc := 31) (v := nI 128) dX1_divideBy_31 (by decide) ?_
            refine n_icmp_ge (pc := 34) (tgt := 58) dX1_divideBy_34 (by decide) (by omega) (fun h34 => ?_) (fun h34 => ?_)
            · skip
              exact absurd h34 (by omega)
            · skip
              refine j_aload_n (pc := 37) (i := 0) dX1_divideBy_37 rfl rfl ?_
              refine m_get_quotient (pc := 38) dX1_divideBy_38 ?_
              refine j_iload (pc := 41) dX1_divideBy_41 rfl ?_
              refine j_aload_n (pc := 43) (i := 0) dX1_divideBy_43 rfl rfl ?_
              refine j_iload_n (pc := 44) (i := 2) dX1_divideBy_44 rfl rfl ?_
              refine j_iload_n (pc := 45) (i := 3) dX1_divideBy_45 rfl rfl ?_
              refine j_iload (pc := 46) dX1_divideBy_46 rfl ?_
              refine m_calli (pc := 48) (st := [.int (nI j), .ref (Y.2.1 2)]) (met_mquotientHas (kl G) Y Z' y0 c0 j (by omega) (by omega) (by omega)) hG (by decide) dX1_divideBy_48 cpM_X1_quotientHas (Nat.le_of_ble_eq_true rfl) rfl (fun r48 Z48 hr48 => ?_)
              obtain ⟨hE48, hr48⟩ := hr48
              rw [hE48]
              subst hr48
              refine m_st_quotient (pc := 51) (v := qh Z' y0 c0 j) dX1_divideBy_51 (by omega) (fun Z51 hZ51 => ?_)
              refine n_iinc (pc := 52) (n := 1) (lv' := [.ref (Y.2.1 0), .int (nI x0), .int (nI y0), .int (nI c0), .int (nI (j + 1))]) dX1_divideBy_52 rfl rfl (Nat.le_of_ble_eq_true rfl) ?_
              refine j_goto (pc := 55) (tgt := 29) dX1_divideBy_55 (by decide) ?_
              refine ih Z51 ⟨by rw [hZ51, upb_k _ _ _ (by decide)]; exact hI.1, fun i hi => ?_⟩
              rw [hZ51]
              by_cases e : i = j
              · rw [e, upb_s, qh_of hI.1]
              · rw [upb_n _ _ _ e]; exact hI.2 i (by omega)
        exact loop 0 (Nat.zero_le _) Z ⟨rfl, lt_0⟩
      · skip
        skip
        refine n_if_ne (pc := 21) (tgt := 26) dX1_divideBy_21 (by decide) (by decide) (fun h => absurd h (by decide)) (fun _ => ?_)
        refine j_iconst (pc := 24) (v := -1) dX1_divideBy_24 (by decide) ?_
        first | exact ret _ _ _ _ dX1_divideBy_25 rfl (Or.inl ⟨rfl, rfl, Or.inl hbx⟩) | exact ret _ _ _ _ dX1_divideBy_25 rfl (Or.inl ⟨rfl, rfl, Or.inr (Or.inl hby)⟩) | exact ret _ _ _ _ dX1_divideBy_25 rfl (Or.inl ⟨rfl, rfl, Or.inr (Or.inr hbc)⟩)
    · skip
      skip
      refine n_if_eq (pc := 13) (tgt := 24) dX1_divideBy_13 (by decide) (by decide) (fun _ => ?_) (fun h => absurd h (by decide))
      refine j_iconst (pc := 24) (v := -1) dX1_divideBy_24 (by decide) ?_
      first | exact ret _ _ _ _ dX1_divideBy_25 rfl (Or.inl ⟨rfl, rfl, Or.inl hbx⟩) | exact ret _ _ _ _ dX1_divideBy_25 rfl (Or.inl ⟨rfl, rfl, Or.inr (Or.inl hby)⟩) | exact ret _ _ _ _ dX1_divideBy_25 rfl (Or.inl ⟨rfl, rfl, Or.inr (Or.inr hbc)⟩)
  · skip
    skip
    refine n_if_eq (pc := 5) (tgt := 24) dX1_divideBy_5 (by decide) (by decide) (fun _ => ?_) (fun h => absurd h (by decide))
    refine j_iconst (pc := 24) (v := -1) dX1_divideBy_24 (by decide) ?_
    first | exact ret _ _ _ _ dX1_divideBy_25 rfl (Or.inl ⟨rfl, rfl, Or.inl hbx⟩) | exact ret _ _ _ _ dX1_divideBy_25 rfl (Or.inl ⟨rfl, rfl, Or.inr (Or.inl hby)⟩) | exact ret _ _ _ _ dX1_divideBy_25 rfl (Or.inl ⟨rfl, rfl, Or.inr (Or.inr hbc)⟩)
end
section
/-! the reference: dividing, kernels -/
theorem anyN_s (q : Nat → Bool) (n : Nat) : anyN q (n + 1) = (anyN q n || q n) := by
  unfold anyN
  rw [List.range_succ, List.any_append]
  simp
theorem anyN_0 (q : Nat → Bool) : anyN q 0 = false := rfl
def wqc (Z : Nat → Nat → Bool) (f g x : Nat) : Nat → Bool := fun c => !ms Z g c || qh Z f c x
def wq (Z : Nat → Nat → Bool) (f g x : Nat) : Bool := allN (wqc Z f g x) 128
def wlc (Z : Nat → Nat → Bool) (f g x c : Nat) : Nat → Bool := fun y => ms Z g c && (wq Z f g y && decide (y ||| c = x))
def wl (Z : Nat → Nat → Bool) (f g x : Nat) : Bool := ms Z f x && !anyN (fun c => anyN (wlc Z f g x c) 128) 128
def fb (Z : Nat → Nat → Bool) (e c : Nat) : Bool := decide (2 ≤ cntB (qh Z e c) 128) && decide (comB (qh Z e c) 128 = 0)
def sm (Z : Nat → Nat → Bool) (e c d : Nat) : Bool := allN (fun x => qh Z e c x == qh Z e d x) 128
def kf (Z : Nat → Nat → Bool) (e c : Nat) : Bool := fb Z e c && allN (fun d => !sm Z e c d) c
def hb (q : Nat → Bool) (k : Nat) : Nat → Nat
  | 0 => 0
  | c + 1 => if q c then (if nd k c = 0 then hb q k c ||| 2 ^ (cntB q c) else hb q k c) else hb q k c
theorem cntB_mono (q : Nat → Bool) {a b : Nat} (h : a ≤ b) : cntB q a ≤ cntB q b := by
  induction b with
  | zero => rw [show a = 0 by omega]; exact Nat.le_refl _
  | succ b ih =>
    rcases Nat.lt_or_ge a (b + 1) with c | c
    · have := ih (by omega)
      show cntB q a ≤ if q b then cntB q b + 1 else cntB q b
      split <;> omega
    · rw [show a = b + 1 by omega]; exact Nat.le_refl _
def st1 (b : Bool) (s d : Int32) : Int32 := if b then s + d else s
def st2 (b : Bool) (s d : Int32) : Int32 := if b then s - d else s
def sv (qe qq ql qg : Nat → Bool) : Nat → Int32
  | 0 => nI 0
  | c + 1 => st2 (qg c) (st2 (ql c) (st2 (qq c) (st1 (qe c) (sv qe qq ql qg c) (nI (pop c 7))) (nI (pop c 7))) (nI (pop c 7))) (nI (pop c 7))

theorem dX1_work_0 : decode cX1_work 0 = .ok (.iconst 0, 1) := by decide +kernel
theorem dX1_work_1 : decode cX1_work 1 = .ok (.istore_n 3, 1) := by decide +kernel
theorem dX1_work_2 : decode cX1_work 2 = .ok (.iload_n 3, 1) := by decide +kernel
theorem dX1_work_3 : decode cX1_work 3 = .ok (.sipush 128, 3) := by decide +kernel
theorem dX1_work_6 : decode cX1_work 6 = .ok (.if_icmp .ge 34, 3) := by decide +kernel
theorem dX1_work_9 : decode cX1_work 9 = .ok (.aload_n 0, 1) := by decide +kernel
theorem dX1_work_10 : decode cX1_work 10 = .ok (.getfield 13, 3) := by decide +kernel
theorem dX1_work_13 : decode cX1_work 13 = .ok (.iload_n 3, 1) := by decide +kernel
theorem dX1_work_14 : decode cX1_work 14 = .ok (.iconst 1, 1) := by decide +kernel
theorem dX1_work_15 : decode cX1_work 15 = .ok (.bastore, 1) := by decide +kernel
theorem dX1_work_16 : decode cX1_work 16 = .ok (.aload_n 0, 1) := by decide +kernel
theorem dX1_work_17 : decode cX1_work 17 = .ok (.getfield 16, 3) := by decide +kernel
theorem dX1_work_20 : decode cX1_work 20 = .ok (.iload_n 3, 1) := by decide +kernel
theorem dX1_work_21 : decode cX1_work 21 = .ok (.aload_n 0, 1) := by decide +kernel
theorem dX1_work_22 : decode cX1_work 22 = .ok (.getfield 7, 3) := by decide +kernel
theorem dX1_work_25 : decode cX1_work 25 = .ok (.sipush 128, 3) := by decide +kernel
theorem dX1_work_28 : decode cX1_work 28 = .ok (.iload_n 1, 1) := by decide +kernel
theorem dX1_work_29 : decode cX1_work 29 = .ok (.imul, 1) := by decide +kernel
theorem dX1_work_30 : decode cX1_work 30 = .ok (.iload_n 3, 1) := by decide +kernel
theorem dX1_work_31 : decode cX1_work 31 = .ok (.iadd, 1) := by decide +kernel
theorem dX1_work_32 : decode cX1_work 32 = .ok (.baload, 1) := by decide +kernel
theorem dX1_work_33 : decode cX1_work 33 = .ok (.bastore, 1) := by decide +kernel
theorem dX1_work_34 : decode cX1_work 34 = .ok (.iinc 3 1, 3) := by decide +kernel
theorem dX1_work_37 : decode cX1_work 37 = .ok (.goto (-35), 3) := by decide +kernel
theorem dX1_work_40 : decode cX1_work 40 = .ok (.iconst 0, 1) := by decide +kernel
theorem dX1_work_41 : decode cX1_work 41 = .ok (.istore_n 3, 1) := by decide +kernel
theorem dX1_work_42 : decode cX1_work 42 = .ok (.iload_n 3, 1) := by decide +kernel
theorem dX1_work_43 : decode cX1_work 43 = .ok (.sipush 128, 3) := by decide +kernel
theorem dX1_work_46 : decode cX1_work 46 = .ok (.if_icmp .ge 74, 3) := by decide +kernel
theorem dX1_work_49 : decode cX1_work 49 = .ok (.iconst 0, 1) := by decide +kernel
theorem dX1_work_50 : decode cX1_work 50 = .ok (.istore 4, 2) := by decide +kernel
theorem dX1_work_52 : decode cX1_work 52 = .ok (.iload 4, 2) := by decide +kernel
theorem dX1_work_54 : decode cX1_work 54 = .ok (.sipush 128, 3) := by decide +kernel
theorem dX1_work_57 : decode cX1_work 57 = .ok (.if_icmp .ge 57, 3) := by decide +kernel
theorem dX1_work_60 : decode cX1_work 60 = .ok (.aload_n 0, 1) := by decide +kernel
theorem dX1_work_61 : decode cX1_work 61 = .ok (.getfield 13, 3) := by decide +kernel
theorem dX1_work_64 : decode cX1_work 64 = .ok (.iload 4, 2) := by decide +kernel
theorem dX1_work_66 : decode cX1_work 66 = .ok (.aload_n 0, 1) := by decide +kernel
theorem dX1_work_67 : decode cX1_work 67 = .ok (.getfield 13, 3) := by decide +kernel
theorem dX1_work_70 : decode cX1_work 70 = .ok (.iload 4, 2) := by decide +kernel
theorem dX1_work_72 : decode cX1_work 72 = .ok (.baload, 1) := by decide +kernel
theorem dX1_work_73 : decode cX1_work 73 = .ok (.ifCond .eq 33, 3) := by decide +kernel
theorem dX1_work_76 : decode cX1_work 76 = .ok (.aload_n 0, 1) := by decide +kernel
theorem dX1_work_77 : decode cX1_work 77 = .ok (.getfield 7, 3) := by decide +kernel
theorem dX1_work_80 : decode cX1_work 80 = .ok (.sipush 128, 3) := by decide +kernel
theorem dX1_work_83 : decode cX1_work 83 = .ok (.iload_n 2, 1) := by decide +kernel
theorem dX1_work_84 : decode cX1_work 84 = .ok (.imul, 1) := by decide +kernel
theorem dX1_work_85 : decode cX1_work 85 = .ok (.iload_n 3, 1) := by decide +kernel
theorem dX1_work_86 : decode cX1_work 86 = .ok (.iadd, 1) := by decide +kernel
theorem dX1_work_87 : decode cX1_work 87 = .ok (.baload, 1) := by decide +kernel
theorem dX1_work_88 : decode cX1_work 88 = .ok (.ifCond .eq 14, 3) := by decide +kernel
theorem dX1_work_91 : decode cX1_work 91 = .ok (.aload_n 0, 1) := by decide +kernel
theorem dX1_work_92 : decode cX1_work 92 = .ok (.iload_n 1, 1) := by decide +kernel
theorem dX1_work_93 : decode cX1_work 93 = .ok (.iload_n 3, 1) := by decide +kernel
theorem dX1_work_94 : decode cX1_work 94 = .ok (.iload 4, 2) := by decide +kernel
theorem dX1_work_96 : decode cX1_work 96 = .ok (.invokevirtual 30, 3) := by decide +kernel
theorem dX1_work_99 : decode cX1_work 99 = .ok (.ifCond .eq 7, 3) := by decide +kernel
theorem dX1_work_102 : decode cX1_work 102 = .ok (.iconst 1, 1) := by decide +kernel
theorem dX1_work_103 : decode cX1_work 103 = .ok (.goto 4, 3) := by decide +kernel
theorem dX1_work_106 : decode cX1_work 106 = .ok (.iconst 0, 1) := by decide +kernel
theorem dX1_work_107 : decode cX1_work 107 = .ok (.bastore, 1) := by decide +kernel
theorem dX1_work_108 : decode cX1_work 108 = .ok (.iinc 4 1, 3) := by decide +kernel
theorem dX1_work_111 : decode cX1_work 111 = .ok (.goto (-59), 3) := by decide +kernel
theorem dX1_work_114 : decode cX1_work 114 = .ok (.iinc 3 1, 3) := by decide +kernel
theorem dX1_work_117 : decode cX1_work 117 = .ok (.goto (-75), 3) := by decide +kernel
theorem dX1_work_120 : decode cX1_work 120 = .ok (.iconst 0, 1) := by decide +kernel
theorem dX1_work_121 : decode cX1_work 121 = .ok (.istore_n 3, 1) := by decide +kernel
theorem dX1_work_122 : decode cX1_work 122 = .ok (.iload_n 3, 1) := by decide +kernel
theorem dX1_work_123 : decode cX1_work 123 = .ok (.sipush 128, 3) := by decide +kernel
theorem dX1_work_126 : decode cX1_work 126 = .ok (.if_icmp .ge 61, 3) := by decide +kernel
theorem dX1_work_129 : decode cX1_work 129 = .ok (.iconst 0, 1) := by decide +kernel
theorem dX1_work_130 : decode cX1_work 130 = .ok (.istore 4, 2) := by decide +kernel
theorem dX1_work_132 : decode cX1_work 132 = .ok (.iload 4, 2) := by decide +kernel
theorem dX1_work_134 : decode cX1_work 134 = .ok (.sipush 128, 3) := by decide +kernel
theorem dX1_work_137 : decode cX1_work 137 = .ok (.if_icmp .ge 44, 3) := by decide +kernel
theorem dX1_work_140 : decode cX1_work 140 = .ok (.aload_n 0, 1) := by decide +kernel
theorem dX1_work_141 : decode cX1_work 141 = .ok (.getfield 7, 3) := by decide +kernel
theorem dX1_work_144 : decode cX1_work 144 = .ok (.sipush 128, 3) := by decide +kernel
theorem dX1_work_147 : decode cX1_work 147 = .ok (.iload_n 2, 1) := by decide +kernel
theorem dX1_work_148 : decode cX1_work 148 = .ok (.imul, 1) := by decide +kernel
theorem dX1_work_149 : decode cX1_work 149 = .ok (.iload_n 3, 1) := by decide +kernel
theorem dX1_work_150 : decode cX1_work 150 = .ok (.iadd, 1) := by decide +kernel
theorem dX1_work_151 : decode cX1_work 151 = .ok (.baload, 1) := by decide +kernel
theorem dX1_work_152 : decode cX1_work 152 = .ok (.ifCond .eq 23, 3) := by decide +kernel
theorem dX1_work_155 : decode cX1_work 155 = .ok (.aload_n 0, 1) := by decide +kernel
theorem dX1_work_156 : decode cX1_work 156 = .ok (.getfield 13, 3) := by decide +kernel
theorem dX1_work_159 : decode cX1_work 159 = .ok (.iload 4, 2) := by decide +kernel
theorem dX1_work_161 : decode cX1_work 161 = .ok (.baload, 1) := by decide +kernel
theorem dX1_work_162 : decode cX1_work 162 = .ok (.ifCond .eq 13, 3) := by decide +kernel
theorem dX1_work_165 : decode cX1_work 165 = .ok (.aload_n 0, 1) := by decide +kernel
theorem dX1_work_166 : decode cX1_work 166 = .ok (.getfield 16, 3) := by decide +kernel
theorem dX1_work_169 : decode cX1_work 169 = .ok (.iload 4, 2) := by decide +kernel
theorem dX1_work_171 : decode cX1_work 171 = .ok (.iload_n 3, 1) := by decide +kernel
theorem dX1_work_172 : decode cX1_work 172 = .ok (.ior, 1) := by decide +kernel
theorem dX1_work_173 : decode cX1_work 173 = .ok (.iconst 0, 1) := by decide +kernel
theorem dX1_work_174 : decode cX1_work 174 = .ok (.bastore, 1) := by decide +kernel
theorem dX1_work_175 : decode cX1_work 175 = .ok (.iinc 4 1, 3) := by decide +kernel
theorem dX1_work_178 : decode cX1_work 178 = .ok (.goto (-46), 3) := by decide +kernel
theorem dX1_work_181 : decode cX1_work 181 = .ok (.iinc 3 1, 3) := by decide +kernel
theorem dX1_work_184 : decode cX1_work 184 = .ok (.goto (-62), 3) := by decide +kernel
theorem dX1_work_187 : decode cX1_work 187 = .ok (.return_, 1) := by decide +kernel
set_option maxRecDepth 100000 in
set_option maxHeartbeats 4000000 in
theorem met_mwork (l : Launch) (Y : dL) (Z : Nat → Nat → Bool) (f g : Nat) (hf : f < 4) (hg : g < 4) : mMv l yX1_work cX1_work 5 2 Y [.int (nI f), .int (nI g)] Z (fun Z' => Z' 0 = Z 0 ∧ ∀ x, x < 128 → Z' 1 x = wq Z f g x ∧ Z' 2 x = wl Z f g x) := by
  refine m_ofv (own := RX1) rfl (by decide) (Nat.le_of_ble_eq_true rfl) (by simp [lcat, Value.category]) ?_
  intro G hG ret
  have third : ∀ c, c ≤ 128 → ∀ Z', (Z' 0 = Z 0 ∧ ∀ j, j < 128 → Z' 1 j = wq Z f g j ∧ Z' 2 j = (ms Z f j && !anyN (fun a => anyN (wlc Z f g j a) 128) c)) → J cX1_work 5 RX1 G (mV G Y (mA Y) Z') 122 [.ref (Y.2.1 0), .int (nI f), .int (nI g), .int (nI c)] [] := by
    refine up_loop _ 128 (fun Z' hI => ?_) (fun c hc ih Z' hI => ?_)
    · skip
      refine j_iload_n (pc := 122) (i := 3) dX1_work_122 rfl rfl ?_
      refine j_sipush (pc := 123) (v := nI 128) dX1_work_123 (by decide) ?_
      refine n_icmp_ge (pc := 126) (tgt := 187) dX1_work_126 (by decide) (by omega) (fun h126 => ?_) (fun h126 => ?_)
      · skip
        exact ret _ _ _ dX1_work_187 ⟨hI.1, fun x hx => hI.2 x hx⟩
      · skip
        exact absurd h126 (by omega)
    · skip
      have inner : ∀ x, x ≤ 128 → ∀ Z', (Z' 0 = Z 0 ∧ ∀ j, j < 128 → Z' 1 j = wq Z f g j ∧ Z' 2 j = (ms Z f j && !(anyN (fun a => anyN (wlc Z f g j a) 128) c || anyN (wlc Z f g j c) x))) → J cX1_work 5 RX1 G (mV G Y (mA Y) Z') 132 [.ref (Y.2.1 0), .int (nI f), .int (nI g), .int (nI c), .int (nI x)] [] := by
        refine up_loop _ 128 (fun Z' hI => ?_) (fun x hx ihx Z' hI => ?_)
        · skip
          refine j_iload (pc := 132) dX1_work_132 rfl ?_
          refine j_sipush (pc := 134) (v := nI 128) dX1_work_134 (by decide) ?_
          refine n_icmp_ge (pc := 137) (tgt := 181) dX1_work_137 (by decide) (by omega) (fun h137 => ?_) (fun h137 => ?_)
          · skip
            refine n_iinc (pc := 181) (n := 1) (lv' := [.ref (Y.2.1 0), .int (nI f), .int (nI g), .int (nI (c + 1)), .int (nI 128)]) dX1_work_181 rfl rfl (Nat.le_of_ble_eq_true rfl) ?_
            refine j_goto (pc := 184) (tgt := 122) dX1_work_184 (by decide) ?_
            refine j_take 4 (lv' := [.ref (Y.2.1 0), .int (nI f), .int (nI g), .int (nI (c + 1))]) rfl ?_
            exact ih Z' ⟨hI.1, fun j hj => ⟨(hI.2 j hj).1, by rw [anyN_s]; exact (hI.2 j hj).2⟩⟩
          · skip
            exact absurd h137 (by omega)
        · skip
          have hor : x ||| c < 128 := Nat.or_lt_two_pow (n := 7) hx hc
          have hm : Z' 0 (128 * g + c) = ms Z g c := by rw [hI.1]; rfl
          have hqx := (hI.2 x hx).1
          refine j_iload (pc := 132) dX1_work_132 rfl ?_
          refine j_sipush (pc := 134) (v := nI 128) dX1_work_134 (by decide) ?_
          refine n_icmp_ge (pc := 137) (tgt := 181) dX1_work_137 (by decide) (by omega) (fun h137 => ?_) (fun h137 => ?_)
          · skip
            exact absurd h137 (by omega)
          · skip
            refine j_aload_n (pc := 140) (i := 0) dX1_work_140 rfl rfl ?_
            refine m_get_in (pc := 141) dX1_work_141 ?_
            refine j_sipush (pc := 144) (v := nI 128) dX1_work_144 (by decide) ?_
            refine j_iload_n (pc := 147) (i := 2) dX1_work_147 rfl rfl ?_
            refine n_imul (pc := 148) dX1_work_148 ?_
            refine j_iload_n (pc := 149) (i := 3) dX1_work_149 rfl rfl ?_
            refine n_iadd (pc := 150) dX1_work_150 ?_
            refine m_ld_in (pc := 151) dX1_work_151 (by omega) ?_
            refine b_if_eq (pc := 152) (tgt := 175) dX1_work_152 (by decide) (fun h152 => ?_) (fun h152 => ?_)
            · skip
              refine n_iinc (pc := 175) (n := 1) (lv' := [.ref (Y.2.1 0), .int (nI f), .int (nI g), .int (nI c), .int (nI (x + 1))]) dX1_work_175 rfl rfl (Nat.le_of_ble_eq_true rfl) ?_
              refine j_goto (pc := 178) (tgt := 132) dX1_work_178 (by decide) ?_
              refine ihx Z' ⟨hI.1, fun j hj => ⟨(hI.2 j hj).1, ?_⟩⟩
              rw [anyN_s, show wlc Z f g j c x = false from by
                unfold wlc
                first | (rw [← hm, h152]; rfl) | (rw [← hqx, h162]; simp), Bool.or_false]
              exact (hI.2 j hj).2
            · skip
              refine j_aload_n (pc := 155) (i := 0) dX1_work_155 rfl rfl ?_
              refine m_get_quotient (pc := 156) dX1_work_156 ?_
              refine j_iload (pc := 159) dX1_work_159 rfl ?_
              refine m_ld_quotient (pc := 161) dX1_work_161 (by omega) ?_
              refine b_if_eq (pc := 162) (tgt := 175) dX1_work_162 (by decide) (fun h162 => ?_) (fun h162 => ?_)
              · skip
                refine n_iinc (pc := 175) (n := 1) (lv' := [.ref (Y.2.1 0), .int (nI f), .int (nI g), .int (nI c), .int (nI (x + 1))]) dX1_work_175 rfl rfl (Nat.le_of_ble_eq_true rfl) ?_
                refine j_goto (pc := 178) (tgt := 132) dX1_work_178 (by decide) ?_
                refine ihx Z' ⟨hI.1, fun j hj => ⟨(hI.2 j hj).1, ?_⟩⟩
                rw [anyN_s, show wlc Z f g j c x = false from by
                  unfold wlc
                  first | (rw [← hm, h152]; rfl) | (rw [← hqx, h162]; simp), Bool.or_false]
                exact (hI.2 j hj).2
              · skip
                refine j_aload_n (pc := 165) (i := 0) dX1_work_165 rfl rfl ?_
                refine m_get_left (pc := 166) dX1_work_166 ?_
                refine j_iload (pc := 169) dX1_work_169 rfl ?_
                refine j_iload_n (pc := 171) (i := 3) dX1_work_171 rfl rfl ?_
                refine n_ior (pc := 172) dX1_work_172 ?_
                refine j_iconst (pc := 173) (v := nI 0) dX1_work_173 (by decide) ?_
                refine m_st_left (pc := 174) (v := false) dX1_work_174 (by omega) (fun Z174 hZ174 => ?_)
                refine n_iinc (pc := 175) (n := 1) (lv' := [.ref (Y.2.1 0), .int (nI f), .int (nI g), .int (nI c), .int (nI (x + 1))]) dX1_work_175 rfl rfl (Nat.le_of_ble_eq_true rfl) ?_
                refine j_goto (pc := 178) (tgt := 132) dX1_work_178 (by decide) ?_
                refine ihx Z174 ⟨by rw [hZ174, upb_k _ _ _ (by decide)]; exact hI.1, fun j hj => ⟨by rw [hZ174, upb_k _ _ _ (by decide)]; exact (hI.2 j hj).1, ?_⟩⟩
                rw [anyN_s, hZ174]
                by_cases e : j = x ||| c
                · rw [e, upb_s, show wlc Z f g (x ||| c) c x = true from by
                    unfold wlc
                    rw [← hm, h152, ← hqx, h162, decide_eq_true rfl]
                    rfl]
                  simp
                · rw [upb_n _ _ _ e, show wlc Z f g j c x = false from by
                    unfold wlc
                    rw [decide_eq_false (fun z => e z.symm)]
                    simp, Bool.or_false]
                  exact (hI.2 j hj).2
      refine j_iload_n (pc := 122) (i := 3) dX1_work_122 rfl rfl ?_
      refine j_sipush (pc := 123) (v := nI 128) dX1_work_123 (by decide) ?_
      refine n_icmp_ge (pc := 126) (tgt := 187) dX1_work_126 (by decide) (by omega) (fun h126 => ?_) (fun h126 => ?_)
      · skip
        exact absurd h126 (by omega)
      · skip
        refine j_iconst (pc := 129) (v := nI 0) dX1_work_129 (by decide) ?_
        refine j_istore (pc := 130) (i := 4) (lv' := [.ref (Y.2.1 0), .int (nI f), .int (nI g), .int (nI c), .int (nI 0)]) dX1_work_130 rfl ⟨(Nat.le_of_ble_eq_true rfl), (Nat.le_of_ble_eq_true rfl)⟩ ?_
        exact inner 0 (Nat.zero_le _) Z' ⟨hI.1, fun j hj => ⟨(hI.2 j hj).1, by rw [anyN_0, Bool.or_false]; exact (hI.2 j hj).2⟩⟩
  have second : ∀ c, c ≤ 128 → ∀ Z', (Z' 0 = Z 0 ∧ ∀ j, j < 128 → Z' 1 j = allN (wqc Z f g j) c ∧ Z' 2 j = ms Z f j) → J cX1_work 5 RX1 G (mV G Y (mA Y) Z') 42 [.ref (Y.2.1 0), .int (nI f), .int (nI g), .int (nI c)] [] := by
    refine up_loop _ 128 (fun Z' hI => ?_) (fun c hc ih Z' hI => ?_)
    · skip
      refine j_iload_n (pc := 42) (i := 3) dX1_work_42 rfl rfl ?_
      refine j_sipush (pc := 43) (v := nI 128) dX1_work_43 (by decide) ?_
      refine n_icmp_ge (pc := 46) (tgt := 120) dX1_work_46 (by decide) (by omega) (fun h46 => ?_) (fun h46 => ?_)
      · skip
        refine j_iconst (pc := 120) (v := nI 0) dX1_work_120 (by decide) ?_
        refine j_istore_n (pc := 121) (i := 3) (lv' := [.ref (Y.2.1 0), .int (nI f), .int (nI g), .int (nI 0)]) dX1_work_121 rfl rfl ⟨(Nat.le_of_ble_eq_true rfl), (Nat.le_of_ble_eq_true rfl)⟩ ?_
        exact third 0 (Nat.zero_le _) Z' ⟨hI.1, fun j hj => ⟨(hI.2 j hj).1, by rw [anyN_0, (hI.2 j hj).2]; simp⟩⟩
      · skip
        exact absurd h46 (by omega)
    · skip
      have inner : ∀ x, x ≤ 128 → ∀ Z', (Z' 0 = Z 0 ∧ ∀ j, j < 128 → Z' 1 j = allN (wqc Z f g j) (if j < x then c + 1 else c) ∧ Z' 2 j = ms Z f j) → J cX1_work 5 RX1 G (mV G Y (mA Y) Z') 52 [.ref (Y.2.1 0), .int (nI f), .int (nI g), .int (nI c), .int (nI x)] [] := by
        refine up_loop _ 128 (fun Z' hI => ?_) (fun x hx ihx Z' hI => ?_)
        · skip
          refine j_iload (pc := 52) dX1_work_52 rfl ?_
          refine j_sipush (pc := 54) (v := nI 128) dX1_work_54 (by decide) ?_
          refine n_icmp_ge (pc := 57) (tgt := 114) dX1_work_57 (by decide) (by omega) (fun h57 => ?_) (fun h57 => ?_)
          · skip
            refine n_iinc (pc := 114) (n := 1) (lv' := [.ref (Y.2.1 0), .int (nI f), .int (nI g), .int (nI (c + 1)), .int (nI 128)]) dX1_work_114 rfl rfl (Nat.le_of_ble_eq_true rfl) ?_
            refine j_goto (pc := 117) (tgt := 42) dX1_work_117 (by decide) ?_
            refine j_take 4 (lv' := [.ref (Y.2.1 0), .int (nI f), .int (nI g), .int (nI (c + 1))]) rfl ?_
            exact ih Z' ⟨hI.1, fun j hj => by have z := hI.2 j hj; rw [if_pos hj] at z; exact z⟩
          · skip
            exact absurd h57 (by omega)
        · skip
          have hm : Z' 0 (128 * g + c) = ms Z g c := by rw [hI.1]; rfl
          have hqx := (hI.2 x hx).1
          rw [if_neg (Nat.lt_irrefl x)] at hqx
          have hqh : qh Z' f c x = qh Z f c x := qh_of hI.1 f c x
          refine j_iload (pc := 52) dX1_work_52 rfl ?_
          refine j_sipush (pc := 54) (v := nI 128) dX1_work_54 (by decide) ?_
          refine n_icmp_ge (pc := 57) (tgt := 114) dX1_work_57 (by decide) (by omega) (fun h57 => ?_) (fun h57 => ?_)
          · skip
            exact absurd h57 (by omega)
          · skip
            refine j_aload_n (pc := 60) (i := 0) dX1_work_60 rfl rfl ?_
            refine m_get_quotient (pc := 61) dX1_work_61 ?_
            refine j_iload (pc := 64) dX1_work_64 rfl ?_
            refine j_aload_n (pc := 66) (i := 0) dX1_work_66 rfl rfl ?_
            refine m_get_quotient (pc := 67) dX1_work_67 ?_
            refine j_iload (pc := 70) dX1_work_70 rfl ?_
            refine m_ld_quotient (pc := 72) dX1_work_72 (by omega) ?_
            refine b_if_eq (pc := 73) (tgt := 106) dX1_work_73 (by decide) (fun h73 => ?_) (fun h73 => ?_)
            · skip
              refine j_iconst (pc := 106) (v := nI 0) dX1_work_106 (by decide) ?_
              refine m_st_quotient (pc := 107) (v := false) dX1_work_107 (by omega) (fun Z107 hZ107 => ?_)
              refine n_iinc (pc := 108) (n := 1) (lv' := [.ref (Y.2.1 0), .int (nI f), .int (nI g), .int (nI c), .int (nI (x + 1))]) dX1_work_108 rfl rfl (Nat.le_of_ble_eq_true rfl) ?_
              refine j_goto (pc := 111) (tgt := 52) dX1_work_111 (by decide) ?_
              have hv : Z107 1 x = allN (wqc Z f g x) (c + 1) := by
                rw [hZ107, upb_s, allN_s, ← hqx]
                unfold wqc
                first | (rw [h73]; rfl) | (rw [h73, ← hm, h88]; rfl) | (rw [h73, ← hm, h88, ← hqh, h99]; rfl)
              refine ihx Z107 ⟨by rw [hZ107, upb_k _ _ _ (by decide)]; exact hI.1, fun j hj => ⟨?_, by rw [hZ107, upb_k _ _ _ (by decide)]; exact (hI.2 j hj).2⟩⟩
              by_cases e : j = x
              · rw [e, hv, if_pos (by omega)]
              · rw [hZ107, upb_n _ _ _ e, (hI.2 j hj).1]
                by_cases y : j < x
                · rw [if_pos y, if_pos (by omega)]
                · rw [if_neg y, if_neg (by omega)]
            · skip
              refine j_aload_n (pc := 76) (i := 0) dX1_work_76 rfl rfl ?_
              refine m_get_in (pc := 77) dX1_work_77 ?_
              refine j_sipush (pc := 80) (v := nI 128) dX1_work_80 (by decide) ?_
              refine j_iload_n (pc := 83) (i := 2) dX1_work_83 rfl rfl ?_
              refine n_imul (pc := 84) dX1_work_84 ?_
              refine j_iload_n (pc := 85) (i := 3) dX1_work_85 rfl rfl ?_
              refine n_iadd (pc := 86) dX1_work_86 ?_
              refine m_ld_in (pc := 87) dX1_work_87 (by omega) ?_
              refine b_if_eq (pc := 88) (tgt := 102) dX1_work_88 (by decide) (fun h88 => ?_) (fun h88 => ?_)
              · skip
                refine j_iconst (pc := 102) (v := nI 1) dX1_work_102 (by decide) ?_
                refine j_goto (pc := 103) (tgt := 107) dX1_work_103 (by decide) ?_
                refine m_st_quotient (pc := 107) (v := true) dX1_work_107 (by omega) (fun Z107 hZ107 => ?_)
                refine n_iinc (pc := 108) (n := 1) (lv' := [.ref (Y.2.1 0), .int (nI f), .int (nI g), .int (nI c), .int (nI (x + 1))]) dX1_work_108 rfl rfl (Nat.le_of_ble_eq_true rfl) ?_
                refine j_goto (pc := 111) (tgt := 52) dX1_work_111 (by decide) ?_
                have hv : Z107 1 x = allN (wqc Z f g x) (c + 1) := by
                  rw [hZ107, upb_s, allN_s, ← hqx]
                  unfold wqc
                  first | (rw [h73]; rfl) | (rw [h73, ← hm, h88]; rfl) | (rw [h73, ← hm, h88, ← hqh, h99]; rfl)
                refine ihx Z107 ⟨by rw [hZ107, upb_k _ _ _ (by decide)]; exact hI.1, fun j hj => ⟨?_, by rw [hZ107, upb_k _ _ _ (by decide)]; exact (hI.2 j hj).2⟩⟩
                by_cases e : j = x
                · rw [e, hv, if_pos (by omega)]
                · rw [hZ107, upb_n _ _ _ e, (hI.2 j hj).1]
                  by_cases y : j < x
                  · rw [if_pos y, if_pos (by omega)]
                  · rw [if_neg y, if_neg (by omega)]
              · skip
                refine j_aload_n (pc := 91) (i := 0) dX1_work_91 rfl rfl ?_
                refine j_iload_n (pc := 92) (i := 1) dX1_work_92 rfl rfl ?_
                refine j_iload_n (pc := 93) (i := 3) dX1_work_93 rfl rfl ?_
                refine j_iload (pc := 94) dX1_work_94 rfl ?_
                refine m_calli (pc := 96) (st := [.int (nI x), .ref (Y.2.1 2)]) (met_mquotientHas (kl G) Y Z' f c x (by omega) (by omega) (by omega)) hG (by decide) dX1_work_96 cpM_X1_quotientHas (Nat.le_of_ble_eq_true rfl) rfl (fun r96 Z96 hr96 => ?_)
                obtain ⟨hE96, hr96⟩ := hr96
                rw [hE96]
                subst hr96
                refine b_if_eq (pc := 99) (tgt := 106) dX1_work_99 (by decide) (fun h99 => ?_) (fun h99 => ?_)
                · skip
                  refine j_iconst (pc := 106) (v := nI 0) dX1_work_106 (by decide) ?_
                  refine m_st_quotient (pc := 107) (v := false) dX1_work_107 (by omega) (fun Z107 hZ107 => ?_)
                  refine n_iinc (pc := 108) (n := 1) (lv' := [.ref (Y.2.1 0), .int (nI f), .int (nI g), .int (nI c), .int (nI (x + 1))]) dX1_work_108 rfl rfl (Nat.le_of_ble_eq_true rfl) ?_
                  refine j_goto (pc := 111) (tgt := 52) dX1_work_111 (by decide) ?_
                  have hv : Z107 1 x = allN (wqc Z f g x) (c + 1) := by
                    rw [hZ107, upb_s, allN_s, ← hqx]
                    unfold wqc
                    first | (rw [h73]; rfl) | (rw [h73, ← hm, h88]; rfl) | (rw [h73, ← hm, h88, ← hqh, h99]; rfl)
                  refine ihx Z107 ⟨by rw [hZ107, upb_k _ _ _ (by decide)]; exact hI.1, fun j hj => ⟨?_, by rw [hZ107, upb_k _ _ _ (by decide)]; exact (hI.2 j hj).2⟩⟩
                  by_cases e : j = x
                  · rw [e, hv, if_pos (by omega)]
                  · rw [hZ107, upb_n _ _ _ e, (hI.2 j hj).1]
                    by_cases y : j < x
                    · rw [if_pos y, if_pos (by omega)]
                    · rw [if_neg y, if_neg (by omega)]
                · skip
                  refine j_iconst (pc := 102) (v := nI 1) dX1_work_102 (by decide) ?_
                  refine j_goto (pc := 103) (tgt := 107) dX1_work_103 (by decide) ?_
                  refine m_st_quotient (pc := 107) (v := true) dX1_work_107 (by omega) (fun Z107 hZ107 => ?_)
                  refine n_iinc (pc := 108) (n := 1) (lv' := [.ref (Y.2.1 0), .int (nI f), .int (nI g), .int (nI c), .int (nI (x + 1))]) dX1_work_108 rfl rfl (Nat.le_of_ble_eq_true rfl) ?_
                  refine j_goto (pc := 111) (tgt := 52) dX1_work_111 (by decide) ?_
                  have hv : Z107 1 x = allN (wqc Z f g x) (c + 1) := by
                    rw [hZ107, upb_s, allN_s, ← hqx]
                    unfold wqc
                    first | (rw [h73]; rfl) | (rw [h73, ← hm, h88]; rfl) | (rw [h73, ← hm, h88, ← hqh, h99]; rfl)
                  refine ihx Z107 ⟨by rw [hZ107, upb_k _ _ _ (by decide)]; exact hI.1, fun j hj => ⟨?_, by rw [hZ107, upb_k _ _ _ (by decide)]; exact (hI.2 j hj).2⟩⟩
                  by_cases e : j = x
                  · rw [e, hv, if_pos (by omega)]
                  · rw [hZ107, upb_n _ _ _ e, (hI.2 j hj).1]
                    by_cases y : j < x
                    · rw [if_pos y, if_pos (by omega)]
                    · rw [if_neg y, if_neg (by omega)]
      refine j_iload_n (pc := 42) (i := 3) dX1_work_42 rfl rfl ?_
      refine j_sipush (pc := 43) (v := nI 128) dX1_work_43 (by decide) ?_
      refine n_icmp_ge (pc := 46) (tgt := 120) dX1_work_46 (by decide) (by omega) (fun h46 => ?_) (fun h46 => ?_)
      · skip
        exact absurd h46 (by omega)
      · skip
        refine j_iconst (pc := 49) (v := nI 0) dX1_work_49 (by decide) ?_
        refine j_istore (pc := 50) (i := 4) (lv' := [.ref (Y.2.1 0), .int (nI f), .int (nI g), .int (nI c), .int (nI 0)]) dX1_work_50 rfl ⟨(Nat.le_of_ble_eq_true rfl), (Nat.le_of_ble_eq_true rfl)⟩ ?_
        exact inner 0 (Nat.zero_le _) Z' ⟨hI.1, fun j hj => by rw [if_neg (by omega)]; exact hI.2 j hj⟩
  have first : ∀ x, x ≤ 128 → ∀ Z', (Z' 0 = Z 0 ∧ ∀ j, j < x → Z' 1 j = true ∧ Z' 2 j = ms Z f j) → J cX1_work 5 RX1 G (mV G Y (mA Y) Z') 2 [.ref (Y.2.1 0), .int (nI f), .int (nI g), .int (nI x)] [] := by
    refine up_loop _ 128 (fun Z' hI => ?_) (fun x hx ih Z' hI => ?_)
    · skip
      refine j_iload_n (pc := 2) (i := 3) dX1_work_2 rfl rfl ?_
      refine j_sipush (pc := 3) (v := nI 128) dX1_work_3 (by decide) ?_
      refine n_icmp_ge (pc := 6) (tgt := 40) dX1_work_6 (by decide) (by omega) (fun h6 => ?_) (fun h6 => ?_)
      · skip
        refine j_iconst (pc := 40) (v := nI 0) dX1_work_40 (by decide) ?_
        refine j_istore_n (pc := 41) (i := 3) (lv' := [.ref (Y.2.1 0), .int (nI f), .int (nI g), .int (nI 0)]) dX1_work_41 rfl rfl ⟨(Nat.le_of_ble_eq_true rfl), (Nat.le_of_ble_eq_true rfl)⟩ ?_
        exact second 0 (Nat.zero_le _) Z' ⟨hI.1, fun j hj => hI.2 j hj⟩
      · skip
        exact absurd h6 (by omega)
    · skip
      refine j_iload_n (pc := 2) (i := 3) dX1_work_2 rfl rfl ?_
      refine j_sipush (pc := 3) (v := nI 128) dX1_work_3 (by decide) ?_
      refine n_icmp_ge (pc := 6) (tgt := 40) dX1_work_6 (by decide) (by omega) (fun h6 => ?_) (fun h6 => ?_)
      · skip
        exact absurd h6 (by omega)
      · skip
        refine j_aload_n (pc := 9) (i := 0) dX1_work_9 rfl rfl ?_
        refine m_get_quotient (pc := 10) dX1_work_10 ?_
        refine j_iload_n (pc := 13) (i := 3) dX1_work_13 rfl rfl ?_
        refine j_iconst (pc := 14) (v := nI 1) dX1_work_14 (by decide) ?_
        refine m_st_quotient (pc := 15) (v := true) dX1_work_15 (by omega) (fun Z15 hZ15 => ?_)
        refine j_aload_n (pc := 16) (i := 0) dX1_work_16 rfl rfl ?_
        refine m_get_left (pc := 17) dX1_work_17 ?_
        refine j_iload_n (pc := 20) (i := 3) dX1_work_20 rfl rfl ?_
        refine j_aload_n (pc := 21) (i := 0) dX1_work_21 rfl rfl ?_
        refine m_get_in (pc := 22) dX1_work_22 ?_
        refine j_sipush (pc := 25) (v := nI 128) dX1_work_25 (by decide) ?_
        refine j_iload_n (pc := 28) (i := 1) dX1_work_28 rfl rfl ?_
        refine n_imul (pc := 29) dX1_work_29 ?_
        refine j_iload_n (pc := 30) (i := 3) dX1_work_30 rfl rfl ?_
        refine n_iadd (pc := 31) dX1_work_31 ?_
        refine m_ld_in (pc := 32) dX1_work_32 (by omega) ?_
        refine m_st_left (pc := 33) (v := Z15 0 ((128 * f) + x)) dX1_work_33 (by omega) (fun Z33 hZ33 => ?_)
        refine n_iinc (pc := 34) (n := 1) (lv' := [.ref (Y.2.1 0), .int (nI f), .int (nI g), .int (nI (x + 1))]) dX1_work_34 rfl rfl (Nat.le_of_ble_eq_true rfl) ?_
        refine j_goto (pc := 37) (tgt := 2) dX1_work_37 (by decide) ?_
        have z0 : Z15 0 = Z 0 := by rw [hZ15, upb_k _ _ _ (by decide)]; exact hI.1
        refine ih Z33 ⟨by rw [hZ33, upb_k _ _ _ (by decide)]; exact z0, fun j hj => ?_⟩
        by_cases e : j = x
        · subst e
          exact ⟨by rw [hZ33, upb_k _ _ _ (by decide), hZ15, upb_s], by rw [hZ33, upb_s, z0]; rfl⟩
        · have z := hI.2 j (by omega)
          exact ⟨by rw [hZ33, upb_k _ _ _ (by decide), hZ15, upb_n _ _ _ e]; exact z.1, by rw [hZ33, upb_n _ _ _ e, hZ15, upb_k _ _ _ (by decide)]; exact z.2⟩
  refine j_iconst (pc := 0) (v := nI 0) dX1_work_0 (by decide) ?_
  refine j_istore_n (pc := 1) (i := 3) (lv' := [.ref (Y.2.1 0), .int (nI f), .int (nI g), .int (nI 0)]) dX1_work_1 rfl rfl ⟨(Nat.le_of_ble_eq_true rfl), (Nat.le_of_ble_eq_true rfl)⟩ ?_
  exact first 0 (Nat.zero_le _) Z ⟨rfl, lt_0⟩

theorem dX1_divides_0 : decode cX1_divides 0 = .ok (.aload_n 0, 1) := by decide +kernel
theorem dX1_divides_1 : decode cX1_divides 1 = .ok (.iload_n 1, 1) := by decide +kernel
theorem dX1_divides_2 : decode cX1_divides 2 = .ok (.invokevirtual 19, 3) := by decide +kernel
theorem dX1_divides_5 : decode cX1_divides 5 = .ok (.ifCond .eq 23, 3) := by decide +kernel
theorem dX1_divides_8 : decode cX1_divides 8 = .ok (.aload_n 0, 1) := by decide +kernel
theorem dX1_divides_9 : decode cX1_divides 9 = .ok (.iload_n 2, 1) := by decide +kernel
theorem dX1_divides_10 : decode cX1_divides 10 = .ok (.invokevirtual 19, 3) := by decide +kernel
theorem dX1_divides_13 : decode cX1_divides 13 = .ok (.ifCond .eq 15, 3) := by decide +kernel
theorem dX1_divides_16 : decode cX1_divides 16 = .ok (.aload_n 0, 1) := by decide +kernel
theorem dX1_divides_17 : decode cX1_divides 17 = .ok (.iload_n 2, 1) := by decide +kernel
theorem dX1_divides_18 : decode cX1_divides 18 = .ok (.invokevirtual 26, 3) := by decide +kernel
theorem dX1_divides_21 : decode cX1_divides 21 = .ok (.ifCond .le 7, 3) := by decide +kernel
theorem dX1_divides_24 : decode cX1_divides 24 = .ok (.iconst 1, 1) := by decide +kernel
theorem dX1_divides_25 : decode cX1_divides 25 = .ok (.goto 4, 3) := by decide +kernel
theorem dX1_divides_28 : decode cX1_divides 28 = .ok (.iconst 0, 1) := by decide +kernel
theorem dX1_divides_29 : decode cX1_divides 29 = .ok (.ireturn, 1) := by decide +kernel
set_option maxRecDepth 100000 in
set_option maxHeartbeats 4000000 in
theorem met_mdivides (l : Launch) (Y : dL) (Z : Nat → Nat → Bool) (x y : Int32) : mMi l yX1_divides cX1_divides 3 (some .boolean) 2 Y [.int x, .int y] Z (fun r Z' => Z' = Z ∧ ((r = nI 1 ∧ ∃ f g, f < 4 ∧ g < 4 ∧ x = nI f ∧ y = nI g ∧ 0 < cntB (ms Z g) 128) ∨ (r = nI 0 ∧ ∀ f g, f < 4 → g < 4 → x = nI f → y = nI g → cntB (ms Z g) 128 = 0))) := by
  refine m_ofi .boolean (own := RX1) rfl rfl (by decide) (Nat.le_of_ble_eq_true rfl) (by simp [lcat, Value.category]) ?_
  intro G hG ret
  refine j_aload_n (pc := 0) (i := 0) dX1_divides_0 rfl rfl ?_
  refine j_iload_n (pc := 1) (i := 1) dX1_divides_1 rfl rfl ?_
  refine m_calli (pc := 2) (st := []) (met_mexpression (kl G) Y Z x) hG (by decide) dX1_divides_2 cpM_X1_expression (Nat.le_of_ble_eq_true rfl) rfl (fun r2 Z2 hr2 => ?_)
  obtain ⟨hE2, hr2⟩ := hr2
  rw [hE2]
  rcases hr2 with ⟨rfl, hq2⟩ | ⟨rfl, hbx⟩
  · skip
    obtain ⟨x0, hx0, rfl⟩ := hq2
    refine n_if_eq (pc := 5) (tgt := 28) dX1_divides_5 (by decide) (by decide) (fun h => absurd h (by decide)) (fun _ => ?_)
    refine j_aload_n (pc := 8) (i := 0) dX1_divides_8 rfl rfl ?_
    refine j_iload_n (pc := 9) (i := 2) dX1_divides_9 rfl rfl ?_
    refine m_calli (pc := 10) (st := []) (met_mexpression (kl G) Y Z y) hG (by decide) dX1_divides_10 cpM_X1_expression (Nat.le_of_ble_eq_true rfl) rfl (fun r10 Z10 hr10 => ?_)
    obtain ⟨hE10, hr10⟩ := hr10
    rw [hE10]
    rcases hr10 with ⟨rfl, hq10⟩ | ⟨rfl, hby⟩
    · skip
      obtain ⟨y0, hy0, rfl⟩ := hq10
      refine n_if_eq (pc := 13) (tgt := 28) dX1_divides_13 (by decide) (by decide) (fun h => absurd h (by decide)) (fun _ => ?_)
      refine j_aload_n (pc := 16) (i := 0) dX1_divides_16 rfl rfl ?_
      refine j_iload_n (pc := 17) (i := 2) dX1_divides_17 rfl rfl ?_
      refine m_calli (pc := 18) (st := []) (met_mmany (kl G) Y Z y0 (by omega)) hG (by decide) dX1_divides_18 cpM_X1_many (Nat.le_of_ble_eq_true rfl) rfl (fun r18 Z18 hr18 => ?_)
      obtain ⟨hE18, hr18⟩ := hr18
      rw [hE18]
      subst hr18
      have hcl := cntB_le (ms Z y0) 128
      refine n_if_le (pc := 21) (tgt := 28) dX1_divides_21 (by decide) (by omega) (fun h21 => ?_) (fun h21 => ?_)
      · skip
        refine j_iconst (pc := 28) (v := nI 0) dX1_divides_28 (by decide) ?_
        first | exact ret _ _ _ _ dX1_divides_29 rfl ⟨rfl, Or.inr ⟨rfl, fun f g hf hg e1 e2 => absurd e1 (hbx f hf)⟩⟩ | exact ret _ _ _ _ dX1_divides_29 rfl ⟨rfl, Or.inr ⟨rfl, fun f g hf hg e1 e2 => absurd e2 (hby g hg)⟩⟩ | exact ret _ _ _ _ dX1_divides_29 rfl ⟨rfl, Or.inr ⟨rfl, fun f g hf hg e1 e2 => by rw [← (nI_eq (by omega) (by omega)).mp e2]; exact h21⟩⟩
      · skip
        refine j_iconst (pc := 24) (v := nI 1) dX1_divides_24 (by decide) ?_
        refine j_goto (pc := 25) (tgt := 29) dX1_divides_25 (by decide) ?_
        exact ret _ _ _ _ dX1_divides_29 rfl ⟨rfl, Or.inl ⟨rfl, x0, y0, hx0, hy0, rfl, rfl, h21⟩⟩
    · skip
      skip
      refine n_if_eq (pc := 13) (tgt := 28) dX1_divides_13 (by decide) (by decide) (fun _ => ?_) (fun h => absurd h (by decide))
      refine j_iconst (pc := 28) (v := nI 0) dX1_divides_28 (by decide) ?_
      first | exact ret _ _ _ _ dX1_divides_29 rfl ⟨rfl, Or.inr ⟨rfl, fun f g hf hg e1 e2 => absurd e1 (hbx f hf)⟩⟩ | exact ret _ _ _ _ dX1_divides_29 rfl ⟨rfl, Or.inr ⟨rfl, fun f g hf hg e1 e2 => absurd e2 (hby g hg)⟩⟩ | exact ret _ _ _ _ dX1_divides_29 rfl ⟨rfl, Or.inr ⟨rfl, fun f g hf hg e1 e2 => by rw [← (nI_eq (by omega) (by omega)).mp e2]; exact h21⟩⟩
  · skip
    skip
    refine n_if_eq (pc := 5) (tgt := 28) dX1_divides_5 (by decide) (by decide) (fun _ => ?_) (fun h => absurd h (by decide))
    refine j_iconst (pc := 28) (v := nI 0) dX1_divides_28 (by decide) ?_
    first | exact ret _ _ _ _ dX1_divides_29 rfl ⟨rfl, Or.inr ⟨rfl, fun f g hf hg e1 e2 => absurd e1 (hbx f hf)⟩⟩ | exact ret _ _ _ _ dX1_divides_29 rfl ⟨rfl, Or.inr ⟨rfl, fun f g hf hg e1 e2 => absurd e2 (hby g hg)⟩⟩ | exact ret _ _ _ _ dX1_divides_29 rfl ⟨rfl, Or.inr ⟨rfl, fun f g hf hg e1 e2 => by rw [← (nI_eq (by omega) (by omega)).mp e2]; exact h21⟩⟩

theorem dX1_divide_0 : decode cX1_divide 0 = .ok (.aload_n 0, 1) := by decide +kernel
theorem dX1_divide_1 : decode cX1_divide 1 = .ok (.iload_n 1, 1) := by decide +kernel
theorem dX1_divide_2 : decode cX1_divide 2 = .ok (.invokevirtual 19, 3) := by decide +kernel
theorem dX1_divide_5 : decode cX1_divide 5 = .ok (.ifCond .eq 12, 3) := by decide +kernel
theorem dX1_divide_8 : decode cX1_divide 8 = .ok (.aload_n 0, 1) := by decide +kernel
theorem dX1_divide_9 : decode cX1_divide 9 = .ok (.iload_n 2, 1) := by decide +kernel
theorem dX1_divide_10 : decode cX1_divide 10 = .ok (.iload_n 3, 1) := by decide +kernel
theorem dX1_divide_11 : decode cX1_divide 11 = .ok (.invokevirtual 38, 3) := by decide +kernel
theorem dX1_divide_14 : decode cX1_divide 14 = .ok (.ifCond .ne 5, 3) := by decide +kernel
theorem dX1_divide_17 : decode cX1_divide 17 = .ok (.iconst (-1), 1) := by decide +kernel
theorem dX1_divide_18 : decode cX1_divide 18 = .ok (.ireturn, 1) := by decide +kernel
theorem dX1_divide_19 : decode cX1_divide 19 = .ok (.aload_n 0, 1) := by decide +kernel
theorem dX1_divide_20 : decode cX1_divide 20 = .ok (.iload_n 2, 1) := by decide +kernel
theorem dX1_divide_21 : decode cX1_divide 21 = .ok (.iload_n 3, 1) := by decide +kernel
theorem dX1_divide_22 : decode cX1_divide 22 = .ok (.invokevirtual 42, 3) := by decide +kernel
theorem dX1_divide_25 : decode cX1_divide 25 = .ok (.aload_n 0, 1) := by decide +kernel
theorem dX1_divide_26 : decode cX1_divide 26 = .ok (.iload_n 1, 1) := by decide +kernel
theorem dX1_divide_27 : decode cX1_divide 27 = .ok (.iconst 0, 1) := by decide +kernel
theorem dX1_divide_28 : decode cX1_divide 28 = .ok (.invokevirtual 34, 3) := by decide +kernel
theorem dX1_divide_31 : decode cX1_divide 31 = .ok (.aload_n 0, 1) := by decide +kernel
theorem dX1_divide_32 : decode cX1_divide 32 = .ok (.iload_n 1, 1) := by decide +kernel
theorem dX1_divide_33 : decode cX1_divide 33 = .ok (.invokevirtual 26, 3) := by decide +kernel
theorem dX1_divide_36 : decode cX1_divide 36 = .ok (.ireturn, 1) := by decide +kernel
set_option maxRecDepth 100000 in
set_option maxHeartbeats 4000000 in
theorem met_mdivide (l : Launch) (Y : dL) (Z : Nat → Nat → Bool) (x y z : Int32) : mMi l yX1_divide cX1_divide 4 (some .int) 3 Y [.int x, .int y, .int z] Z (fun r Z' => (r = -1 ∧ Z' = Z ∧ ((∀ k, k < 4 → x ≠ nI k) ∨ (∀ f g, f < 4 → g < 4 → y = nI f → z = nI g → cntB (ms Z g) 128 = 0))) ∨ ∃ e f g, e < 4 ∧ f < 4 ∧ g < 4 ∧ x = nI e ∧ y = nI f ∧ z = nI g ∧ 0 < cntB (ms Z g) 128 ∧ stP Z e (wq Z f g) r Z') := by
  refine m_ofi .int (own := RX1) rfl rfl (by decide) (Nat.le_of_ble_eq_true rfl) (by simp [lcat, Value.category]) ?_
  intro G hG ret
  refine j_aload_n (pc := 0) (i := 0) dX1_divide_0 rfl rfl ?_
  refine j_iload_n (pc := 1) (i := 1) dX1_divide_1 rfl rfl ?_
  refine m_calli (pc := 2) (st := []) (met_mexpression (kl G) Y Z x) hG (by decide) dX1_divide_2 cpM_X1_expression (Nat.le_of_ble_eq_true rfl) rfl (fun r2 Z2 hr2 => ?_)
  obtain ⟨hE2, hr2⟩ := hr2
  rw [hE2]
  rcases hr2 with ⟨rfl, hq2⟩ | ⟨rfl, hbx⟩
  · skip
    obtain ⟨x0, hx0, rfl⟩ := hq2
    refine n_if_eq (pc := 5) (tgt := 17) dX1_divide_5 (by decide) (by decide) (fun h => absurd h (by decide)) (fun _ => ?_)
    refine j_aload_n (pc := 8) (i := 0) dX1_divide_8 rfl rfl ?_
    refine j_iload_n (pc := 9) (i := 2) dX1_divide_9 rfl rfl ?_
    refine j_iload_n (pc := 10) (i := 3) dX1_divide_10 rfl rfl ?_
    refine m_calli (pc := 11) (st := []) (met_mdivides (kl G) Y Z y z) hG (by decide) dX1_divide_11 cpM_X1_divides (Nat.le_of_ble_eq_true rfl) rfl (fun r11 Z11 hr11 => ?_)
    obtain ⟨hE11, hr11⟩ := hr11
    rw [hE11]
    rcases hr11 with ⟨rfl, f, g, hf, hg, rfl, rfl, h0⟩ | ⟨rfl, hbd⟩
    · skip
      skip
      refine n_if_ne (pc := 14) (tgt := 19) dX1_divide_14 (by decide) (by decide) (fun _ => ?_) (fun h => absurd h (by decide))
      refine j_aload_n (pc := 19) (i := 0) dX1_divide_19 rfl rfl ?_
      refine j_iload_n (pc := 20) (i := 2) dX1_divide_20 rfl rfl ?_
      refine j_iload_n (pc := 21) (i := 3) dX1_divide_21 rfl rfl ?_
      refine m_callv (pc := 22) (st := []) (met_mwork (kl G) Y Z f g hf hg) hG (by decide) dX1_divide_22 cpM_X1_work (Nat.le_of_ble_eq_true rfl) rfl (fun Z22 hr22 => ?_)
      refine j_aload_n (pc := 25) (i := 0) dX1_divide_25 rfl rfl ?_
      refine j_iload_n (pc := 26) (i := 1) dX1_divide_26 rfl rfl ?_
      refine j_iconst (pc := 27) (v := nI 0) dX1_divide_27 (by decide) ?_
      refine m_callv (pc := 28) (st := []) (met_mstore (kl G) Y Z22 x0 false hx0) hG (by decide) dX1_divide_28 cpM_X1_store (Nat.le_of_ble_eq_true rfl) rfl (fun Z28 hr28 => ?_)
      refine j_aload_n (pc := 31) (i := 0) dX1_divide_31 rfl rfl ?_
      refine j_iload_n (pc := 32) (i := 1) dX1_divide_32 rfl rfl ?_
      refine m_calli (pc := 33) (st := []) (met_mmany (kl G) Y Z28 x0 hx0) hG (by decide) dX1_divide_33 cpM_X1_many (Nat.le_of_ble_eq_true rfl) rfl (fun r33 Z33 hr33 => ?_)
      obtain ⟨hE33, hr33⟩ := hr33
      rw [hE33]
      subst hr33
      exact ret _ _ _ _ dX1_divide_36 rfl (Or.inr ⟨x0, f, g, hx0, hf, hg, rfl, rfl, rfl, h0, stP_of hr22.1 (fun j hj => (hr22.2 j hj).1) hr28 rfl⟩)
    · skip
      skip
      refine n_if_ne (pc := 14) (tgt := 19) dX1_divide_14 (by decide) (by decide) (fun h => absurd h (by decide)) (fun _ => ?_)
      refine j_iconst (pc := 17) (v := -1) dX1_divide_17 (by decide) ?_
      first | exact ret _ _ _ _ dX1_divide_18 rfl (Or.inl ⟨rfl, rfl, Or.inl hbx⟩) | exact ret _ _ _ _ dX1_divide_18 rfl (Or.inl ⟨rfl, rfl, Or.inr hbd⟩)
  · skip
    skip
    refine n_if_eq (pc := 5) (tgt := 17) dX1_divide_5 (by decide) (by decide) (fun _ => ?_) (fun h => absurd h (by decide))
    refine j_iconst (pc := 17) (v := -1) dX1_divide_17 (by decide) ?_
    first | exact ret _ _ _ _ dX1_divide_18 rfl (Or.inl ⟨rfl, rfl, Or.inl hbx⟩) | exact ret _ _ _ _ dX1_divide_18 rfl (Or.inl ⟨rfl, rfl, Or.inr hbd⟩)

theorem dX1_rest_0 : decode cX1_rest 0 = .ok (.aload_n 0, 1) := by decide +kernel
theorem dX1_rest_1 : decode cX1_rest 1 = .ok (.iload_n 1, 1) := by decide +kernel
theorem dX1_rest_2 : decode cX1_rest 2 = .ok (.invokevirtual 19, 3) := by decide +kernel
theorem dX1_rest_5 : decode cX1_rest 5 = .ok (.ifCond .eq 12, 3) := by decide +kernel
theorem dX1_rest_8 : decode cX1_rest 8 = .ok (.aload_n 0, 1) := by decide +kernel
theorem dX1_rest_9 : decode cX1_rest 9 = .ok (.iload_n 2, 1) := by decide +kernel
theorem dX1_rest_10 : decode cX1_rest 10 = .ok (.iload_n 3, 1) := by decide +kernel
theorem dX1_rest_11 : decode cX1_rest 11 = .ok (.invokevirtual 38, 3) := by decide +kernel
theorem dX1_rest_14 : decode cX1_rest 14 = .ok (.ifCond .ne 5, 3) := by decide +kernel
theorem dX1_rest_17 : decode cX1_rest 17 = .ok (.iconst (-1), 1) := by decide +kernel
theorem dX1_rest_18 : decode cX1_rest 18 = .ok (.ireturn, 1) := by decide +kernel
theorem dX1_rest_19 : decode cX1_rest 19 = .ok (.aload_n 0, 1) := by decide +kernel
theorem dX1_rest_20 : decode cX1_rest 20 = .ok (.iload_n 2, 1) := by decide +kernel
theorem dX1_rest_21 : decode cX1_rest 21 = .ok (.iload_n 3, 1) := by decide +kernel
theorem dX1_rest_22 : decode cX1_rest 22 = .ok (.invokevirtual 42, 3) := by decide +kernel
theorem dX1_rest_25 : decode cX1_rest 25 = .ok (.aload_n 0, 1) := by decide +kernel
theorem dX1_rest_26 : decode cX1_rest 26 = .ok (.iload_n 1, 1) := by decide +kernel
theorem dX1_rest_27 : decode cX1_rest 27 = .ok (.iconst 1, 1) := by decide +kernel
theorem dX1_rest_28 : decode cX1_rest 28 = .ok (.invokevirtual 34, 3) := by decide +kernel
theorem dX1_rest_31 : decode cX1_rest 31 = .ok (.aload_n 0, 1) := by decide +kernel
theorem dX1_rest_32 : decode cX1_rest 32 = .ok (.iload_n 1, 1) := by decide +kernel
theorem dX1_rest_33 : decode cX1_rest 33 = .ok (.invokevirtual 26, 3) := by decide +kernel
theorem dX1_rest_36 : decode cX1_rest 36 = .ok (.ireturn, 1) := by decide +kernel
set_option maxRecDepth 100000 in
set_option maxHeartbeats 4000000 in
theorem met_mrest (l : Launch) (Y : dL) (Z : Nat → Nat → Bool) (x y z : Int32) : mMi l yX1_rest cX1_rest 4 (some .int) 3 Y [.int x, .int y, .int z] Z (fun r Z' => (r = -1 ∧ Z' = Z ∧ ((∀ k, k < 4 → x ≠ nI k) ∨ (∀ f g, f < 4 → g < 4 → y = nI f → z = nI g → cntB (ms Z g) 128 = 0))) ∨ ∃ e f g, e < 4 ∧ f < 4 ∧ g < 4 ∧ x = nI e ∧ y = nI f ∧ z = nI g ∧ 0 < cntB (ms Z g) 128 ∧ stP Z e (wl Z f g) r Z') := by
  refine m_ofi .int (own := RX1) rfl rfl (by decide) (Nat.le_of_ble_eq_true rfl) (by simp [lcat, Value.category]) ?_
  intro G hG ret
  refine j_aload_n (pc := 0) (i := 0) dX1_rest_0 rfl rfl ?_
  refine j_iload_n (pc := 1) (i := 1) dX1_rest_1 rfl rfl ?_
  refine m_calli (pc := 2) (st := []) (met_mexpression (kl G) Y Z x) hG (by decide) dX1_rest_2 cpM_X1_expression (Nat.le_of_ble_eq_true rfl) rfl (fun r2 Z2 hr2 => ?_)
  obtain ⟨hE2, hr2⟩ := hr2
  rw [hE2]
  rcases hr2 with ⟨rfl, hq2⟩ | ⟨rfl, hbx⟩
  · skip
    obtain ⟨x0, hx0, rfl⟩ := hq2
    refine n_if_eq (pc := 5) (tgt := 17) dX1_rest_5 (by decide) (by decide) (fun h => absurd h (by decide)) (fun _ => ?_)
    refine j_aload_n (pc := 8) (i := 0) dX1_rest_8 rfl rfl ?_
    refine j_iload_n (pc := 9) (i := 2) dX1_rest_9 rfl rfl ?_
    refine j_iload_n (pc := 10) (i := 3) dX1_rest_10 rfl rfl ?_
    refine m_calli (pc := 11) (st := []) (met_mdivides (kl G) Y Z y z) hG (by decide) dX1_rest_11 cpM_X1_divides (Nat.le_of_ble_eq_true rfl) rfl (fun r11 Z11 hr11 => ?_)
    obtain ⟨hE11, hr11⟩ := hr11
    rw [hE11]
    rcases hr11 with ⟨rfl, f, g, hf, hg, rfl, rfl, h0⟩ | ⟨rfl, hbd⟩
    · skip
      skip
      refine n_if_ne (pc := 14) (tgt := 19) dX1_rest_14 (by decide) (by decide) (fun _ => ?_) (fun h => absurd h (by decide))
      refine j_aload_n (pc := 19) (i := 0) dX1_rest_19 rfl rfl ?_
      refine j_iload_n (pc := 20) (i := 2) dX1_rest_20 rfl rfl ?_
      refine j_iload_n (pc := 21) (i := 3) dX1_rest_21 rfl rfl ?_
      refine m_callv (pc := 22) (st := []) (met_mwork (kl G) Y Z f g hf hg) hG (by decide) dX1_rest_22 cpM_X1_work (Nat.le_of_ble_eq_true rfl) rfl (fun Z22 hr22 => ?_)
      refine j_aload_n (pc := 25) (i := 0) dX1_rest_25 rfl rfl ?_
      refine j_iload_n (pc := 26) (i := 1) dX1_rest_26 rfl rfl ?_
      refine j_iconst (pc := 27) (v := nI 1) dX1_rest_27 (by decide) ?_
      refine m_callv (pc := 28) (st := []) (met_mstore (kl G) Y Z22 x0 true hx0) hG (by decide) dX1_rest_28 cpM_X1_store (Nat.le_of_ble_eq_true rfl) rfl (fun Z28 hr28 => ?_)
      refine j_aload_n (pc := 31) (i := 0) dX1_rest_31 rfl rfl ?_
      refine j_iload_n (pc := 32) (i := 1) dX1_rest_32 rfl rfl ?_
      refine m_calli (pc := 33) (st := []) (met_mmany (kl G) Y Z28 x0 hx0) hG (by decide) dX1_rest_33 cpM_X1_many (Nat.le_of_ble_eq_true rfl) rfl (fun r33 Z33 hr33 => ?_)
      obtain ⟨hE33, hr33⟩ := hr33
      rw [hE33]
      subst hr33
      exact ret _ _ _ _ dX1_rest_36 rfl (Or.inr ⟨x0, f, g, hx0, hf, hg, rfl, rfl, rfl, h0, stP_of hr22.1 (fun j hj => (hr22.2 j hj).2) hr28 rfl⟩)
    · skip
      skip
      refine n_if_ne (pc := 14) (tgt := 19) dX1_rest_14 (by decide) (by decide) (fun h => absurd h (by decide)) (fun _ => ?_)
      refine j_iconst (pc := 17) (v := -1) dX1_rest_17 (by decide) ?_
      first | exact ret _ _ _ _ dX1_rest_18 rfl (Or.inl ⟨rfl, rfl, Or.inl hbx⟩) | exact ret _ _ _ _ dX1_rest_18 rfl (Or.inl ⟨rfl, rfl, Or.inr hbd⟩)
  · skip
    skip
    refine n_if_eq (pc := 5) (tgt := 17) dX1_rest_5 (by decide) (by decide) (fun _ => ?_) (fun h => absurd h (by decide))
    refine j_iconst (pc := 17) (v := -1) dX1_rest_17 (by decide) ?_
    first | exact ret _ _ _ _ dX1_rest_18 rfl (Or.inl ⟨rfl, rfl, Or.inl hbx⟩) | exact ret _ _ _ _ dX1_rest_18 rfl (Or.inl ⟨rfl, rfl, Or.inr hbd⟩)

theorem dX1_common_0 : decode cX1_common 0 = .ok (.aload_n 0, 1) := by decide +kernel
theorem dX1_common_1 : decode cX1_common 1 = .ok (.iload_n 1, 1) := by decide +kernel
theorem dX1_common_2 : decode cX1_common 2 = .ok (.invokevirtual 19, 3) := by decide +kernel
theorem dX1_common_5 : decode cX1_common 5 = .ok (.ifCond .eq 11, 3) := by decide +kernel
theorem dX1_common_8 : decode cX1_common 8 = .ok (.aload_n 0, 1) := by decide +kernel
theorem dX1_common_9 : decode cX1_common 9 = .ok (.iload_n 1, 1) := by decide +kernel
theorem dX1_common_10 : decode cX1_common 10 = .ok (.invokevirtual 26, 3) := by decide +kernel
theorem dX1_common_13 : decode cX1_common 13 = .ok (.ifCond .ne 5, 3) := by decide +kernel
theorem dX1_common_16 : decode cX1_common 16 = .ok (.iconst (-1), 1) := by decide +kernel
theorem dX1_common_17 : decode cX1_common 17 = .ok (.ireturn, 1) := by decide +kernel
theorem dX1_common_18 : decode cX1_common 18 = .ok (.bipush 127, 2) := by decide +kernel
theorem dX1_common_20 : decode cX1_common 20 = .ok (.istore_n 2, 1) := by decide +kernel
theorem dX1_common_21 : decode cX1_common 21 = .ok (.iconst 0, 1) := by decide +kernel
theorem dX1_common_22 : decode cX1_common 22 = .ok (.istore_n 3, 1) := by decide +kernel
theorem dX1_common_23 : decode cX1_common 23 = .ok (.iload_n 3, 1) := by decide +kernel
theorem dX1_common_24 : decode cX1_common 24 = .ok (.sipush 128, 3) := by decide +kernel
theorem dX1_common_27 : decode cX1_common 27 = .ok (.if_icmp .ge 32, 3) := by decide +kernel
theorem dX1_common_30 : decode cX1_common 30 = .ok (.aload_n 0, 1) := by decide +kernel
theorem dX1_common_31 : decode cX1_common 31 = .ok (.getfield 7, 3) := by decide +kernel
theorem dX1_common_34 : decode cX1_common 34 = .ok (.sipush 128, 3) := by decide +kernel
theorem dX1_common_37 : decode cX1_common 37 = .ok (.iload_n 1, 1) := by decide +kernel
theorem dX1_common_38 : decode cX1_common 38 = .ok (.imul, 1) := by decide +kernel
theorem dX1_common_39 : decode cX1_common 39 = .ok (.iload_n 3, 1) := by decide +kernel
theorem dX1_common_40 : decode cX1_common 40 = .ok (.iadd, 1) := by decide +kernel
theorem dX1_common_41 : decode cX1_common 41 = .ok (.baload, 1) := by decide +kernel
theorem dX1_common_42 : decode cX1_common 42 = .ok (.ifCond .eq 9, 3) := by decide +kernel
theorem dX1_common_45 : decode cX1_common 45 = .ok (.iload_n 2, 1) := by decide +kernel
theorem dX1_common_46 : decode cX1_common 46 = .ok (.iload_n 3, 1) := by decide +kernel
theorem dX1_common_47 : decode cX1_common 47 = .ok (.iand, 1) := by decide +kernel
theorem dX1_common_48 : decode cX1_common 48 = .ok (.goto 4, 3) := by decide +kernel
theorem dX1_common_51 : decode cX1_common 51 = .ok (.iload_n 2, 1) := by decide +kernel
theorem dX1_common_52 : decode cX1_common 52 = .ok (.istore_n 2, 1) := by decide +kernel
theorem dX1_common_53 : decode cX1_common 53 = .ok (.iinc 3 1, 3) := by decide +kernel
theorem dX1_common_56 : decode cX1_common 56 = .ok (.goto (-33), 3) := by decide +kernel
theorem dX1_common_59 : decode cX1_common 59 = .ok (.iload_n 2, 1) := by decide +kernel
theorem dX1_common_60 : decode cX1_common 60 = .ok (.ireturn, 1) := by decide +kernel
set_option maxRecDepth 100000 in
set_option maxHeartbeats 4000000 in
theorem met_mcommon (l : Launch) (Y : dL) (Z : Nat → Nat → Bool) (x : Int32) : mMi l yX1_common cX1_common 4 (some .int) 2 Y [.int x] Z (fun r Z' => Z' = Z ∧ ((r = -1 ∧ (∀ k, k < 4 → x ≠ nI k)) ∨ ∃ e, e < 4 ∧ x = nI e ∧ ((r = -1 ∧ cntB (ms Z e) 128 = 0) ∨ (cntB (ms Z e) 128 ≠ 0 ∧ r = nI (comB (ms Z e) 128))))) := by
  refine m_ofi .int (own := RX1) rfl rfl (by decide) (Nat.le_of_ble_eq_true rfl) (by simp [lcat, Value.category]) ?_
  intro G hG ret
  refine j_aload_n (pc := 0) (i := 0) dX1_common_0 rfl rfl ?_
  refine j_iload_n (pc := 1) (i := 1) dX1_common_1 rfl rfl ?_
  refine m_calli (pc := 2) (st := []) (met_mexpression (kl G) Y Z x) hG (by decide) dX1_common_2 cpM_X1_expression (Nat.le_of_ble_eq_true rfl) rfl (fun r2 Z2 hr2 => ?_)
  obtain ⟨hE2, hr2⟩ := hr2
  rw [hE2]
  rcases hr2 with ⟨rfl, hq2⟩ | ⟨rfl, hbx⟩
  · skip
    obtain ⟨x0, hx0, rfl⟩ := hq2
    refine n_if_eq (pc := 5) (tgt := 16) dX1_common_5 (by decide) (by decide) (fun h => absurd h (by decide)) (fun _ => ?_)
    refine j_aload_n (pc := 8) (i := 0) dX1_common_8 rfl rfl ?_
    refine j_iload_n (pc := 9) (i := 1) dX1_common_9 rfl rfl ?_
    refine m_calli (pc := 10) (st := []) (met_mmany (kl G) Y Z x0 (by omega)) hG (by decide) dX1_common_10 cpM_X1_many (Nat.le_of_ble_eq_true rfl) rfl (fun r10 Z10 hr10 => ?_)
    obtain ⟨hE10, hr10⟩ := hr10
    rw [hE10]
    subst hr10
    have hcl := cntB_le (ms Z x0) 128
    refine n_if_ne (pc := 13) (tgt := 18) dX1_common_13 (by decide) (by omega) (fun h13 => ?_) (fun h13 => ?_)
    · skip
      refine j_bipush (pc := 18) (v := nI 127) dX1_common_18 (by decide) ?_
      refine j_istore_n (pc := 20) (i := 2) (lv' := [.ref (Y.2.1 0), .int (nI x0), .int (nI 127)]) dX1_common_20 rfl rfl ⟨(Nat.le_of_ble_eq_true rfl), (Nat.le_of_ble_eq_true rfl)⟩ ?_
      refine j_iconst (pc := 21) (v := nI 0) dX1_common_21 (by decide) ?_
      refine j_istore_n (pc := 22) (i := 3) (lv' := [.ref (Y.2.1 0), .int (nI x0), .int (nI 127), .int (nI 0)]) dX1_common_22 rfl rfl ⟨(Nat.le_of_ble_eq_true rfl), (Nat.le_of_ble_eq_true rfl)⟩ ?_
      have loop : ∀ c, c ≤ 128 → J cX1_common 4 RX1 G (mV G Y (mA Y) Z) 23 [.ref (Y.2.1 0), .int (nI x0), .int (nI (comB (ms Z x0) c)), .int (nI c)] [] := by
        refine up_loop _ 128 ?_ (fun c hc ih => ?_)
        · skip
          refine j_iload_n (pc := 23) (i := 3) dX1_common_23 rfl rfl ?_
          refine j_sipush (pc := 24) (v := nI 128) dX1_common_24 (by decide) ?_
          refine n_icmp_ge (pc := 27) (tgt := 59) dX1_common_27 (by decide) (by omega) (fun h27 => ?_) (fun h27 => ?_)
          · skip
            refine j_iload_n (pc := 59) (i := 2) dX1_common_59 rfl rfl ?_
            exact ret _ _ _ _ dX1_common_60 rfl ⟨rfl, Or.inr ⟨x0, hx0, rfl, Or.inr ⟨h13, rfl⟩⟩⟩
          · skip
            exact absurd h27 (by omega)
        · skip
          refine j_iload_n (pc := 23) (i := 3) dX1_common_23 rfl rfl ?_
          refine j_sipush (pc := 24) (v := nI 128) dX1_common_24 (by decide) ?_
          refine n_icmp_ge (pc := 27) (tgt := 59) dX1_common_27 (by decide) (by omega) (fun h27 => ?_) (fun h27 => ?_)
          · skip
            exact absurd h27 (by omega)
          · skip
            refine j_aload_n (pc := 30) (i := 0) dX1_common_30 rfl rfl ?_
            refine m_get_in (pc := 31) dX1_common_31 ?_
            refine j_sipush (pc := 34) (v := nI 128) dX1_common_34 (by decide) ?_
            refine j_iload_n (pc := 37) (i := 1) dX1_common_37 rfl rfl ?_
            refine n_imul (pc := 38) dX1_common_38 ?_
            refine j_iload_n (pc := 39) (i := 3) dX1_common_39 rfl rfl ?_
            refine n_iadd (pc := 40) dX1_common_40 ?_
            refine m_ld_in (pc := 41) dX1_common_41 (by omega) ?_
            refine b_if_eq (pc := 42) (tgt := 51) dX1_common_42 (by decide) (fun h42 => ?_) (fun h42 => ?_)
            · skip
              refine j_iload_n (pc := 51) (i := 2) dX1_common_51 rfl rfl ?_
              refine j_istore_n (pc := 52) (i := 2) (lv' := [.ref (Y.2.1 0), .int (nI x0), .int (nI (comB (ms Z x0) c)), .int (nI c)]) dX1_common_52 rfl rfl ⟨(Nat.le_of_ble_eq_true rfl), (Nat.le_of_ble_eq_true rfl)⟩ ?_
              refine n_iinc (pc := 53) (n := 1) (lv' := [.ref (Y.2.1 0), .int (nI x0), .int (nI (comB (ms Z x0) c)), .int (nI (c + 1))]) dX1_common_53 rfl rfl (Nat.le_of_ble_eq_true rfl) ?_
              refine j_goto (pc := 56) (tgt := 23) dX1_common_56 (by decide) ?_
              rw [show comB (ms Z x0) c = comB (ms Z x0) (c + 1) by simp [comB, ms, h42]]
              exact ih
            · skip
              refine j_iload_n (pc := 45) (i := 2) dX1_common_45 rfl rfl ?_
              refine j_iload_n (pc := 46) (i := 3) dX1_common_46 rfl rfl ?_
              refine n_iand (pc := 47) dX1_common_47 ?_
              refine j_goto (pc := 48) (tgt := 52) dX1_common_48 (by decide) ?_
              refine j_istore_n (pc := 52) (i := 2) (lv' := [.ref (Y.2.1 0), .int (nI x0), .int (nI ((comB (ms Z x0) c) &&& c)), .int (nI c)]) dX1_common_52 rfl rfl ⟨(Nat.le_of_ble_eq_true rfl), (Nat.le_of_ble_eq_true rfl)⟩ ?_
              refine n_iinc (pc := 53) (n := 1) (lv' := [.ref (Y.2.1 0), .int (nI x0), .int (nI ((comB (ms Z x0) c) &&& c)), .int (nI (c + 1))]) dX1_common_53 rfl rfl (Nat.le_of_ble_eq_true rfl) ?_
              refine j_goto (pc := 56) (tgt := 23) dX1_common_56 (by decide) ?_
              rw [show (comB (ms Z x0) c) &&& c = comB (ms Z x0) (c + 1) by simp [comB, ms, h42]]
              exact ih
      exact loop 0 (Nat.zero_le _)
    · skip
      refine j_iconst (pc := 16) (v := -1) dX1_common_16 (by decide) ?_
      first | exact ret _ _ _ _ dX1_common_17 rfl ⟨rfl, Or.inl ⟨rfl, hbx⟩⟩ | exact ret _ _ _ _ dX1_common_17 rfl ⟨rfl, Or.inr ⟨x0, hx0, rfl, Or.inl ⟨rfl, h13⟩⟩⟩
  · skip
    skip
    refine n_if_eq (pc := 5) (tgt := 16) dX1_common_5 (by decide) (by decide) (fun _ => ?_) (fun h => absurd h (by decide))
    refine j_iconst (pc := 16) (v := -1) dX1_common_16 (by decide) ?_
    first | exact ret _ _ _ _ dX1_common_17 rfl ⟨rfl, Or.inl ⟨rfl, hbx⟩⟩ | exact ret _ _ _ _ dX1_common_17 rfl ⟨rfl, Or.inr ⟨x0, hx0, rfl, Or.inl ⟨rfl, h13⟩⟩⟩

theorem dX1_freeBy_0 : decode cX1_freeBy 0 = .ok (.iconst 0, 1) := by decide +kernel
theorem dX1_freeBy_1 : decode cX1_freeBy 1 = .ok (.istore_n 3, 1) := by decide +kernel
theorem dX1_freeBy_2 : decode cX1_freeBy 2 = .ok (.bipush 127, 2) := by decide +kernel
theorem dX1_freeBy_4 : decode cX1_freeBy 4 = .ok (.istore 4, 2) := by decide +kernel
theorem dX1_freeBy_6 : decode cX1_freeBy 6 = .ok (.iconst 0, 1) := by decide +kernel
theorem dX1_freeBy_7 : decode cX1_freeBy 7 = .ok (.istore 5, 2) := by decide +kernel
theorem dX1_freeBy_9 : decode cX1_freeBy 9 = .ok (.iload 5, 2) := by decide +kernel
theorem dX1_freeBy_11 : decode cX1_freeBy 11 = .ok (.sipush 128, 3) := by decide +kernel
theorem dX1_freeBy_14 : decode cX1_freeBy 14 = .ok (.if_icmp .ge 49, 3) := by decide +kernel
theorem dX1_freeBy_17 : decode cX1_freeBy 17 = .ok (.aload_n 0, 1) := by decide +kernel
theorem dX1_freeBy_18 : decode cX1_freeBy 18 = .ok (.iload_n 1, 1) := by decide +kernel
theorem dX1_freeBy_19 : decode cX1_freeBy 19 = .ok (.iload_n 2, 1) := by decide +kernel
theorem dX1_freeBy_20 : decode cX1_freeBy 20 = .ok (.iload 5, 2) := by decide +kernel
theorem dX1_freeBy_22 : decode cX1_freeBy 22 = .ok (.invokevirtual 30, 3) := by decide +kernel
theorem dX1_freeBy_25 : decode cX1_freeBy 25 = .ok (.istore 6, 2) := by decide +kernel
theorem dX1_freeBy_27 : decode cX1_freeBy 27 = .ok (.iload 6, 2) := by decide +kernel
theorem dX1_freeBy_29 : decode cX1_freeBy 29 = .ok (.ifCond .eq 9, 3) := by decide +kernel
theorem dX1_freeBy_32 : decode cX1_freeBy 32 = .ok (.iload_n 3, 1) := by decide +kernel
theorem dX1_freeBy_33 : decode cX1_freeBy 33 = .ok (.iconst 1, 1) := by decide +kernel
theorem dX1_freeBy_34 : decode cX1_freeBy 34 = .ok (.iadd, 1) := by decide +kernel
theorem dX1_freeBy_35 : decode cX1_freeBy 35 = .ok (.goto 4, 3) := by decide +kernel
theorem dX1_freeBy_38 : decode cX1_freeBy 38 = .ok (.iload_n 3, 1) := by decide +kernel
theorem dX1_freeBy_39 : decode cX1_freeBy 39 = .ok (.istore_n 3, 1) := by decide +kernel
theorem dX1_freeBy_40 : decode cX1_freeBy 40 = .ok (.iload 6, 2) := by decide +kernel
theorem dX1_freeBy_42 : decode cX1_freeBy 42 = .ok (.ifCond .eq 11, 3) := by decide +kernel
theorem dX1_freeBy_45 : decode cX1_freeBy 45 = .ok (.iload 4, 2) := by decide +kernel
theorem dX1_freeBy_47 : decode cX1_freeBy 47 = .ok (.iload 5, 2) := by decide +kernel
theorem dX1_freeBy_49 : decode cX1_freeBy 49 = .ok (.iand, 1) := by decide +kernel
theorem dX1_freeBy_50 : decode cX1_freeBy 50 = .ok (.goto 5, 3) := by decide +kernel
theorem dX1_freeBy_53 : decode cX1_freeBy 53 = .ok (.iload 4, 2) := by decide +kernel
theorem dX1_freeBy_55 : decode cX1_freeBy 55 = .ok (.istore 4, 2) := by decide +kernel
theorem dX1_freeBy_57 : decode cX1_freeBy 57 = .ok (.iinc 5 1, 3) := by decide +kernel
theorem dX1_freeBy_60 : decode cX1_freeBy 60 = .ok (.goto (-51), 3) := by decide +kernel
theorem dX1_freeBy_63 : decode cX1_freeBy 63 = .ok (.iload_n 3, 1) := by decide +kernel
theorem dX1_freeBy_64 : decode cX1_freeBy 64 = .ok (.iconst 2, 1) := by decide +kernel
theorem dX1_freeBy_65 : decode cX1_freeBy 65 = .ok (.if_icmp .lt 12, 3) := by decide +kernel
theorem dX1_freeBy_68 : decode cX1_freeBy 68 = .ok (.iload 4, 2) := by decide +kernel
theorem dX1_freeBy_70 : decode cX1_freeBy 70 = .ok (.ifCond .ne 7, 3) := by decide +kernel
theorem dX1_freeBy_73 : decode cX1_freeBy 73 = .ok (.iconst 1, 1) := by decide +kernel
theorem dX1_freeBy_74 : decode cX1_freeBy 74 = .ok (.goto 4, 3) := by decide +kernel
theorem dX1_freeBy_77 : decode cX1_freeBy 77 = .ok (.iconst 0, 1) := by decide +kernel
theorem dX1_freeBy_78 : decode cX1_freeBy 78 = .ok (.ireturn, 1) := by decide +kernel
set_option maxRecDepth 100000 in
set_option maxHeartbeats 4000000 in
theorem met_mfreeBy (l : Launch) (Y : dL) (Z : Nat → Nat → Bool) (e c : Nat) (he : e < 4) (hc : c < 128) : mMi l yX1_freeBy cX1_freeBy 7 (some .boolean) 2 Y [.int (nI e), .int (nI c)] Z (fun r Z' => Z' = Z ∧ r = nI (fb Z e c).toNat) := by
  refine m_ofi .boolean (own := RX1) rfl rfl (by decide) (Nat.le_of_ble_eq_true rfl) (by simp [lcat, Value.category]) ?_
  intro G hG ret
  have hcl := cntB_le (qh Z e c) 128
  have hml := comB_le (qh Z e c) 128
  have loop : ∀ x, x ≤ 128 → J cX1_freeBy 7 RX1 G (mV G Y (mA Y) Z) 9 [.ref (Y.2.1 0), .int (nI e), .int (nI c), .int (nI (cntB (qh Z e c) x)), .int (nI (comB (qh Z e c) x)), .int (nI x)] [] := by
    refine up_loop _ 128 ?_ (fun x hx ih => ?_)
    · skip
      refine j_iload (pc := 9) dX1_freeBy_9 rfl ?_
      refine j_sipush (pc := 11) (v := nI 128) dX1_freeBy_11 (by decide) ?_
      refine n_icmp_ge (pc := 14) (tgt := 63) dX1_freeBy_14 (by decide) (by omega) (fun h14 => ?_) (fun h14 => ?_)
      · skip
        refine j_iload_n (pc := 63) (i := 3) dX1_freeBy_63 rfl rfl ?_
        refine j_iconst (pc := 64) (v := nI 2) dX1_freeBy_64 (by decide) ?_
        refine n_icmp_lt (pc := 65) (tgt := 77) dX1_freeBy_65 (by decide) (by omega) (fun h65 => ?_) (fun h65 => ?_)
        · skip
          refine j_iconst (pc := 77) (v := nI 0) dX1_freeBy_77 (by decide) ?_
          exact ret _ _ _ _ dX1_freeBy_78 rfl ⟨rfl, by unfold fb; first | (rw [decide_eq_true h65, decide_eq_true h70]; rfl) | (rw [decide_eq_true h65, decide_eq_false h70]; rfl) | (rw [decide_eq_false (by omega)]; rfl)⟩
        · skip
          refine j_iload (pc := 68) dX1_freeBy_68 rfl ?_
          refine n_if_ne (pc := 70) (tgt := 77) dX1_freeBy_70 (by decide) (by omega) (fun h70 => ?_) (fun h70 => ?_)
          · skip
            refine j_iconst (pc := 77) (v := nI 0) dX1_freeBy_77 (by decide) ?_
            exact ret _ _ _ _ dX1_freeBy_78 rfl ⟨rfl, by unfold fb; first | (rw [decide_eq_true h65, decide_eq_true h70]; rfl) | (rw [decide_eq_true h65, decide_eq_false h70]; rfl) | (rw [decide_eq_false (by omega)]; rfl)⟩
          · skip
            refine j_iconst (pc := 73) (v := nI 1) dX1_freeBy_73 (by decide) ?_
            refine j_goto (pc := 74) (tgt := 78) dX1_freeBy_74 (by decide) ?_
            exact ret _ _ _ _ dX1_freeBy_78 rfl ⟨rfl, by unfold fb; first | (rw [decide_eq_true h65, decide_eq_true h70]; rfl) | (rw [decide_eq_true h65, decide_eq_false h70]; rfl) | (rw [decide_eq_false (by omega)]; rfl)⟩
      · skip
        exact absurd h14 (by omega)
    · skip
      refine j_iload (pc := 9) dX1_freeBy_9 rfl ?_
      refine j_sipush (pc := 11) (v := nI 128) dX1_freeBy_11 (by decide) ?_
      refine n_icmp_ge (pc := 14) (tgt := 63) dX1_freeBy_14 (by decide) (by omega) (fun h14 => ?_) (fun h14 => ?_)
      · skip
        exact absurd h14 (by omega)
      · skip
        refine j_aload_n (pc := 17) (i := 0) dX1_freeBy_17 rfl rfl ?_
        refine j_iload_n (pc := 18) (i := 1) dX1_freeBy_18 rfl rfl ?_
        refine j_iload_n (pc := 19) (i := 2) dX1_freeBy_19 rfl rfl ?_
        refine j_iload (pc := 20) dX1_freeBy_20 rfl ?_
        refine m_calli (pc := 22) (st := []) (met_mquotientHas (kl G) Y Z e c x (by omega) (by omega) (by omega)) hG (by decide) dX1_freeBy_22 cpM_X1_quotientHas (Nat.le_of_ble_eq_true rfl) rfl (fun r22 Z22 hr22 => ?_)
        obtain ⟨hE22, hr22⟩ := hr22
        rw [hE22]
        subst hr22
        refine j_istore (pc := 25) (i := 6) (lv' := [.ref (Y.2.1 0), .int (nI e), .int (nI c), .int (nI (cntB (qh Z e c) x)), .int (nI (comB (qh Z e c) x)), .int (nI x), .int (nI (qh Z e c x).toNat)]) dX1_freeBy_25 rfl ⟨(Nat.le_of_ble_eq_true rfl), (Nat.le_of_ble_eq_true rfl)⟩ ?_
        refine j_iload (pc := 27) dX1_freeBy_27 rfl ?_
        refine b_if_eq (pc := 29) (tgt := 38) dX1_freeBy_29 (by decide) (fun h29 => ?_) (fun h29 => ?_)
        · skip
          refine j_iload_n (pc := 38) (i := 3) dX1_freeBy_38 rfl rfl ?_
          refine j_istore_n (pc := 39) (i := 3) (lv' := [.ref (Y.2.1 0), .int (nI e), .int (nI c), .int (nI (cntB (qh Z e c) x)), .int (nI (comB (qh Z e c) x)), .int (nI x), .int (nI (qh Z e c x).toNat)]) dX1_freeBy_39 rfl rfl ⟨(Nat.le_of_ble_eq_true rfl), (Nat.le_of_ble_eq_true rfl)⟩ ?_
          refine j_iload (pc := 40) dX1_freeBy_40 rfl ?_
          refine b_if_eq (pc := 42) (tgt := 53) dX1_freeBy_42 (by decide) (fun h42 => ?_) (fun h42 => ?_)
          · skip
            refine j_iload (pc := 53) dX1_freeBy_53 rfl ?_
            refine j_istore (pc := 55) (i := 4) (lv' := [.ref (Y.2.1 0), .int (nI e), .int (nI c), .int (nI (cntB (qh Z e c) x)), .int (nI (comB (qh Z e c) x)), .int (nI x), .int (nI (qh Z e c x).toNat)]) dX1_freeBy_55 rfl ⟨(Nat.le_of_ble_eq_true rfl), (Nat.le_of_ble_eq_true rfl)⟩ ?_
            refine n_iinc (pc := 57) (n := 1) (lv' := [.ref (Y.2.1 0), .int (nI e), .int (nI c), .int (nI (cntB (qh Z e c) x)), .int (nI (comB (qh Z e c) x)), .int (nI (x + 1)), .int (nI (qh Z e c x).toNat)]) dX1_freeBy_57 rfl rfl (Nat.le_of_ble_eq_true rfl) ?_
            refine j_goto (pc := 60) (tgt := 9) dX1_freeBy_60 (by decide) ?_
            refine j_take 6 (lv' := [.ref (Y.2.1 0), .int (nI e), .int (nI c), .int (nI (cntB (qh Z e c) x)), .int (nI (comB (qh Z e c) x)), .int (nI (x + 1))]) rfl ?_
            rw [show cntB (qh Z e c) x = cntB (qh Z e c) (x + 1) by simp [cntB, h29], show comB (qh Z e c) x = comB (qh Z e c) (x + 1) by simp [comB, h29]]
            exact ih
          · skip
            rw [h29] at h42
            cases h42
        · skip
          refine j_iload_n (pc := 32) (i := 3) dX1_freeBy_32 rfl rfl ?_
          refine j_iconst (pc := 33) (v := nI 1) dX1_freeBy_33 (by decide) ?_
          refine n_iadd (pc := 34) dX1_freeBy_34 ?_
          refine j_goto (pc := 35) (tgt := 39) dX1_freeBy_35 (by decide) ?_
          refine j_istore_n (pc := 39) (i := 3) (lv' := [.ref (Y.2.1 0), .int (nI e), .int (nI c), .int (nI ((cntB (qh Z e c) x) + 1)), .int (nI (comB (qh Z e c) x)), .int (nI x), .int (nI (qh Z e c x).toNat)]) dX1_freeBy_39 rfl rfl ⟨(Nat.le_of_ble_eq_true rfl), (Nat.le_of_ble_eq_true rfl)⟩ ?_
          refine j_iload (pc := 40) dX1_freeBy_40 rfl ?_
          refine b_if_eq (pc := 42) (tgt := 53) dX1_freeBy_42 (by decide) (fun h42 => ?_) (fun h42 => ?_)
          · skip
            rw [h29] at h42
            cases h42
          · skip
            refine j_iload (pc := 45) dX1_freeBy_45 rfl ?_
            refine j_iload (pc := 47) dX1_freeBy_47 rfl ?_
            refine n_iand (pc := 49) dX1_freeBy_49 ?_
            refine j_goto (pc := 50) (tgt := 55) dX1_freeBy_50 (by decide) ?_
            refine j_istore (pc := 55) (i := 4) (lv' := [.ref (Y.2.1 0), .int (nI e), .int (nI c), .int (nI ((cntB (qh Z e c) x) + 1)), .int (nI ((comB (qh Z e c) x) &&& x)), .int (nI x), .int (nI (qh Z e c x).toNat)]) dX1_freeBy_55 rfl ⟨(Nat.le_of_ble_eq_true rfl), (Nat.le_of_ble_eq_true rfl)⟩ ?_
            refine n_iinc (pc := 57) (n := 1) (lv' := [.ref (Y.2.1 0), .int (nI e), .int (nI c), .int (nI ((cntB (qh Z e c) x) + 1)), .int (nI ((comB (qh Z e c) x) &&& x)), .int (nI (x + 1)), .int (nI (qh Z e c x).toNat)]) dX1_freeBy_57 rfl rfl (Nat.le_of_ble_eq_true rfl) ?_
            refine j_goto (pc := 60) (tgt := 9) dX1_freeBy_60 (by decide) ?_
            refine j_take 6 (lv' := [.ref (Y.2.1 0), .int (nI e), .int (nI c), .int (nI ((cntB (qh Z e c) x) + 1)), .int (nI ((comB (qh Z e c) x) &&& x)), .int (nI (x + 1))]) rfl ?_
            rw [show (cntB (qh Z e c) x) + 1 = cntB (qh Z e c) (x + 1) by simp [cntB, h29], show (comB (qh Z e c) x) &&& x = comB (qh Z e c) (x + 1) by simp [comB, h29]]
            exact ih
  refine j_iconst (pc := 0) (v := nI 0) dX1_freeBy_0 (by decide) ?_
  refine j_istore_n (pc := 1) (i := 3) (lv' := [.ref (Y.2.1 0), .int (nI e), .int (nI c), .int (nI 0)]) dX1_freeBy_1 rfl rfl ⟨(Nat.le_of_ble_eq_true rfl), (Nat.le_of_ble_eq_true rfl)⟩ ?_
  refine j_bipush (pc := 2) (v := nI 127) dX1_freeBy_2 (by decide) ?_
  refine j_istore (pc := 4) (i := 4) (lv' := [.ref (Y.2.1 0), .int (nI e), .int (nI c), .int (nI 0), .int (nI 127)]) dX1_freeBy_4 rfl ⟨(Nat.le_of_ble_eq_true rfl), (Nat.le_of_ble_eq_true rfl)⟩ ?_
  refine j_iconst (pc := 6) (v := nI 0) dX1_freeBy_6 (by decide) ?_
  refine j_istore (pc := 7) (i := 5) (lv' := [.ref (Y.2.1 0), .int (nI e), .int (nI c), .int (nI 0), .int (nI 127), .int (nI 0)]) dX1_freeBy_7 rfl ⟨(Nat.le_of_ble_eq_true rfl), (Nat.le_of_ble_eq_true rfl)⟩ ?_
  exact loop 0 (Nat.zero_le _)

theorem dX1_free_0 : decode cX1_free 0 = .ok (.aload_n 0, 1) := by decide +kernel
theorem dX1_free_1 : decode cX1_free 1 = .ok (.iload_n 1, 1) := by decide +kernel
theorem dX1_free_2 : decode cX1_free 2 = .ok (.invokevirtual 19, 3) := by decide +kernel
theorem dX1_free_5 : decode cX1_free 5 = .ok (.ifCond .eq 16, 3) := by decide +kernel
theorem dX1_free_8 : decode cX1_free 8 = .ok (.aload_n 0, 1) := by decide +kernel
theorem dX1_free_9 : decode cX1_free 9 = .ok (.iload_n 1, 1) := by decide +kernel
theorem dX1_free_10 : decode cX1_free 10 = .ok (.iconst 0, 1) := by decide +kernel
theorem dX1_free_11 : decode cX1_free 11 = .ok (.invokevirtual 46, 3) := by decide +kernel
theorem dX1_free_14 : decode cX1_free 14 = .ok (.ifCond .eq 7, 3) := by decide +kernel
theorem dX1_free_17 : decode cX1_free 17 = .ok (.iconst 1, 1) := by decide +kernel
theorem dX1_free_18 : decode cX1_free 18 = .ok (.goto 4, 3) := by decide +kernel
theorem dX1_free_21 : decode cX1_free 21 = .ok (.iconst 0, 1) := by decide +kernel
theorem dX1_free_22 : decode cX1_free 22 = .ok (.ireturn, 1) := by decide +kernel
set_option maxRecDepth 100000 in
set_option maxHeartbeats 4000000 in
theorem met_mfree (l : Launch) (Y : dL) (Z : Nat → Nat → Bool) (x : Int32) : mMi l yX1_free cX1_free 2 (some .boolean) 3 Y [.int x] Z (fun r Z' => Z' = Z ∧ ((r = nI 0 ∧ (∀ k, k < 4 → x ≠ nI k)) ∨ ∃ e, e < 4 ∧ x = nI e ∧ r = nI (fb Z e 0).toNat)) := by
  refine m_ofi .boolean (own := RX1) rfl rfl (by decide) (Nat.le_of_ble_eq_true rfl) (by simp [lcat, Value.category]) ?_
  intro G hG ret
  refine j_aload_n (pc := 0) (i := 0) dX1_free_0 rfl rfl ?_
  refine j_iload_n (pc := 1) (i := 1) dX1_free_1 rfl rfl ?_
  refine m_calli (pc := 2) (st := []) (met_mexpression (kl G) Y Z x) hG (by decide) dX1_free_2 cpM_X1_expression (Nat.le_of_ble_eq_true rfl) rfl (fun r2 Z2 hr2 => ?_)
  obtain ⟨hE2, hr2⟩ := hr2
  rw [hE2]
  rcases hr2 with ⟨rfl, hq2⟩ | ⟨rfl, hbx⟩
  · skip
    obtain ⟨x0, hx0, rfl⟩ := hq2
    refine n_if_eq (pc := 5) (tgt := 21) dX1_free_5 (by decide) (by decide) (fun h => absurd h (by decide)) (fun _ => ?_)
    refine j_aload_n (pc := 8) (i := 0) dX1_free_8 rfl rfl ?_
    refine j_iload_n (pc := 9) (i := 1) dX1_free_9 rfl rfl ?_
    refine j_iconst (pc := 10) (v := nI 0) dX1_free_10 (by decide) ?_
    refine m_calli (pc := 11) (st := []) (met_mfreeBy (kl G) Y Z x0 0 (by omega) (by omega)) hG (by decide) dX1_free_11 cpM_X1_freeBy (Nat.le_of_ble_eq_true rfl) rfl (fun r11 Z11 hr11 => ?_)
    obtain ⟨hE11, hr11⟩ := hr11
    rw [hE11]
    subst hr11
    refine b_if_eq (pc := 14) (tgt := 21) dX1_free_14 (by decide) (fun h14 => ?_) (fun h14 => ?_)
    · skip
      refine j_iconst (pc := 21) (v := nI 0) dX1_free_21 (by decide) ?_
      first | exact ret _ _ _ _ dX1_free_22 rfl ⟨rfl, Or.inl ⟨rfl, hbx⟩⟩ | exact ret _ _ _ _ dX1_free_22 rfl ⟨rfl, Or.inr ⟨x0, hx0, rfl, by rw [h14]; rfl⟩⟩
    · skip
      refine j_iconst (pc := 17) (v := nI 1) dX1_free_17 (by decide) ?_
      refine j_goto (pc := 18) (tgt := 22) dX1_free_18 (by decide) ?_
      first | exact ret _ _ _ _ dX1_free_22 rfl ⟨rfl, Or.inl ⟨rfl, hbx⟩⟩ | exact ret _ _ _ _ dX1_free_22 rfl ⟨rfl, Or.inr ⟨x0, hx0, rfl, by rw [h14]; rfl⟩⟩
  · skip
    skip
    refine n_if_eq (pc := 5) (tgt := 21) dX1_free_5 (by decide) (by decide) (fun _ => ?_) (fun h => absurd h (by decide))
    refine j_iconst (pc := 21) (v := nI 0) dX1_free_21 (by decide) ?_
    first | exact ret _ _ _ _ dX1_free_22 rfl ⟨rfl, Or.inl ⟨rfl, hbx⟩⟩ | exact ret _ _ _ _ dX1_free_22 rfl ⟨rfl, Or.inr ⟨x0, hx0, rfl, by rw [h14]; rfl⟩⟩

theorem nn_zB (b : Bool) : narrow .boolean (.int (nI b.toNat)) = .int (nI b.toNat) := by cases b <;> rfl
theorem b2_inj {a b : Bool} (h : a.toNat = b.toNat) : a = b := by cases a <;> cases b <;> first | rfl | cases h

theorem dX1_same_0 : decode cX1_same 0 = .ok (.iconst 1, 1) := by decide +kernel
theorem dX1_same_1 : decode cX1_same 1 = .ok (.istore 4, 2) := by decide +kernel
theorem dX1_same_3 : decode cX1_same 3 = .ok (.iconst 0, 1) := by decide +kernel
theorem dX1_same_4 : decode cX1_same 4 = .ok (.istore 5, 2) := by decide +kernel
theorem dX1_same_6 : decode cX1_same 6 = .ok (.iload 5, 2) := by decide +kernel
theorem dX1_same_8 : decode cX1_same 8 = .ok (.sipush 128, 3) := by decide +kernel
theorem dX1_same_11 : decode cX1_same 11 = .ok (.if_icmp .ge 40, 3) := by decide +kernel
theorem dX1_same_14 : decode cX1_same 14 = .ok (.iload 4, 2) := by decide +kernel
theorem dX1_same_16 : decode cX1_same 16 = .ok (.ifCond .eq 35, 3) := by decide +kernel
theorem dX1_same_19 : decode cX1_same 19 = .ok (.aload_n 0, 1) := by decide +kernel
theorem dX1_same_20 : decode cX1_same 20 = .ok (.iload_n 1, 1) := by decide +kernel
theorem dX1_same_21 : decode cX1_same 21 = .ok (.iload_n 2, 1) := by decide +kernel
theorem dX1_same_22 : decode cX1_same 22 = .ok (.iload 5, 2) := by decide +kernel
theorem dX1_same_24 : decode cX1_same 24 = .ok (.invokevirtual 30, 3) := by decide +kernel
theorem dX1_same_27 : decode cX1_same 27 = .ok (.aload_n 0, 1) := by decide +kernel
theorem dX1_same_28 : decode cX1_same 28 = .ok (.iload_n 1, 1) := by decide +kernel
theorem dX1_same_29 : decode cX1_same 29 = .ok (.iload_n 3, 1) := by decide +kernel
theorem dX1_same_30 : decode cX1_same 30 = .ok (.iload 5, 2) := by decide +kernel
theorem dX1_same_32 : decode cX1_same 32 = .ok (.invokevirtual 30, 3) := by decide +kernel
theorem dX1_same_35 : decode cX1_same 35 = .ok (.if_icmp .ne 7, 3) := by decide +kernel
theorem dX1_same_38 : decode cX1_same 38 = .ok (.iconst 1, 1) := by decide +kernel
theorem dX1_same_39 : decode cX1_same 39 = .ok (.goto 4, 3) := by decide +kernel
theorem dX1_same_42 : decode cX1_same 42 = .ok (.iconst 0, 1) := by decide +kernel
theorem dX1_same_43 : decode cX1_same 43 = .ok (.istore 4, 2) := by decide +kernel
theorem dX1_same_45 : decode cX1_same 45 = .ok (.iinc 5 1, 3) := by decide +kernel
theorem dX1_same_48 : decode cX1_same 48 = .ok (.goto (-42), 3) := by decide +kernel
theorem dX1_same_51 : decode cX1_same 51 = .ok (.iload 4, 2) := by decide +kernel
theorem dX1_same_53 : decode cX1_same 53 = .ok (.ireturn, 1) := by decide +kernel
set_option maxRecDepth 100000 in
set_option maxHeartbeats 4000000 in
theorem met_msame (l : Launch) (Y : dL) (Z : Nat → Nat → Bool) (e c d : Nat) (he : e < 4) (hc : c < 128) (hd : d < 128) : mMi l yX1_same cX1_same 6 (some .boolean) 2 Y [.int (nI e), .int (nI c), .int (nI d)] Z (fun r Z' => Z' = Z ∧ r = nI (sm Z e c d).toNat) := by
  refine m_ofi .boolean (own := RX1) rfl rfl (by decide) (Nat.le_of_ble_eq_true rfl) (by simp [lcat, Value.category]) ?_
  intro G hG ret
  have loop : ∀ x, x ≤ 128 → J cX1_same 6 RX1 G (mV G Y (mA Y) Z) 6 [.ref (Y.2.1 0), .int (nI e), .int (nI c), .int (nI d), .int (nI (allN (fun x => qh Z e c x == qh Z e d x) x).toNat), .int (nI x)] [] := by
    refine up_loop _ 128 ?_ (fun x hx ih => ?_)
    · skip
      refine j_iload (pc := 6) dX1_same_6 rfl ?_
      refine j_sipush (pc := 8) (v := nI 128) dX1_same_8 (by decide) ?_
      refine n_icmp_ge (pc := 11) (tgt := 51) dX1_same_11 (by decide) (by omega) (fun h11 => ?_) (fun h11 => ?_)
      · skip
        refine j_iload (pc := 51) dX1_same_51 rfl ?_
        exact ret _ _ _ _ dX1_same_53 (nn_zB _) ⟨rfl, rfl⟩
      · skip
        exact absurd h11 (by omega)
    · skip
      have hb1 := b2_lt (qh Z e c x)
      have hb2 := b2_lt (qh Z e d x)
      refine j_iload (pc := 6) dX1_same_6 rfl ?_
      refine j_sipush (pc := 8) (v := nI 128) dX1_same_8 (by decide) ?_
      refine n_icmp_ge (pc := 11) (tgt := 51) dX1_same_11 (by decide) (by omega) (fun h11 => ?_) (fun h11 => ?_)
      · skip
        exact absurd h11 (by omega)
      · skip
        refine j_iload (pc := 14) dX1_same_14 rfl ?_
        refine b_if_eq (pc := 16) (tgt := 51) dX1_same_16 (by decide) (fun h16 => ?_) (fun h16 => ?_)
        · skip
          refine j_iload (pc := 51) dX1_same_51 rfl ?_
          exact ret _ _ _ _ dX1_same_53 (nn_zB _) ⟨rfl, by unfold sm; rw [h16, allN_le (Nat.le_of_lt hx) h16]⟩
        · skip
          refine j_aload_n (pc := 19) (i := 0) dX1_same_19 rfl rfl ?_
          refine j_iload_n (pc := 20) (i := 1) dX1_same_20 rfl rfl ?_
          refine j_iload_n (pc := 21) (i := 2) dX1_same_21 rfl rfl ?_
          refine j_iload (pc := 22) dX1_same_22 rfl ?_
          refine m_calli (pc := 24) (st := []) (met_mquotientHas (kl G) Y Z e c x (by omega) (by omega) (by omega)) hG (by decide) dX1_same_24 cpM_X1_quotientHas (Nat.le_of_ble_eq_true rfl) rfl (fun r24 Z24 hr24 => ?_)
          obtain ⟨hE24, hr24⟩ := hr24
          rw [hE24]
          subst hr24
          refine j_aload_n (pc := 27) (i := 0) dX1_same_27 rfl rfl ?_
          refine j_iload_n (pc := 28) (i := 1) dX1_same_28 rfl rfl ?_
          refine j_iload_n (pc := 29) (i := 3) dX1_same_29 rfl rfl ?_
          refine j_iload (pc := 30) dX1_same_30 rfl ?_
          refine m_calli (pc := 32) (st := [.int (nI (qh Z e c x).toNat)]) (met_mquotientHas (kl G) Y Z e d x (by omega) (by omega) (by omega)) hG (by decide) dX1_same_32 cpM_X1_quotientHas (Nat.le_of_ble_eq_true rfl) rfl (fun r32 Z32 hr32 => ?_)
          obtain ⟨hE32, hr32⟩ := hr32
          rw [hE32]
          subst hr32
          refine n_icmp_ne (pc := 35) (tgt := 42) dX1_same_35 (by decide) (by omega) (fun h35 => ?_) (fun h35 => ?_)
          · skip
            refine j_iconst (pc := 42) (v := nI 0) dX1_same_42 (by decide) ?_
            refine j_istore (pc := 43) (i := 4) (lv' := [.ref (Y.2.1 0), .int (nI e), .int (nI c), .int (nI d), .int (nI 0), .int (nI x)]) dX1_same_43 rfl ⟨(Nat.le_of_ble_eq_true rfl), (Nat.le_of_ble_eq_true rfl)⟩ ?_
            refine n_iinc (pc := 45) (n := 1) (lv' := [.ref (Y.2.1 0), .int (nI e), .int (nI c), .int (nI d), .int (nI 0), .int (nI (x + 1))]) dX1_same_45 rfl rfl (Nat.le_of_ble_eq_true rfl) ?_
            refine j_goto (pc := 48) (tgt := 6) dX1_same_48 (by decide) ?_
            have z := ih
            rw [allN_s, h16, Bool.true_and, show (qh Z e c x == qh Z e d x) = false from by rw [beq_eq_false_iff_ne]; exact fun z => h35 (by rw [z])] at z
            exact z
          · skip
            refine j_iconst (pc := 38) (v := nI 1) dX1_same_38 (by decide) ?_
            refine j_goto (pc := 39) (tgt := 43) dX1_same_39 (by decide) ?_
            refine j_istore (pc := 43) (i := 4) (lv' := [.ref (Y.2.1 0), .int (nI e), .int (nI c), .int (nI d), .int (nI 1), .int (nI x)]) dX1_same_43 rfl ⟨(Nat.le_of_ble_eq_true rfl), (Nat.le_of_ble_eq_true rfl)⟩ ?_
            refine n_iinc (pc := 45) (n := 1) (lv' := [.ref (Y.2.1 0), .int (nI e), .int (nI c), .int (nI d), .int (nI 1), .int (nI (x + 1))]) dX1_same_45 rfl rfl (Nat.le_of_ble_eq_true rfl) ?_
            refine j_goto (pc := 48) (tgt := 6) dX1_same_48 (by decide) ?_
            have z := ih
            rw [allN_s, h16, Bool.true_and, show (qh Z e c x == qh Z e d x) = true from by rw [beq_iff_eq]; exact b2_inj h35] at z
            exact z
  refine j_iconst (pc := 0) (v := nI 1) dX1_same_0 (by decide) ?_
  refine j_istore (pc := 1) (i := 4) (lv' := [.ref (Y.2.1 0), .int (nI e), .int (nI c), .int (nI d), .int (nI 1)]) dX1_same_1 rfl ⟨(Nat.le_of_ble_eq_true rfl), (Nat.le_of_ble_eq_true rfl)⟩ ?_
  refine j_iconst (pc := 3) (v := nI 0) dX1_same_3 (by decide) ?_
  refine j_istore (pc := 4) (i := 5) (lv' := [.ref (Y.2.1 0), .int (nI e), .int (nI c), .int (nI d), .int (nI 1), .int (nI 0)]) dX1_same_4 rfl ⟨(Nat.le_of_ble_eq_true rfl), (Nat.le_of_ble_eq_true rfl)⟩ ?_
  exact loop 0 (Nat.zero_le _)
end
section
/-! the reference: kernels, holding, saving -/

theorem dX1_cokernels_0 : decode cX1_cokernels 0 = .ok (.iconst 0, 1) := by decide +kernel
theorem dX1_cokernels_1 : decode cX1_cokernels 1 = .ok (.istore_n 2, 1) := by decide +kernel
theorem dX1_cokernels_2 : decode cX1_cokernels 2 = .ok (.iconst 0, 1) := by decide +kernel
theorem dX1_cokernels_3 : decode cX1_cokernels 3 = .ok (.istore_n 3, 1) := by decide +kernel
theorem dX1_cokernels_4 : decode cX1_cokernels 4 = .ok (.iload_n 3, 1) := by decide +kernel
theorem dX1_cokernels_5 : decode cX1_cokernels 5 = .ok (.sipush 128, 3) := by decide +kernel
theorem dX1_cokernels_8 : decode cX1_cokernels 8 = .ok (.if_icmp .ge 34, 3) := by decide +kernel
theorem dX1_cokernels_11 : decode cX1_cokernels 11 = .ok (.aload_n 0, 1) := by decide +kernel
theorem dX1_cokernels_12 : decode cX1_cokernels 12 = .ok (.iload_n 1, 1) := by decide +kernel
theorem dX1_cokernels_13 : decode cX1_cokernels 13 = .ok (.invokevirtual 19, 3) := by decide +kernel
theorem dX1_cokernels_16 : decode cX1_cokernels 16 = .ok (.ifCond .eq 26, 3) := by decide +kernel
theorem dX1_cokernels_19 : decode cX1_cokernels 19 = .ok (.aload_n 0, 1) := by decide +kernel
theorem dX1_cokernels_20 : decode cX1_cokernels 20 = .ok (.iload_n 1, 1) := by decide +kernel
theorem dX1_cokernels_21 : decode cX1_cokernels 21 = .ok (.iload_n 3, 1) := by decide +kernel
theorem dX1_cokernels_22 : decode cX1_cokernels 22 = .ok (.invokevirtual 46, 3) := by decide +kernel
theorem dX1_cokernels_25 : decode cX1_cokernels 25 = .ok (.ifCond .eq 9, 3) := by decide +kernel
theorem dX1_cokernels_28 : decode cX1_cokernels 28 = .ok (.iload_n 2, 1) := by decide +kernel
theorem dX1_cokernels_29 : decode cX1_cokernels 29 = .ok (.iconst 1, 1) := by decide +kernel
theorem dX1_cokernels_30 : decode cX1_cokernels 30 = .ok (.iadd, 1) := by decide +kernel
theorem dX1_cokernels_31 : decode cX1_cokernels 31 = .ok (.goto 4, 3) := by decide +kernel
theorem dX1_cokernels_34 : decode cX1_cokernels 34 = .ok (.iload_n 2, 1) := by decide +kernel
theorem dX1_cokernels_35 : decode cX1_cokernels 35 = .ok (.istore_n 2, 1) := by decide +kernel
theorem dX1_cokernels_36 : decode cX1_cokernels 36 = .ok (.iinc 3 1, 3) := by decide +kernel
theorem dX1_cokernels_39 : decode cX1_cokernels 39 = .ok (.goto (-35), 3) := by decide +kernel
theorem dX1_cokernels_42 : decode cX1_cokernels 42 = .ok (.aload_n 0, 1) := by decide +kernel
theorem dX1_cokernels_43 : decode cX1_cokernels 43 = .ok (.iload_n 1, 1) := by decide +kernel
theorem dX1_cokernels_44 : decode cX1_cokernels 44 = .ok (.invokevirtual 19, 3) := by decide +kernel
theorem dX1_cokernels_47 : decode cX1_cokernels 47 = .ok (.ifCond .eq 7, 3) := by decide +kernel
theorem dX1_cokernels_50 : decode cX1_cokernels 50 = .ok (.iload_n 2, 1) := by decide +kernel
theorem dX1_cokernels_51 : decode cX1_cokernels 51 = .ok (.goto 4, 3) := by decide +kernel
theorem dX1_cokernels_54 : decode cX1_cokernels 54 = .ok (.iconst (-1), 1) := by decide +kernel
theorem dX1_cokernels_55 : decode cX1_cokernels 55 = .ok (.ireturn, 1) := by decide +kernel
set_option maxRecDepth 100000 in
set_option maxHeartbeats 4000000 in
theorem met_mcokernels (l : Launch) (Y : dL) (Z : Nat → Nat → Bool) (x : Int32) : mMi l yX1_cokernels cX1_cokernels 4 (some .int) 3 Y [.int x] Z (fun r Z' => Z' = Z ∧ ((r = -1 ∧ (∀ k, k < 4 → x ≠ nI k)) ∨ ∃ e, e < 4 ∧ x = nI e ∧ r = nI (cntB (fb Z e) 128))) := by
  refine m_ofi .int (own := RX1) rfl rfl (by decide) (Nat.le_of_ble_eq_true rfl) (by simp [lcat, Value.category]) ?_
  intro G hG ret
  rcases rg_dec x (N := 4) (by decide) with ⟨x0, hx0, rfl⟩ | hbx
  · skip
    have loop : ∀ c, c ≤ 128 → J cX1_cokernels 4 RX1 G (mV G Y (mA Y) Z) 4 [.ref (Y.2.1 0), .int (nI x0), .int (nI (cntB (fb Z x0) c)), .int (nI c)] [] := by
      refine up_loop _ 128 ?_ (fun c hc ih => ?_)
      · skip
        refine j_iload_n (pc := 4) (i := 3) dX1_cokernels_4 rfl rfl ?_
        refine j_sipush (pc := 5) (v := nI 128) dX1_cokernels_5 (by decide) ?_
        refine n_icmp_ge (pc := 8) (tgt := 42) dX1_cokernels_8 (by decide) (by omega) (fun h8 => ?_) (fun h8 => ?_)
        · skip
          refine j_aload_n (pc := 42) (i := 0) dX1_cokernels_42 rfl rfl ?_
          refine j_iload_n (pc := 43) (i := 1) dX1_cokernels_43 rfl rfl ?_
          refine m_calli (pc := 44) (st := []) (met_mexpression (kl G) Y Z (nI x0)) hG (by decide) dX1_cokernels_44 cpM_X1_expression (Nat.le_of_ble_eq_true rfl) rfl (fun r44 Z44 hr44 => ?_)
          obtain ⟨hE44, hr44⟩ := hr44
          rw [hE44]
          rcases hr44 with ⟨rfl, hq44⟩ | ⟨rfl, hb44⟩
          · skip
            skip
            refine n_if_eq (pc := 47) (tgt := 54) dX1_cokernels_47 (by decide) (by decide) (fun h => absurd h (by decide)) (fun _ => ?_)
            refine j_iload_n (pc := 50) (i := 2) dX1_cokernels_50 rfl rfl ?_
            refine j_goto (pc := 51) (tgt := 55) dX1_cokernels_51 (by decide) ?_
            exact ret _ _ _ _ dX1_cokernels_55 rfl ⟨rfl, Or.inr ⟨x0, hx0, rfl, rfl⟩⟩
          · skip
            exact absurd rfl (hb44 _ (by omega))
        · skip
          exact absurd h8 (by omega)
      · skip
        refine j_iload_n (pc := 4) (i := 3) dX1_cokernels_4 rfl rfl ?_
        refine j_sipush (pc := 5) (v := nI 128) dX1_cokernels_5 (by decide) ?_
        refine n_icmp_ge (pc := 8) (tgt := 42) dX1_cokernels_8 (by decide) (by omega) (fun h8 => ?_) (fun h8 => ?_)
        · skip
          exact absurd h8 (by omega)
        · skip
          refine j_aload_n (pc := 11) (i := 0) dX1_cokernels_11 rfl rfl ?_
          refine j_iload_n (pc := 12) (i := 1) dX1_cokernels_12 rfl rfl ?_
          refine m_calli (pc := 13) (st := []) (met_mexpression (kl G) Y Z (nI x0)) hG (by decide) dX1_cokernels_13 cpM_X1_expression (Nat.le_of_ble_eq_true rfl) rfl (fun r13 Z13 hr13 => ?_)
          obtain ⟨hE13, hr13⟩ := hr13
          rw [hE13]
          rcases hr13 with ⟨rfl, hq13⟩ | ⟨rfl, hb13⟩
          · skip
            skip
            refine n_if_eq (pc := 16) (tgt := 42) dX1_cokernels_16 (by decide) (by decide) (fun h => absurd h (by decide)) (fun _ => ?_)
            refine j_aload_n (pc := 19) (i := 0) dX1_cokernels_19 rfl rfl ?_
            refine j_iload_n (pc := 20) (i := 1) dX1_cokernels_20 rfl rfl ?_
            refine j_iload_n (pc := 21) (i := 3) dX1_cokernels_21 rfl rfl ?_
            refine m_calli (pc := 22) (st := []) (met_mfreeBy (kl G) Y Z x0 c (by omega) (by omega)) hG (by decide) dX1_cokernels_22 cpM_X1_freeBy (Nat.le_of_ble_eq_true rfl) rfl (fun r22 Z22 hr22 => ?_)
            obtain ⟨hE22, hr22⟩ := hr22
            rw [hE22]
            subst hr22
            refine b_if_eq (pc := 25) (tgt := 34) dX1_cokernels_25 (by decide) (fun h25 => ?_) (fun h25 => ?_)
            · skip
              refine j_iload_n (pc := 34) (i := 2) dX1_cokernels_34 rfl rfl ?_
              refine j_istore_n (pc := 35) (i := 2) (lv' := [.ref (Y.2.1 0), .int (nI x0), .int (nI (cntB (fb Z x0) c)), .int (nI c)]) dX1_cokernels_35 rfl rfl ⟨(Nat.le_of_ble_eq_true rfl), (Nat.le_of_ble_eq_true rfl)⟩ ?_
              refine n_iinc (pc := 36) (n := 1) (lv' := [.ref (Y.2.1 0), .int (nI x0), .int (nI (cntB (fb Z x0) c)), .int (nI (c + 1))]) dX1_cokernels_36 rfl rfl (Nat.le_of_ble_eq_true rfl) ?_
              refine j_goto (pc := 39) (tgt := 4) dX1_cokernels_39 (by decide) ?_
              rw [show cntB (fb Z x0) c = cntB (fb Z x0) (c + 1) by simp [cntB, h25]]
              exact ih
            · skip
              refine j_iload_n (pc := 28) (i := 2) dX1_cokernels_28 rfl rfl ?_
              refine j_iconst (pc := 29) (v := nI 1) dX1_cokernels_29 (by decide) ?_
              refine n_iadd (pc := 30) dX1_cokernels_30 ?_
              refine j_goto (pc := 31) (tgt := 35) dX1_cokernels_31 (by decide) ?_
              refine j_istore_n (pc := 35) (i := 2) (lv' := [.ref (Y.2.1 0), .int (nI x0), .int (nI ((cntB (fb Z x0) c) + 1)), .int (nI c)]) dX1_cokernels_35 rfl rfl ⟨(Nat.le_of_ble_eq_true rfl), (Nat.le_of_ble_eq_true rfl)⟩ ?_
              refine n_iinc (pc := 36) (n := 1) (lv' := [.ref (Y.2.1 0), .int (nI x0), .int (nI ((cntB (fb Z x0) c) + 1)), .int (nI (c + 1))]) dX1_cokernels_36 rfl rfl (Nat.le_of_ble_eq_true rfl) ?_
              refine j_goto (pc := 39) (tgt := 4) dX1_cokernels_39 (by decide) ?_
              rw [show (cntB (fb Z x0) c) + 1 = cntB (fb Z x0) (c + 1) by simp [cntB, h25]]
              exact ih
          · skip
            exact absurd rfl (hb13 _ (by omega))
    refine j_iconst (pc := 0) (v := nI 0) dX1_cokernels_0 (by decide) ?_
    refine j_istore_n (pc := 1) (i := 2) (lv' := [.ref (Y.2.1 0), .int (nI x0), .int (nI 0)]) dX1_cokernels_1 rfl rfl ⟨(Nat.le_of_ble_eq_true rfl), (Nat.le_of_ble_eq_true rfl)⟩ ?_
    refine j_iconst (pc := 2) (v := nI 0) dX1_cokernels_2 (by decide) ?_
    refine j_istore_n (pc := 3) (i := 3) (lv' := [.ref (Y.2.1 0), .int (nI x0), .int (nI 0), .int (nI 0)]) dX1_cokernels_3 rfl rfl ⟨(Nat.le_of_ble_eq_true rfl), (Nat.le_of_ble_eq_true rfl)⟩ ?_
    exact loop 0 (Nat.zero_le _)
  · skip
    refine j_iconst (pc := 0) (v := nI 0) dX1_cokernels_0 (by decide) ?_
    refine j_istore_n (pc := 1) (i := 2) (lv' := [.ref (Y.2.1 0), .int x, .int (nI 0)]) dX1_cokernels_1 rfl rfl ⟨(Nat.le_of_ble_eq_true rfl), (Nat.le_of_ble_eq_true rfl)⟩ ?_
    refine j_iconst (pc := 2) (v := nI 0) dX1_cokernels_2 (by decide) ?_
    refine j_istore_n (pc := 3) (i := 3) (lv' := [.ref (Y.2.1 0), .int x, .int (nI 0), .int (nI 0)]) dX1_cokernels_3 rfl rfl ⟨(Nat.le_of_ble_eq_true rfl), (Nat.le_of_ble_eq_true rfl)⟩ ?_
    refine j_iload_n (pc := 4) (i := 3) dX1_cokernels_4 rfl rfl ?_
    refine j_sipush (pc := 5) (v := nI 128) dX1_cokernels_5 (by decide) ?_
    refine n_icmp_ge (pc := 8) (tgt := 42) dX1_cokernels_8 (by decide) (by omega) (fun h8 => ?_) (fun h8 => ?_)
    · skip
      exact absurd h8 (by decide)
    · skip
      refine j_aload_n (pc := 11) (i := 0) dX1_cokernels_11 rfl rfl ?_
      refine j_iload_n (pc := 12) (i := 1) dX1_cokernels_12 rfl rfl ?_
      refine m_calli (pc := 13) (st := []) (met_mexpression (kl G) Y Z x) hG (by decide) dX1_cokernels_13 cpM_X1_expression (Nat.le_of_ble_eq_true rfl) rfl (fun r13 Z13 hr13 => ?_)
      obtain ⟨hE13, hr13⟩ := hr13
      rw [hE13]
      rcases hr13 with ⟨rfl, k, hk, e⟩ | ⟨rfl, hb13⟩
      · skip
        exact absurd e (hbx k hk)
      · skip
        skip
        refine n_if_eq (pc := 16) (tgt := 42) dX1_cokernels_16 (by decide) (by decide) (fun _ => ?_) (fun h => absurd h (by decide))
        refine j_aload_n (pc := 42) (i := 0) dX1_cokernels_42 rfl rfl ?_
        refine j_iload_n (pc := 43) (i := 1) dX1_cokernels_43 rfl rfl ?_
        refine m_calli (pc := 44) (st := []) (met_mexpression (kl G) Y Z x) hG (by decide) dX1_cokernels_44 cpM_X1_expression (Nat.le_of_ble_eq_true rfl) rfl (fun r44 Z44 hr44 => ?_)
        obtain ⟨hE44, hr44⟩ := hr44
        rw [hE44]
        rcases hr44 with ⟨rfl, k, hk, e⟩ | ⟨rfl, hb44⟩
        · skip
          exact absurd e (hbx k hk)
        · skip
          skip
          refine n_if_eq (pc := 47) (tgt := 54) dX1_cokernels_47 (by decide) (by decide) (fun _ => ?_) (fun h => absurd h (by decide))
          refine j_iconst (pc := 54) (v := -1) dX1_cokernels_54 (by decide) ?_
          exact ret _ _ _ _ dX1_cokernels_55 rfl ⟨rfl, Or.inl ⟨rfl, hbx⟩⟩

theorem dX1_kernels_0 : decode cX1_kernels 0 = .ok (.iconst 0, 1) := by decide +kernel
theorem dX1_kernels_1 : decode cX1_kernels 1 = .ok (.istore_n 2, 1) := by decide +kernel
theorem dX1_kernels_2 : decode cX1_kernels 2 = .ok (.iconst 0, 1) := by decide +kernel
theorem dX1_kernels_3 : decode cX1_kernels 3 = .ok (.istore_n 3, 1) := by decide +kernel
theorem dX1_kernels_4 : decode cX1_kernels 4 = .ok (.iload_n 3, 1) := by decide +kernel
theorem dX1_kernels_5 : decode cX1_kernels 5 = .ok (.sipush 128, 3) := by decide +kernel
theorem dX1_kernels_8 : decode cX1_kernels 8 = .ok (.if_icmp .ge 76, 3) := by decide +kernel
theorem dX1_kernels_11 : decode cX1_kernels 11 = .ok (.aload_n 0, 1) := by decide +kernel
theorem dX1_kernels_12 : decode cX1_kernels 12 = .ok (.iload_n 1, 1) := by decide +kernel
theorem dX1_kernels_13 : decode cX1_kernels 13 = .ok (.invokevirtual 19, 3) := by decide +kernel
theorem dX1_kernels_16 : decode cX1_kernels 16 = .ok (.ifCond .eq 68, 3) := by decide +kernel
theorem dX1_kernels_19 : decode cX1_kernels 19 = .ok (.aload_n 0, 1) := by decide +kernel
theorem dX1_kernels_20 : decode cX1_kernels 20 = .ok (.iload_n 1, 1) := by decide +kernel
theorem dX1_kernels_21 : decode cX1_kernels 21 = .ok (.iload_n 3, 1) := by decide +kernel
theorem dX1_kernels_22 : decode cX1_kernels 22 = .ok (.invokevirtual 46, 3) := by decide +kernel
theorem dX1_kernels_25 : decode cX1_kernels 25 = .ok (.istore 4, 2) := by decide +kernel
theorem dX1_kernels_27 : decode cX1_kernels 27 = .ok (.iconst 0, 1) := by decide +kernel
theorem dX1_kernels_28 : decode cX1_kernels 28 = .ok (.istore 5, 2) := by decide +kernel
theorem dX1_kernels_30 : decode cX1_kernels 30 = .ok (.iload 5, 2) := by decide +kernel
theorem dX1_kernels_32 : decode cX1_kernels 32 = .ok (.iload_n 3, 1) := by decide +kernel
theorem dX1_kernels_33 : decode cX1_kernels 33 = .ok (.if_icmp .ge 32, 3) := by decide +kernel
theorem dX1_kernels_36 : decode cX1_kernels 36 = .ok (.iload 4, 2) := by decide +kernel
theorem dX1_kernels_38 : decode cX1_kernels 38 = .ok (.ifCond .eq 27, 3) := by decide +kernel
theorem dX1_kernels_41 : decode cX1_kernels 41 = .ok (.aload_n 0, 1) := by decide +kernel
theorem dX1_kernels_42 : decode cX1_kernels 42 = .ok (.iload_n 1, 1) := by decide +kernel
theorem dX1_kernels_43 : decode cX1_kernels 43 = .ok (.iload_n 3, 1) := by decide +kernel
theorem dX1_kernels_44 : decode cX1_kernels 44 = .ok (.iload 5, 2) := by decide +kernel
theorem dX1_kernels_46 : decode cX1_kernels 46 = .ok (.invokevirtual 49, 3) := by decide +kernel
theorem dX1_kernels_49 : decode cX1_kernels 49 = .ok (.ifCond .ne 7, 3) := by decide +kernel
theorem dX1_kernels_52 : decode cX1_kernels 52 = .ok (.iconst 1, 1) := by decide +kernel
theorem dX1_kernels_53 : decode cX1_kernels 53 = .ok (.goto 4, 3) := by decide +kernel
theorem dX1_kernels_56 : decode cX1_kernels 56 = .ok (.iconst 0, 1) := by decide +kernel
theorem dX1_kernels_57 : decode cX1_kernels 57 = .ok (.istore 4, 2) := by decide +kernel
theorem dX1_kernels_59 : decode cX1_kernels 59 = .ok (.iinc 5 1, 3) := by decide +kernel
theorem dX1_kernels_62 : decode cX1_kernels 62 = .ok (.goto (-32), 3) := by decide +kernel
theorem dX1_kernels_65 : decode cX1_kernels 65 = .ok (.iload 4, 2) := by decide +kernel
theorem dX1_kernels_67 : decode cX1_kernels 67 = .ok (.ifCond .eq 9, 3) := by decide +kernel
theorem dX1_kernels_70 : decode cX1_kernels 70 = .ok (.iload_n 2, 1) := by decide +kernel
theorem dX1_kernels_71 : decode cX1_kernels 71 = .ok (.iconst 1, 1) := by decide +kernel
theorem dX1_kernels_72 : decode cX1_kernels 72 = .ok (.iadd, 1) := by decide +kernel
theorem dX1_kernels_73 : decode cX1_kernels 73 = .ok (.goto 4, 3) := by decide +kernel
theorem dX1_kernels_76 : decode cX1_kernels 76 = .ok (.iload_n 2, 1) := by decide +kernel
theorem dX1_kernels_77 : decode cX1_kernels 77 = .ok (.istore_n 2, 1) := by decide +kernel
theorem dX1_kernels_78 : decode cX1_kernels 78 = .ok (.iinc 3 1, 3) := by decide +kernel
theorem dX1_kernels_81 : decode cX1_kernels 81 = .ok (.goto (-77), 3) := by decide +kernel
theorem dX1_kernels_84 : decode cX1_kernels 84 = .ok (.aload_n 0, 1) := by decide +kernel
theorem dX1_kernels_85 : decode cX1_kernels 85 = .ok (.iload_n 1, 1) := by decide +kernel
theorem dX1_kernels_86 : decode cX1_kernels 86 = .ok (.invokevirtual 19, 3) := by decide +kernel
theorem dX1_kernels_89 : decode cX1_kernels 89 = .ok (.ifCond .eq 7, 3) := by decide +kernel
theorem dX1_kernels_92 : decode cX1_kernels 92 = .ok (.iload_n 2, 1) := by decide +kernel
theorem dX1_kernels_93 : decode cX1_kernels 93 = .ok (.goto 4, 3) := by decide +kernel
theorem dX1_kernels_96 : decode cX1_kernels 96 = .ok (.iconst (-1), 1) := by decide +kernel
theorem dX1_kernels_97 : decode cX1_kernels 97 = .ok (.ireturn, 1) := by decide +kernel
set_option maxRecDepth 100000 in
set_option maxHeartbeats 4000000 in
theorem met_mkernels (l : Launch) (Y : dL) (Z : Nat → Nat → Bool) (x : Int32) : mMi l yX1_kernels cX1_kernels 6 (some .int) 3 Y [.int x] Z (fun r Z' => Z' = Z ∧ ((r = -1 ∧ (∀ k, k < 4 → x ≠ nI k)) ∨ ∃ e, e < 4 ∧ x = nI e ∧ r = nI (cntB (kf Z e) 128))) := by
  refine m_ofi .int (own := RX1) rfl rfl (by decide) (Nat.le_of_ble_eq_true rfl) (by simp [lcat, Value.category]) ?_
  intro G hG ret
  rcases rg_dec x (N := 4) (by decide) with ⟨x0, hx0, rfl⟩ | hbx
  · skip
    have loop : ∀ c, c ≤ 128 → J cX1_kernels 6 RX1 G (mV G Y (mA Y) Z) 4 [.ref (Y.2.1 0), .int (nI x0), .int (nI (cntB (kf Z x0) c)), .int (nI c)] [] := by
      refine up_loop _ 128 ?_ (fun c hc ih => ?_)
      · skip
        refine j_iload_n (pc := 4) (i := 3) dX1_kernels_4 rfl rfl ?_
        refine j_sipush (pc := 5) (v := nI 128) dX1_kernels_5 (by decide) ?_
        refine n_icmp_ge (pc := 8) (tgt := 84) dX1_kernels_8 (by decide) (by omega) (fun h8 => ?_) (fun h8 => ?_)
        · skip
          refine j_aload_n (pc := 84) (i := 0) dX1_kernels_84 rfl rfl ?_
          refine j_iload_n (pc := 85) (i := 1) dX1_kernels_85 rfl rfl ?_
          refine m_calli (pc := 86) (st := []) (met_mexpression (kl G) Y Z (nI x0)) hG (by decide) dX1_kernels_86 cpM_X1_expression (Nat.le_of_ble_eq_true rfl) rfl (fun r86 Z86 hr86 => ?_)
          obtain ⟨hE86, hr86⟩ := hr86
          rw [hE86]
          rcases hr86 with ⟨rfl, hq86⟩ | ⟨rfl, hb86⟩
          · skip
            skip
            refine n_if_eq (pc := 89) (tgt := 96) dX1_kernels_89 (by decide) (by decide) (fun h => absurd h (by decide)) (fun _ => ?_)
            refine j_iload_n (pc := 92) (i := 2) dX1_kernels_92 rfl rfl ?_
            refine j_goto (pc := 93) (tgt := 97) dX1_kernels_93 (by decide) ?_
            exact ret _ _ _ _ dX1_kernels_97 rfl ⟨rfl, Or.inr ⟨x0, hx0, rfl, rfl⟩⟩
          · skip
            exact absurd rfl (hb86 _ (by omega))
        · skip
          exact absurd h8 (by omega)
      · skip
        have K65 : ∀ b, b = kf Z x0 c → J cX1_kernels 6 RX1 G (mV G Y (mA Y) Z) 65 [.ref (Y.2.1 0), .int (nI x0), .int (nI (cntB (kf Z x0) c)), .int (nI c), .int (nI b.toNat)] [] := by
          intro b hb
          refine j_iload (pc := 65) dX1_kernels_65 rfl ?_
          refine b_if_eq (pc := 67) (tgt := 76) dX1_kernels_67 (by decide) (fun h67 => ?_) (fun h67 => ?_)
          · skip
            refine j_iload_n (pc := 76) (i := 2) dX1_kernels_76 rfl rfl ?_
            refine j_istore_n (pc := 77) (i := 2) (lv' := [.ref (Y.2.1 0), .int (nI x0), .int (nI (cntB (kf Z x0) c)), .int (nI c), .int (nI b.toNat)]) dX1_kernels_77 rfl rfl ⟨(Nat.le_of_ble_eq_true rfl), (Nat.le_of_ble_eq_true rfl)⟩ ?_
            refine n_iinc (pc := 78) (n := 1) (lv' := [.ref (Y.2.1 0), .int (nI x0), .int (nI (cntB (kf Z x0) c)), .int (nI (c + 1)), .int (nI b.toNat)]) dX1_kernels_78 rfl rfl (Nat.le_of_ble_eq_true rfl) ?_
            refine j_goto (pc := 81) (tgt := 4) dX1_kernels_81 (by decide) ?_
            refine j_take 4 (lv' := [.ref (Y.2.1 0), .int (nI x0), .int (nI (cntB (kf Z x0) c)), .int (nI (c + 1))]) rfl ?_
            rw [show cntB (kf Z x0) c = cntB (kf Z x0) (c + 1) by simp [cntB, ← hb, h67]]
            exact ih
          · skip
            refine j_iload_n (pc := 70) (i := 2) dX1_kernels_70 rfl rfl ?_
            refine j_iconst (pc := 71) (v := nI 1) dX1_kernels_71 (by decide) ?_
            refine n_iadd (pc := 72) dX1_kernels_72 ?_
            refine j_goto (pc := 73) (tgt := 77) dX1_kernels_73 (by decide) ?_
            refine j_istore_n (pc := 77) (i := 2) (lv' := [.ref (Y.2.1 0), .int (nI x0), .int (nI ((cntB (kf Z x0) c) + 1)), .int (nI c), .int (nI b.toNat)]) dX1_kernels_77 rfl rfl ⟨(Nat.le_of_ble_eq_true rfl), (Nat.le_of_ble_eq_true rfl)⟩ ?_
            refine n_iinc (pc := 78) (n := 1) (lv' := [.ref (Y.2.1 0), .int (nI x0), .int (nI ((cntB (kf Z x0) c) + 1)), .int (nI (c + 1)), .int (nI b.toNat)]) dX1_kernels_78 rfl rfl (Nat.le_of_ble_eq_true rfl) ?_
            refine j_goto (pc := 81) (tgt := 4) dX1_kernels_81 (by decide) ?_
            refine j_take 4 (lv' := [.ref (Y.2.1 0), .int (nI x0), .int (nI ((cntB (kf Z x0) c) + 1)), .int (nI (c + 1))]) rfl ?_
            rw [show (cntB (kf Z x0) c) + 1 = cntB (kf Z x0) (c + 1) by simp [cntB, ← hb, h67]]
            exact ih
        have inner : ∀ d, d ≤ c → J cX1_kernels 6 RX1 G (mV G Y (mA Y) Z) 30 [.ref (Y.2.1 0), .int (nI x0), .int (nI (cntB (kf Z x0) c)), .int (nI c), .int (nI (fb Z x0 c && allN (fun d => !sm Z x0 c d) d).toNat), .int (nI d)] [] := by
          refine up_loop _ c ?_ (fun d hd ihd => ?_)
          · skip
            refine j_iload (pc := 30) dX1_kernels_30 rfl ?_
            refine j_iload_n (pc := 32) (i := 3) dX1_kernels_32 rfl rfl ?_
            refine n_icmp_ge (pc := 33) (tgt := 65) dX1_kernels_33 (by decide) (by omega) (fun h33 => ?_) (fun h33 => ?_)
            · skip
              refine j_take 5 (lv' := [.ref (Y.2.1 0), .int (nI x0), .int (nI (cntB (kf Z x0) c)), .int (nI c), .int (nI (fb Z x0 c && allN (fun d => !sm Z x0 c d) c).toNat)]) rfl ?_
              exact K65 _ rfl
            · skip
              exact absurd h33 (by omega)
          · skip
            refine j_iload (pc := 30) dX1_kernels_30 rfl ?_
            refine j_iload_n (pc := 32) (i := 3) dX1_kernels_32 rfl rfl ?_
            refine n_icmp_ge (pc := 33) (tgt := 65) dX1_kernels_33 (by decide) (by omega) (fun h33 => ?_) (fun h33 => ?_)
            · skip
              exact absurd h33 (by omega)
            · skip
              refine j_iload (pc := 36) dX1_kernels_36 rfl ?_
              refine b_if_eq (pc := 38) (tgt := 65) dX1_kernels_38 (by decide) (fun h38 => ?_) (fun h38 => ?_)
              · skip
                refine j_take 5 (lv' := [.ref (Y.2.1 0), .int (nI x0), .int (nI (cntB (kf Z x0) c)), .int (nI c), .int (nI (fb Z x0 c && allN (fun d => !sm Z x0 c d) d).toNat)]) rfl ?_
                refine K65 _ ?_
                unfold kf
                rw [h38]
                cases e1 : fb Z x0 c with
                | false => rfl
                | true =>
                  rw [e1] at h38
                  rw [allN_le (Nat.le_of_lt hd) (by simpa using h38)]
                  rfl
              · skip
                refine j_aload_n (pc := 41) (i := 0) dX1_kernels_41 rfl rfl ?_
                refine j_iload_n (pc := 42) (i := 1) dX1_kernels_42 rfl rfl ?_
                refine j_iload_n (pc := 43) (i := 3) dX1_kernels_43 rfl rfl ?_
                refine j_iload (pc := 44) dX1_kernels_44 rfl ?_
                refine m_calli (pc := 46) (st := []) (met_msame (kl G) Y Z x0 c d (by omega) (by omega) (by omega)) hG (by decide) dX1_kernels_46 cpM_X1_same (Nat.le_of_ble_eq_true rfl) rfl (fun r46 Z46 hr46 => ?_)
                obtain ⟨hE46, hr46⟩ := hr46
                rw [hE46]
                subst hr46
                refine b_if_ne (pc := 49) (tgt := 56) dX1_kernels_49 (by decide) (fun h49 => ?_) (fun h49 => ?_)
                · skip
                  refine j_iconst (pc := 56) (v := nI 0) dX1_kernels_56 (by decide) ?_
                  refine j_istore (pc := 57) (i := 4) (lv' := [.ref (Y.2.1 0), .int (nI x0), .int (nI (cntB (kf Z x0) c)), .int (nI c), .int (nI 0), .int (nI d)]) dX1_kernels_57 rfl ⟨(Nat.le_of_ble_eq_true rfl), (Nat.le_of_ble_eq_true rfl)⟩ ?_
                  refine n_iinc (pc := 59) (n := 1) (lv' := [.ref (Y.2.1 0), .int (nI x0), .int (nI (cntB (kf Z x0) c)), .int (nI c), .int (nI 0), .int (nI (d + 1))]) dX1_kernels_59 rfl rfl (Nat.le_of_ble_eq_true rfl) ?_
                  refine j_goto (pc := 62) (tgt := 30) dX1_kernels_62 (by decide) ?_
                  have z := ihd
                  rw [allN_s, ← Bool.and_assoc, h38, Bool.true_and, h49] at z
                  exact z
                · skip
                  refine j_iconst (pc := 52) (v := nI 1) dX1_kernels_52 (by decide) ?_
                  refine j_goto (pc := 53) (tgt := 57) dX1_kernels_53 (by decide) ?_
                  refine j_istore (pc := 57) (i := 4) (lv' := [.ref (Y.2.1 0), .int (nI x0), .int (nI (cntB (kf Z x0) c)), .int (nI c), .int (nI 1), .int (nI d)]) dX1_kernels_57 rfl ⟨(Nat.le_of_ble_eq_true rfl), (Nat.le_of_ble_eq_true rfl)⟩ ?_
                  refine n_iinc (pc := 59) (n := 1) (lv' := [.ref (Y.2.1 0), .int (nI x0), .int (nI (cntB (kf Z x0) c)), .int (nI c), .int (nI 1), .int (nI (d + 1))]) dX1_kernels_59 rfl rfl (Nat.le_of_ble_eq_true rfl) ?_
                  refine j_goto (pc := 62) (tgt := 30) dX1_kernels_62 (by decide) ?_
                  have z := ihd
                  rw [allN_s, ← Bool.and_assoc, h38, Bool.true_and, h49] at z
                  exact z
        refine j_iload_n (pc := 4) (i := 3) dX1_kernels_4 rfl rfl ?_
        refine j_sipush (pc := 5) (v := nI 128) dX1_kernels_5 (by decide) ?_
        refine n_icmp_ge (pc := 8) (tgt := 84) dX1_kernels_8 (by decide) (by omega) (fun h8 => ?_) (fun h8 => ?_)
        · skip
          exact absurd h8 (by omega)
        · skip
          refine j_aload_n (pc := 11) (i := 0) dX1_kernels_11 rfl rfl ?_
          refine j_iload_n (pc := 12) (i := 1) dX1_kernels_12 rfl rfl ?_
          refine m_calli (pc := 13) (st := []) (met_mexpression (kl G) Y Z (nI x0)) hG (by decide) dX1_kernels_13 cpM_X1_expression (Nat.le_of_ble_eq_true rfl) rfl (fun r13 Z13 hr13 => ?_)
          obtain ⟨hE13, hr13⟩ := hr13
          rw [hE13]
          rcases hr13 with ⟨rfl, hq13⟩ | ⟨rfl, hb13⟩
          · skip
            skip
            refine n_if_eq (pc := 16) (tgt := 84) dX1_kernels_16 (by decide) (by decide) (fun h => absurd h (by decide)) (fun _ => ?_)
            refine j_aload_n (pc := 19) (i := 0) dX1_kernels_19 rfl rfl ?_
            refine j_iload_n (pc := 20) (i := 1) dX1_kernels_20 rfl rfl ?_
            refine j_iload_n (pc := 21) (i := 3) dX1_kernels_21 rfl rfl ?_
            refine m_calli (pc := 22) (st := []) (met_mfreeBy (kl G) Y Z x0 c (by omega) (by omega)) hG (by decide) dX1_kernels_22 cpM_X1_freeBy (Nat.le_of_ble_eq_true rfl) rfl (fun r22 Z22 hr22 => ?_)
            obtain ⟨hE22, hr22⟩ := hr22
            rw [hE22]
            subst hr22
            refine j_istore (pc := 25) (i := 4) (lv' := [.ref (Y.2.1 0), .int (nI x0), .int (nI (cntB (kf Z x0) c)), .int (nI c), .int (nI (fb Z x0 c).toNat)]) dX1_kernels_25 rfl ⟨(Nat.le_of_ble_eq_true rfl), (Nat.le_of_ble_eq_true rfl)⟩ ?_
            refine j_iconst (pc := 27) (v := nI 0) dX1_kernels_27 (by decide) ?_
            refine j_istore (pc := 28) (i := 5) (lv' := [.ref (Y.2.1 0), .int (nI x0), .int (nI (cntB (kf Z x0) c)), .int (nI c), .int (nI (fb Z x0 c).toNat), .int (nI 0)]) dX1_kernels_28 rfl ⟨(Nat.le_of_ble_eq_true rfl), (Nat.le_of_ble_eq_true rfl)⟩ ?_
            have z := inner 0 (Nat.zero_le _)
            rw [show (fb Z x0 c && allN (fun d => !sm Z x0 c d) 0) = fb Z x0 c from by rw [show allN (fun d => !sm Z x0 c d) 0 = true from rfl, Bool.and_true]] at z
            exact z
          · skip
            exact absurd rfl (hb13 _ (by omega))
    refine j_iconst (pc := 0) (v := nI 0) dX1_kernels_0 (by decide) ?_
    refine j_istore_n (pc := 1) (i := 2) (lv' := [.ref (Y.2.1 0), .int (nI x0), .int (nI 0)]) dX1_kernels_1 rfl rfl ⟨(Nat.le_of_ble_eq_true rfl), (Nat.le_of_ble_eq_true rfl)⟩ ?_
    refine j_iconst (pc := 2) (v := nI 0) dX1_kernels_2 (by decide) ?_
    refine j_istore_n (pc := 3) (i := 3) (lv' := [.ref (Y.2.1 0), .int (nI x0), .int (nI 0), .int (nI 0)]) dX1_kernels_3 rfl rfl ⟨(Nat.le_of_ble_eq_true rfl), (Nat.le_of_ble_eq_true rfl)⟩ ?_
    exact loop 0 (Nat.zero_le _)
  · skip
    refine j_iconst (pc := 0) (v := nI 0) dX1_kernels_0 (by decide) ?_
    refine j_istore_n (pc := 1) (i := 2) (lv' := [.ref (Y.2.1 0), .int x, .int (nI 0)]) dX1_kernels_1 rfl rfl ⟨(Nat.le_of_ble_eq_true rfl), (Nat.le_of_ble_eq_true rfl)⟩ ?_
    refine j_iconst (pc := 2) (v := nI 0) dX1_kernels_2 (by decide) ?_
    refine j_istore_n (pc := 3) (i := 3) (lv' := [.ref (Y.2.1 0), .int x, .int (nI 0), .int (nI 0)]) dX1_kernels_3 rfl rfl ⟨(Nat.le_of_ble_eq_true rfl), (Nat.le_of_ble_eq_true rfl)⟩ ?_
    refine j_iload_n (pc := 4) (i := 3) dX1_kernels_4 rfl rfl ?_
    refine j_sipush (pc := 5) (v := nI 128) dX1_kernels_5 (by decide) ?_
    refine n_icmp_ge (pc := 8) (tgt := 84) dX1_kernels_8 (by decide) (by omega) (fun h8 => ?_) (fun h8 => ?_)
    · skip
      exact absurd h8 (by decide)
    · skip
      refine j_aload_n (pc := 11) (i := 0) dX1_kernels_11 rfl rfl ?_
      refine j_iload_n (pc := 12) (i := 1) dX1_kernels_12 rfl rfl ?_
      refine m_calli (pc := 13) (st := []) (met_mexpression (kl G) Y Z x) hG (by decide) dX1_kernels_13 cpM_X1_expression (Nat.le_of_ble_eq_true rfl) rfl (fun r13 Z13 hr13 => ?_)
      obtain ⟨hE13, hr13⟩ := hr13
      rw [hE13]
      rcases hr13 with ⟨rfl, k, hk, e⟩ | ⟨rfl, hb13⟩
      · skip
        exact absurd e (hbx k hk)
      · skip
        skip
        refine n_if_eq (pc := 16) (tgt := 84) dX1_kernels_16 (by decide) (by decide) (fun _ => ?_) (fun h => absurd h (by decide))
        refine j_aload_n (pc := 84) (i := 0) dX1_kernels_84 rfl rfl ?_
        refine j_iload_n (pc := 85) (i := 1) dX1_kernels_85 rfl rfl ?_
        refine m_calli (pc := 86) (st := []) (met_mexpression (kl G) Y Z x) hG (by decide) dX1_kernels_86 cpM_X1_expression (Nat.le_of_ble_eq_true rfl) rfl (fun r86 Z86 hr86 => ?_)
        obtain ⟨hE86, hr86⟩ := hr86
        rw [hE86]
        rcases hr86 with ⟨rfl, k, hk, e⟩ | ⟨rfl, hb86⟩
        · skip
          exact absurd e (hbx k hk)
        · skip
          skip
          refine n_if_eq (pc := 89) (tgt := 96) dX1_kernels_89 (by decide) (by decide) (fun _ => ?_) (fun h => absurd h (by decide))
          refine j_iconst (pc := 96) (v := -1) dX1_kernels_96 (by decide) ?_
          exact ret _ _ _ _ dX1_kernels_97 rfl ⟨rfl, Or.inl ⟨rfl, hbx⟩⟩

theorem dX1_nextCokernel_0 : decode cX1_nextCokernel 0 = .ok (.iconst 0, 1) := by decide +kernel
theorem dX1_nextCokernel_1 : decode cX1_nextCokernel 1 = .ok (.istore_n 3, 1) := by decide +kernel
theorem dX1_nextCokernel_2 : decode cX1_nextCokernel 2 = .ok (.iload_n 3, 1) := by decide +kernel
theorem dX1_nextCokernel_3 : decode cX1_nextCokernel 3 = .ok (.sipush 128, 3) := by decide +kernel
theorem dX1_nextCokernel_6 : decode cX1_nextCokernel 6 = .ok (.if_icmp .ge 33, 3) := by decide +kernel
theorem dX1_nextCokernel_9 : decode cX1_nextCokernel 9 = .ok (.aload_n 0, 1) := by decide +kernel
theorem dX1_nextCokernel_10 : decode cX1_nextCokernel 10 = .ok (.iload_n 1, 1) := by decide +kernel
theorem dX1_nextCokernel_11 : decode cX1_nextCokernel 11 = .ok (.invokevirtual 19, 3) := by decide +kernel
theorem dX1_nextCokernel_14 : decode cX1_nextCokernel 14 = .ok (.ifCond .eq 25, 3) := by decide +kernel
theorem dX1_nextCokernel_17 : decode cX1_nextCokernel 17 = .ok (.iload_n 3, 1) := by decide +kernel
theorem dX1_nextCokernel_18 : decode cX1_nextCokernel 18 = .ok (.iload_n 2, 1) := by decide +kernel
theorem dX1_nextCokernel_19 : decode cX1_nextCokernel 19 = .ok (.if_icmp .lt 14, 3) := by decide +kernel
theorem dX1_nextCokernel_22 : decode cX1_nextCokernel 22 = .ok (.aload_n 0, 1) := by decide +kernel
theorem dX1_nextCokernel_23 : decode cX1_nextCokernel 23 = .ok (.iload_n 1, 1) := by decide +kernel
theorem dX1_nextCokernel_24 : decode cX1_nextCokernel 24 = .ok (.iload_n 3, 1) := by decide +kernel
theorem dX1_nextCokernel_25 : decode cX1_nextCokernel 25 = .ok (.invokevirtual 46, 3) := by decide +kernel
theorem dX1_nextCokernel_28 : decode cX1_nextCokernel 28 = .ok (.ifCond .eq 5, 3) := by decide +kernel
theorem dX1_nextCokernel_31 : decode cX1_nextCokernel 31 = .ok (.iload_n 3, 1) := by decide +kernel
theorem dX1_nextCokernel_32 : decode cX1_nextCokernel 32 = .ok (.ireturn, 1) := by decide +kernel
theorem dX1_nextCokernel_33 : decode cX1_nextCokernel 33 = .ok (.iinc 3 1, 3) := by decide +kernel
theorem dX1_nextCokernel_36 : decode cX1_nextCokernel 36 = .ok (.goto (-34), 3) := by decide +kernel
theorem dX1_nextCokernel_39 : decode cX1_nextCokernel 39 = .ok (.iconst (-1), 1) := by decide +kernel
theorem dX1_nextCokernel_40 : decode cX1_nextCokernel 40 = .ok (.ireturn, 1) := by decide +kernel
set_option maxRecDepth 100000 in
set_option maxHeartbeats 4000000 in
theorem met_mnextCokernel (l : Launch) (Y : dL) (Z : Nat → Nat → Bool) (x w : Int32) : mMi l yX1_nextCokernel cX1_nextCokernel 4 (some .int) 3 Y [.int x, .int w] Z (fun r Z' => Z' = Z ∧ ((r = -1 ∧ (∀ k, k < 4 → x ≠ nI k)) ∨ ∃ e, e < 4 ∧ x = nI e ∧ ((r = -1 ∧ ∀ D, D < 128 → fb Z e D = true → nI D < w) ∨ ∃ D, D < 128 ∧ fb Z e D = true ∧ ¬ nI D < w ∧ r = nI D ∧ ∀ D', D' < D → fb Z e D' = true → nI D' < w))) := by
  refine m_ofi .int (own := RX1) rfl rfl (by decide) (Nat.le_of_ble_eq_true rfl) (by simp [lcat, Value.category]) ?_
  intro G hG ret
  rcases rg_dec x (N := 4) (by decide) with ⟨x0, hx0, rfl⟩ | hbx
  · skip
    have loop : ∀ c, c ≤ 128 → (∀ D, D < c → fb Z x0 D = true → nI D < w) → J cX1_nextCokernel 4 RX1 G (mV G Y (mA Y) Z) 2 [.ref (Y.2.1 0), .int (nI x0), .int w, .int (nI c)] [] := by
      refine up_loop _ 128 (fun hno => ?_) (fun c hc ih hno => ?_)
      · skip
        refine j_iload_n (pc := 2) (i := 3) dX1_nextCokernel_2 rfl rfl ?_
        refine j_sipush (pc := 3) (v := nI 128) dX1_nextCokernel_3 (by decide) ?_
        refine n_icmp_ge (pc := 6) (tgt := 39) dX1_nextCokernel_6 (by decide) (by omega) (fun h6 => ?_) (fun h6 => ?_)
        · skip
          refine j_iconst (pc := 39) (v := -1) dX1_nextCokernel_39 (by decide) ?_
          exact ret _ _ _ _ dX1_nextCokernel_40 rfl ⟨rfl, Or.inr ⟨x0, hx0, rfl, Or.inl ⟨rfl, hno⟩⟩⟩
        · skip
          exact absurd h6 (by omega)
      · skip
        refine j_iload_n (pc := 2) (i := 3) dX1_nextCokernel_2 rfl rfl ?_
        refine j_sipush (pc := 3) (v := nI 128) dX1_nextCokernel_3 (by decide) ?_
        refine n_icmp_ge (pc := 6) (tgt := 39) dX1_nextCokernel_6 (by decide) (by omega) (fun h6 => ?_) (fun h6 => ?_)
        · skip
          exact absurd h6 (by omega)
        · skip
          refine j_aload_n (pc := 9) (i := 0) dX1_nextCokernel_9 rfl rfl ?_
          refine j_iload_n (pc := 10) (i := 1) dX1_nextCokernel_10 rfl rfl ?_
          refine m_calli (pc := 11) (st := []) (met_mexpression (kl G) Y Z (nI x0)) hG (by decide) dX1_nextCokernel_11 cpM_X1_expression (Nat.le_of_ble_eq_true rfl) rfl (fun r11 Z11 hr11 => ?_)
          obtain ⟨hE11, hr11⟩ := hr11
          rw [hE11]
          rcases hr11 with ⟨rfl, hq11⟩ | ⟨rfl, hb11⟩
          · skip
            skip
            refine n_if_eq (pc := 14) (tgt := 39) dX1_nextCokernel_14 (by decide) (by decide) (fun h => absurd h (by decide)) (fun _ => ?_)
            refine j_iload_n (pc := 17) (i := 3) dX1_nextCokernel_17 rfl rfl ?_
            refine j_iload_n (pc := 18) (i := 2) dX1_nextCokernel_18 rfl rfl ?_
            refine j_icmp_lt (pc := 19) (tgt := 33) dX1_nextCokernel_19 (by decide) (fun h19 => ?_) (fun h19 => ?_)
            · skip
              refine n_iinc (pc := 33) (n := 1) (lv' := [.ref (Y.2.1 0), .int (nI x0), .int w, .int (nI (c + 1))]) dX1_nextCokernel_33 rfl rfl (Nat.le_of_ble_eq_true rfl) ?_
              refine j_goto (pc := 36) (tgt := 2) dX1_nextCokernel_36 (by decide) ?_
              first | exact ih (lt_s hno (fun _ => h19)) | exact ih (lt_s hno (fun z => by rw [h28] at z; cases z))
            · skip
              refine j_aload_n (pc := 22) (i := 0) dX1_nextCokernel_22 rfl rfl ?_
              refine j_iload_n (pc := 23) (i := 1) dX1_nextCokernel_23 rfl rfl ?_
              refine j_iload_n (pc := 24) (i := 3) dX1_nextCokernel_24 rfl rfl ?_
              refine m_calli (pc := 25) (st := []) (met_mfreeBy (kl G) Y Z x0 c (by omega) (by omega)) hG (by decide) dX1_nextCokernel_25 cpM_X1_freeBy (Nat.le_of_ble_eq_true rfl) rfl (fun r25 Z25 hr25 => ?_)
              obtain ⟨hE25, hr25⟩ := hr25
              rw [hE25]
              subst hr25
              refine b_if_eq (pc := 28) (tgt := 33) dX1_nextCokernel_28 (by decide) (fun h28 => ?_) (fun h28 => ?_)
              · skip
                refine n_iinc (pc := 33) (n := 1) (lv' := [.ref (Y.2.1 0), .int (nI x0), .int w, .int (nI (c + 1))]) dX1_nextCokernel_33 rfl rfl (Nat.le_of_ble_eq_true rfl) ?_
                refine j_goto (pc := 36) (tgt := 2) dX1_nextCokernel_36 (by decide) ?_
                first | exact ih (lt_s hno (fun _ => h19)) | exact ih (lt_s hno (fun z => by rw [h28] at z; cases z))
              · skip
                refine j_iload_n (pc := 31) (i := 3) dX1_nextCokernel_31 rfl rfl ?_
                exact ret _ _ _ _ dX1_nextCokernel_32 rfl ⟨rfl, Or.inr ⟨x0, hx0, rfl, Or.inr ⟨c, hc, h28, h19, rfl, hno⟩⟩⟩
          · skip
            exact absurd rfl (hb11 _ (by omega))
    refine j_iconst (pc := 0) (v := nI 0) dX1_nextCokernel_0 (by decide) ?_
    refine j_istore_n (pc := 1) (i := 3) (lv' := [.ref (Y.2.1 0), .int (nI x0), .int w, .int (nI 0)]) dX1_nextCokernel_1 rfl rfl ⟨(Nat.le_of_ble_eq_true rfl), (Nat.le_of_ble_eq_true rfl)⟩ ?_
    exact loop 0 (Nat.zero_le _) lt_0
  · skip
    refine j_iconst (pc := 0) (v := nI 0) dX1_nextCokernel_0 (by decide) ?_
    refine j_istore_n (pc := 1) (i := 3) (lv' := [.ref (Y.2.1 0), .int x, .int w, .int (nI 0)]) dX1_nextCokernel_1 rfl rfl ⟨(Nat.le_of_ble_eq_true rfl), (Nat.le_of_ble_eq_true rfl)⟩ ?_
    refine j_iload_n (pc := 2) (i := 3) dX1_nextCokernel_2 rfl rfl ?_
    refine j_sipush (pc := 3) (v := nI 128) dX1_nextCokernel_3 (by decide) ?_
    refine n_icmp_ge (pc := 6) (tgt := 39) dX1_nextCokernel_6 (by decide) (by omega) (fun h6 => ?_) (fun h6 => ?_)
    · skip
      exact absurd h6 (by decide)
    · skip
      refine j_aload_n (pc := 9) (i := 0) dX1_nextCokernel_9 rfl rfl ?_
      refine j_iload_n (pc := 10) (i := 1) dX1_nextCokernel_10 rfl rfl ?_
      refine m_calli (pc := 11) (st := []) (met_mexpression (kl G) Y Z x) hG (by decide) dX1_nextCokernel_11 cpM_X1_expression (Nat.le_of_ble_eq_true rfl) rfl (fun r11 Z11 hr11 => ?_)
      obtain ⟨hE11, hr11⟩ := hr11
      rw [hE11]
      rcases hr11 with ⟨rfl, k, hk, e⟩ | ⟨rfl, hb11⟩
      · skip
        exact absurd e (hbx k hk)
      · skip
        skip
        refine n_if_eq (pc := 14) (tgt := 39) dX1_nextCokernel_14 (by decide) (by decide) (fun _ => ?_) (fun h => absurd h (by decide))
        refine j_iconst (pc := 39) (v := -1) dX1_nextCokernel_39 (by decide) ?_
        exact ret _ _ _ _ dX1_nextCokernel_40 rfl ⟨rfl, Or.inl ⟨rfl, hbx⟩⟩

theorem dX1_holding_0 : decode cX1_holding 0 = .ok (.aload_n 0, 1) := by decide +kernel
theorem dX1_holding_1 : decode cX1_holding 1 = .ok (.iload_n 1, 1) := by decide +kernel
theorem dX1_holding_2 : decode cX1_holding 2 = .ok (.invokevirtual 19, 3) := by decide +kernel
theorem dX1_holding_5 : decode cX1_holding 5 = .ok (.ifCond .eq 11, 3) := by decide +kernel
theorem dX1_holding_8 : decode cX1_holding 8 = .ok (.aload_n 0, 1) := by decide +kernel
theorem dX1_holding_9 : decode cX1_holding 9 = .ok (.iload_n 2, 1) := by decide +kernel
theorem dX1_holding_10 : decode cX1_holding 10 = .ok (.invokevirtual 23, 3) := by decide +kernel
theorem dX1_holding_13 : decode cX1_holding 13 = .ok (.ifCond .ne 5, 3) := by decide +kernel
theorem dX1_holding_16 : decode cX1_holding 16 = .ok (.iconst (-1), 1) := by decide +kernel
theorem dX1_holding_17 : decode cX1_holding 17 = .ok (.ireturn, 1) := by decide +kernel
theorem dX1_holding_18 : decode cX1_holding 18 = .ok (.iconst 0, 1) := by decide +kernel
theorem dX1_holding_19 : decode cX1_holding 19 = .ok (.istore_n 3, 1) := by decide +kernel
theorem dX1_holding_20 : decode cX1_holding 20 = .ok (.iconst 0, 1) := by decide +kernel
theorem dX1_holding_21 : decode cX1_holding 21 = .ok (.istore 4, 2) := by decide +kernel
theorem dX1_holding_23 : decode cX1_holding 23 = .ok (.iconst 0, 1) := by decide +kernel
theorem dX1_holding_24 : decode cX1_holding 24 = .ok (.istore 5, 2) := by decide +kernel
theorem dX1_holding_26 : decode cX1_holding 26 = .ok (.iload 5, 2) := by decide +kernel
theorem dX1_holding_28 : decode cX1_holding 28 = .ok (.sipush 128, 3) := by decide +kernel
theorem dX1_holding_31 : decode cX1_holding 31 = .ok (.if_icmp .ge 48, 3) := by decide +kernel
theorem dX1_holding_34 : decode cX1_holding 34 = .ok (.aload_n 0, 1) := by decide +kernel
theorem dX1_holding_35 : decode cX1_holding 35 = .ok (.getfield 7, 3) := by decide +kernel
theorem dX1_holding_38 : decode cX1_holding 38 = .ok (.sipush 128, 3) := by decide +kernel
theorem dX1_holding_41 : decode cX1_holding 41 = .ok (.iload_n 1, 1) := by decide +kernel
theorem dX1_holding_42 : decode cX1_holding 42 = .ok (.imul, 1) := by decide +kernel
theorem dX1_holding_43 : decode cX1_holding 43 = .ok (.iload 5, 2) := by decide +kernel
theorem dX1_holding_45 : decode cX1_holding 45 = .ok (.iadd, 1) := by decide +kernel
theorem dX1_holding_46 : decode cX1_holding 46 = .ok (.baload, 1) := by decide +kernel
theorem dX1_holding_47 : decode cX1_holding 47 = .ok (.ifCond .eq 26, 3) := by decide +kernel
theorem dX1_holding_50 : decode cX1_holding 50 = .ok (.iload_n 2, 1) := by decide +kernel
theorem dX1_holding_51 : decode cX1_holding 51 = .ok (.iload 5, 2) := by decide +kernel
theorem dX1_holding_53 : decode cX1_holding 53 = .ok (.iconst (-1), 1) := by decide +kernel
theorem dX1_holding_54 : decode cX1_holding 54 = .ok (.ixor, 1) := by decide +kernel
theorem dX1_holding_55 : decode cX1_holding 55 = .ok (.iand, 1) := by decide +kernel
theorem dX1_holding_56 : decode cX1_holding 56 = .ok (.ifCond .ne 12, 3) := by decide +kernel
theorem dX1_holding_59 : decode cX1_holding 59 = .ok (.iload_n 3, 1) := by decide +kernel
theorem dX1_holding_60 : decode cX1_holding 60 = .ok (.iconst 1, 1) := by decide +kernel
theorem dX1_holding_61 : decode cX1_holding 61 = .ok (.iload 4, 2) := by decide +kernel
theorem dX1_holding_63 : decode cX1_holding 63 = .ok (.ishl, 1) := by decide +kernel
theorem dX1_holding_64 : decode cX1_holding 64 = .ok (.ior, 1) := by decide +kernel
theorem dX1_holding_65 : decode cX1_holding 65 = .ok (.goto 4, 3) := by decide +kernel
theorem dX1_holding_68 : decode cX1_holding 68 = .ok (.iload_n 3, 1) := by decide +kernel
theorem dX1_holding_69 : decode cX1_holding 69 = .ok (.istore_n 3, 1) := by decide +kernel
theorem dX1_holding_70 : decode cX1_holding 70 = .ok (.iinc 4 1, 3) := by decide +kernel
theorem dX1_holding_73 : decode cX1_holding 73 = .ok (.iinc 5 1, 3) := by decide +kernel
theorem dX1_holding_76 : decode cX1_holding 76 = .ok (.goto (-50), 3) := by decide +kernel
theorem dX1_holding_79 : decode cX1_holding 79 = .ok (.iload_n 3, 1) := by decide +kernel
theorem dX1_holding_80 : decode cX1_holding 80 = .ok (.ireturn, 1) := by decide +kernel
set_option maxRecDepth 100000 in
set_option maxHeartbeats 4000000 in
theorem met_mholding (l : Launch) (Y : dL) (Z : Nat → Nat → Bool) (x c : Int32) (h8c : ∀ e, e < 4 → cntB (ms Z e) 128 ≤ 8) : mMi l yX1_holding cX1_holding 6 (some .int) 2 Y [.int x, .int c] Z (fun r Z' => Z' = Z ∧ ((r = -1 ∧ ((∀ k, k < 4 → x ≠ nI k) ∨ (∀ k, k < 128 → c ≠ nI k))) ∨ ∃ e k, e < 4 ∧ k < 128 ∧ x = nI e ∧ c = nI k ∧ r = nI (hb (ms Z e) k 128))) := by
  refine m_ofi .int (own := RX1) rfl rfl (by decide) (Nat.le_of_ble_eq_true rfl) (by simp [lcat, Value.category]) ?_
  intro G hG ret
  refine j_aload_n (pc := 0) (i := 0) dX1_holding_0 rfl rfl ?_
  refine j_iload_n (pc := 1) (i := 1) dX1_holding_1 rfl rfl ?_
  refine m_calli (pc := 2) (st := []) (met_mexpression (kl G) Y Z x) hG (by decide) dX1_holding_2 cpM_X1_expression (Nat.le_of_ble_eq_true rfl) rfl (fun r2 Z2 hr2 => ?_)
  obtain ⟨hE2, hr2⟩ := hr2
  rw [hE2]
  rcases hr2 with ⟨rfl, hq2⟩ | ⟨rfl, hbx⟩
  · skip
    obtain ⟨x0, hx0, rfl⟩ := hq2
    refine n_if_eq (pc := 5) (tgt := 16) dX1_holding_5 (by decide) (by decide) (fun h => absurd h (by decide)) (fun _ => ?_)
    refine j_aload_n (pc := 8) (i := 0) dX1_holding_8 rfl rfl ?_
    refine j_iload_n (pc := 9) (i := 2) dX1_holding_9 rfl rfl ?_
    refine m_calli (pc := 10) (st := []) (met_misCube (kl G) Y Z c) hG (by decide) dX1_holding_10 cpM_X1_isCube (Nat.le_of_ble_eq_true rfl) rfl (fun r10 Z10 hr10 => ?_)
    obtain ⟨hE10, hr10⟩ := hr10
    rw [hE10]
    rcases hr10 with ⟨rfl, hq10⟩ | ⟨rfl, hbc⟩
    · skip
      obtain ⟨c0, hc0, rfl⟩ := hq10
      refine n_if_ne (pc := 13) (tgt := 18) dX1_holding_13 (by decide) (by decide) (fun _ => ?_) (fun h => absurd h (by decide))
      refine j_iconst (pc := 18) (v := nI 0) dX1_holding_18 (by decide) ?_
      refine j_istore_n (pc := 19) (i := 3) (lv' := [.ref (Y.2.1 0), .int (nI x0), .int (nI c0), .int (nI 0)]) dX1_holding_19 rfl rfl ⟨(Nat.le_of_ble_eq_true rfl), (Nat.le_of_ble_eq_true rfl)⟩ ?_
      refine j_iconst (pc := 20) (v := nI 0) dX1_holding_20 (by decide) ?_
      refine j_istore (pc := 21) (i := 4) (lv' := [.ref (Y.2.1 0), .int (nI x0), .int (nI c0), .int (nI 0), .int (nI 0)]) dX1_holding_21 rfl ⟨(Nat.le_of_ble_eq_true rfl), (Nat.le_of_ble_eq_true rfl)⟩ ?_
      refine j_iconst (pc := 23) (v := nI 0) dX1_holding_23 (by decide) ?_
      refine j_istore (pc := 24) (i := 5) (lv' := [.ref (Y.2.1 0), .int (nI x0), .int (nI c0), .int (nI 0), .int (nI 0), .int (nI 0)]) dX1_holding_24 rfl ⟨(Nat.le_of_ble_eq_true rfl), (Nat.le_of_ble_eq_true rfl)⟩ ?_
      have h8 := h8c x0 hx0
      have loop : ∀ j, j ≤ 128 → J cX1_holding 6 RX1 G (mV G Y (mA Y) Z) 26 [.ref (Y.2.1 0), .int (nI x0), .int (nI c0), .int (nI (hb (ms Z x0) c0 j)), .int (nI (cntB (ms Z x0) j)), .int (nI j)] [] := by
        refine up_loop _ 128 ?_ (fun j hj ih => ?_)
        · skip
          refine j_iload (pc := 26) dX1_holding_26 rfl ?_
          refine j_sipush (pc := 28) (v := nI 128) dX1_holding_28 (by decide) ?_
          refine n_icmp_ge (pc := 31) (tgt := 79) dX1_holding_31 (by decide) (by omega) (fun h31 => ?_) (fun h31 => ?_)
          · skip
            refine j_iload_n (pc := 79) (i := 3) dX1_holding_79 rfl rfl ?_
            exact ret _ _ _ _ dX1_holding_80 rfl ⟨rfl, Or.inr ⟨x0, c0, hx0, hc0, rfl, rfl, rfl⟩⟩
          · skip
            exact absurd h31 (by omega)
        · skip
          have hcm := cntB_mono (ms Z x0) (Nat.le_of_lt hj)
          have hnd : nd c0 j < 128 := Nat.lt_of_le_of_lt (nd_le _ _) hc0
          refine j_iload (pc := 26) dX1_holding_26 rfl ?_
          refine j_sipush (pc := 28) (v := nI 128) dX1_holding_28 (by decide) ?_
          refine n_icmp_ge (pc := 31) (tgt := 79) dX1_holding_31 (by decide) (by omega) (fun h31 => ?_) (fun h31 => ?_)
          · skip
            exact absurd h31 (by omega)
          · skip
            refine j_aload_n (pc := 34) (i := 0) dX1_holding_34 rfl rfl ?_
            refine m_get_in (pc := 35) dX1_holding_35 ?_
            refine j_sipush (pc := 38) (v := nI 128) dX1_holding_38 (by decide) ?_
            refine j_iload_n (pc := 41) (i := 1) dX1_holding_41 rfl rfl ?_
            refine n_imul (pc := 42) dX1_holding_42 ?_
            refine j_iload (pc := 43) dX1_holding_43 rfl ?_
            refine n_iadd (pc := 45) dX1_holding_45 ?_
            refine m_ld_in (pc := 46) dX1_holding_46 (by omega) ?_
            refine b_if_eq (pc := 47) (tgt := 73) dX1_holding_47 (by decide) (fun h47 => ?_) (fun h47 => ?_)
            · skip
              refine n_iinc (pc := 73) (n := 1) (lv' := [.ref (Y.2.1 0), .int (nI x0), .int (nI c0), .int (nI (hb (ms Z x0) c0 j)), .int (nI (cntB (ms Z x0) j)), .int (nI (j + 1))]) dX1_holding_73 rfl rfl (Nat.le_of_ble_eq_true rfl) ?_
              refine j_goto (pc := 76) (tgt := 26) dX1_holding_76 (by decide) ?_
              rw [show hb (ms Z x0) c0 j = hb (ms Z x0) c0 (j + 1) by
                show _ = if Z 0 (128 * x0 + j) = true then (if nd c0 j = 0 then hb (ms Z x0) c0 j ||| 2 ^ (cntB (ms Z x0) j) else hb (ms Z x0) c0 j) else hb (ms Z x0) c0 j
                first | (rw [if_pos h47, if_pos h56]; done) | (rw [if_pos h47, if_neg h56]; done) | rw [if_neg (by rw [h47]; decide)], show cntB (ms Z x0) j = cntB (ms Z x0) (j + 1) by simp [cntB, ms, h47]]
              exact ih
            · skip
              refine j_iload_n (pc := 50) (i := 2) dX1_holding_50 rfl rfl ?_
              refine j_iload (pc := 51) dX1_holding_51 rfl ?_
              refine n_andn (pc := 53) dX1_holding_53 dX1_holding_54 dX1_holding_55 ?_
              refine n_if_ne (pc := 56) (tgt := 68) dX1_holding_56 (by decide) (by omega) (fun h56 => ?_) (fun h56 => ?_)
              · skip
                refine j_iload_n (pc := 68) (i := 3) dX1_holding_68 rfl rfl ?_
                refine j_istore_n (pc := 69) (i := 3) (lv' := [.ref (Y.2.1 0), .int (nI x0), .int (nI c0), .int (nI (hb (ms Z x0) c0 j)), .int (nI (cntB (ms Z x0) j)), .int (nI j)]) dX1_holding_69 rfl rfl ⟨(Nat.le_of_ble_eq_true rfl), (Nat.le_of_ble_eq_true rfl)⟩ ?_
                refine n_iinc (pc := 70) (n := 1) (lv' := [.ref (Y.2.1 0), .int (nI x0), .int (nI c0), .int (nI (hb (ms Z x0) c0 j)), .int (nI (cntB (ms Z x0) j + 1)), .int (nI j)]) dX1_holding_70 rfl rfl (Nat.le_of_ble_eq_true rfl) ?_
                refine n_iinc (pc := 73) (n := 1) (lv' := [.ref (Y.2.1 0), .int (nI x0), .int (nI c0), .int (nI (hb (ms Z x0) c0 j)), .int (nI (cntB (ms Z x0) j + 1)), .int (nI (j + 1))]) dX1_holding_73 rfl rfl (Nat.le_of_ble_eq_true rfl) ?_
                refine j_goto (pc := 76) (tgt := 26) dX1_holding_76 (by decide) ?_
                rw [show hb (ms Z x0) c0 j = hb (ms Z x0) c0 (j + 1) by
                  show _ = if Z 0 (128 * x0 + j) = true then (if nd c0 j = 0 then hb (ms Z x0) c0 j ||| 2 ^ (cntB (ms Z x0) j) else hb (ms Z x0) c0 j) else hb (ms Z x0) c0 j
                  first | (rw [if_pos h47, if_pos h56]; done) | (rw [if_pos h47, if_neg h56]; done) | rw [if_neg (by rw [h47]; decide)], show cntB (ms Z x0) j + 1 = cntB (ms Z x0) (j + 1) by simp [cntB, ms, h47]]
                exact ih
              · skip
                refine j_iload_n (pc := 59) (i := 3) dX1_holding_59 rfl rfl ?_
                refine j_iconst (pc := 60) (v := nI 1) dX1_holding_60 (by decide) ?_
                refine j_iload (pc := 61) dX1_holding_61 rfl ?_
                refine n_shl1 (pc := 63) dX1_holding_63 (by omega) ?_
                refine n_ior (pc := 64) dX1_holding_64 ?_
                refine j_goto (pc := 65) (tgt := 69) dX1_holding_65 (by decide) ?_
                refine j_istore_n (pc := 69) (i := 3) (lv' := [.ref (Y.2.1 0), .int (nI x0), .int (nI c0), .int (nI ((hb (ms Z x0) c0 j) ||| (2 ^ (cntB (ms Z x0) j)))), .int (nI (cntB (ms Z x0) j)), .int (nI j)]) dX1_holding_69 rfl rfl ⟨(Nat.le_of_ble_eq_true rfl), (Nat.le_of_ble_eq_true rfl)⟩ ?_
                refine n_iinc (pc := 70) (n := 1) (lv' := [.ref (Y.2.1 0), .int (nI x0), .int (nI c0), .int (nI ((hb (ms Z x0) c0 j) ||| (2 ^ (cntB (ms Z x0) j)))), .int (nI (cntB (ms Z x0) j + 1)), .int (nI j)]) dX1_holding_70 rfl rfl (Nat.le_of_ble_eq_true rfl) ?_
                refine n_iinc (pc := 73) (n := 1) (lv' := [.ref (Y.2.1 0), .int (nI x0), .int (nI c0), .int (nI ((hb (ms Z x0) c0 j) ||| (2 ^ (cntB (ms Z x0) j)))), .int (nI (cntB (ms Z x0) j + 1)), .int (nI (j + 1))]) dX1_holding_73 rfl rfl (Nat.le_of_ble_eq_true rfl) ?_
                refine j_goto (pc := 76) (tgt := 26) dX1_holding_76 (by decide) ?_
                rw [show (hb (ms Z x0) c0 j) ||| (2 ^ (cntB (ms Z x0) j)) = hb (ms Z x0) c0 (j + 1) by
                  show _ = if Z 0 (128 * x0 + j) = true then (if nd c0 j = 0 then hb (ms Z x0) c0 j ||| 2 ^ (cntB (ms Z x0) j) else hb (ms Z x0) c0 j) else hb (ms Z x0) c0 j
                  first | (rw [if_pos h47, if_pos h56]; done) | (rw [if_pos h47, if_neg h56]; done) | rw [if_neg (by rw [h47]; decide)], show cntB (ms Z x0) j + 1 = cntB (ms Z x0) (j + 1) by simp [cntB, ms, h47]]
                exact ih
      exact loop 0 (Nat.zero_le _)
    · skip
      skip
      refine n_if_ne (pc := 13) (tgt := 18) dX1_holding_13 (by decide) (by decide) (fun h => absurd h (by decide)) (fun _ => ?_)
      refine j_iconst (pc := 16) (v := -1) dX1_holding_16 (by decide) ?_
      first | exact ret _ _ _ _ dX1_holding_17 rfl ⟨rfl, Or.inl ⟨rfl, Or.inl hbx⟩⟩ | exact ret _ _ _ _ dX1_holding_17 rfl ⟨rfl, Or.inl ⟨rfl, Or.inr hbc⟩⟩
  · skip
    skip
    refine n_if_eq (pc := 5) (tgt := 16) dX1_holding_5 (by decide) (by decide) (fun _ => ?_) (fun h => absurd h (by decide))
    refine j_iconst (pc := 16) (v := -1) dX1_holding_16 (by decide) ?_
    first | exact ret _ _ _ _ dX1_holding_17 rfl ⟨rfl, Or.inl ⟨rfl, Or.inl hbx⟩⟩ | exact ret _ _ _ _ dX1_holding_17 rfl ⟨rfl, Or.inl ⟨rfl, Or.inr hbc⟩⟩

theorem dX1_saving_0 : decode cX1_saving 0 = .ok (.aload_n 0, 1) := by decide +kernel
theorem dX1_saving_1 : decode cX1_saving 1 = .ok (.iload_n 1, 1) := by decide +kernel
theorem dX1_saving_2 : decode cX1_saving 2 = .ok (.iload_n 2, 1) := by decide +kernel
theorem dX1_saving_3 : decode cX1_saving 3 = .ok (.invokevirtual 38, 3) := by decide +kernel
theorem dX1_saving_6 : decode cX1_saving 6 = .ok (.ifCond .ne 5, 3) := by decide +kernel
theorem dX1_saving_9 : decode cX1_saving 9 = .ok (.iconst (-1), 1) := by decide +kernel
theorem dX1_saving_10 : decode cX1_saving 10 = .ok (.ireturn, 1) := by decide +kernel
theorem dX1_saving_11 : decode cX1_saving 11 = .ok (.aload_n 0, 1) := by decide +kernel
theorem dX1_saving_12 : decode cX1_saving 12 = .ok (.iload_n 1, 1) := by decide +kernel
theorem dX1_saving_13 : decode cX1_saving 13 = .ok (.iload_n 2, 1) := by decide +kernel
theorem dX1_saving_14 : decode cX1_saving 14 = .ok (.invokevirtual 42, 3) := by decide +kernel
theorem dX1_saving_17 : decode cX1_saving 17 = .ok (.iconst 0, 1) := by decide +kernel
theorem dX1_saving_18 : decode cX1_saving 18 = .ok (.istore_n 3, 1) := by decide +kernel
theorem dX1_saving_19 : decode cX1_saving 19 = .ok (.iconst 0, 1) := by decide +kernel
theorem dX1_saving_20 : decode cX1_saving 20 = .ok (.istore 4, 2) := by decide +kernel
theorem dX1_saving_22 : decode cX1_saving 22 = .ok (.iload 4, 2) := by decide +kernel
theorem dX1_saving_24 : decode cX1_saving 24 = .ok (.sipush 128, 3) := by decide +kernel
theorem dX1_saving_27 : decode cX1_saving 27 = .ok (.if_icmp .ge 105, 3) := by decide +kernel
theorem dX1_saving_30 : decode cX1_saving 30 = .ok (.aload_n 0, 1) := by decide +kernel
theorem dX1_saving_31 : decode cX1_saving 31 = .ok (.iload 4, 2) := by decide +kernel
theorem dX1_saving_33 : decode cX1_saving 33 = .ok (.invokevirtual 52, 3) := by decide +kernel
theorem dX1_saving_36 : decode cX1_saving 36 = .ok (.istore 5, 2) := by decide +kernel
theorem dX1_saving_38 : decode cX1_saving 38 = .ok (.aload_n 0, 1) := by decide +kernel
theorem dX1_saving_39 : decode cX1_saving 39 = .ok (.getfield 7, 3) := by decide +kernel
theorem dX1_saving_42 : decode cX1_saving 42 = .ok (.sipush 128, 3) := by decide +kernel
theorem dX1_saving_45 : decode cX1_saving 45 = .ok (.iload_n 1, 1) := by decide +kernel
theorem dX1_saving_46 : decode cX1_saving 46 = .ok (.imul, 1) := by decide +kernel
theorem dX1_saving_47 : decode cX1_saving 47 = .ok (.iload 4, 2) := by decide +kernel
theorem dX1_saving_49 : decode cX1_saving 49 = .ok (.iadd, 1) := by decide +kernel
theorem dX1_saving_50 : decode cX1_saving 50 = .ok (.baload, 1) := by decide +kernel
theorem dX1_saving_51 : decode cX1_saving 51 = .ok (.ifCond .eq 10, 3) := by decide +kernel
theorem dX1_saving_54 : decode cX1_saving 54 = .ok (.iload_n 3, 1) := by decide +kernel
theorem dX1_saving_55 : decode cX1_saving 55 = .ok (.iload 5, 2) := by decide +kernel
theorem dX1_saving_57 : decode cX1_saving 57 = .ok (.iadd, 1) := by decide +kernel
theorem dX1_saving_58 : decode cX1_saving 58 = .ok (.goto 4, 3) := by decide +kernel
theorem dX1_saving_61 : decode cX1_saving 61 = .ok (.iload_n 3, 1) := by decide +kernel
theorem dX1_saving_62 : decode cX1_saving 62 = .ok (.istore_n 3, 1) := by decide +kernel
theorem dX1_saving_63 : decode cX1_saving 63 = .ok (.aload_n 0, 1) := by decide +kernel
theorem dX1_saving_64 : decode cX1_saving 64 = .ok (.getfield 13, 3) := by decide +kernel
theorem dX1_saving_67 : decode cX1_saving 67 = .ok (.iload 4, 2) := by decide +kernel
theorem dX1_saving_69 : decode cX1_saving 69 = .ok (.baload, 1) := by decide +kernel
theorem dX1_saving_70 : decode cX1_saving 70 = .ok (.ifCond .eq 10, 3) := by decide +kernel
theorem dX1_saving_73 : decode cX1_saving 73 = .ok (.iload_n 3, 1) := by decide +kernel
theorem dX1_saving_74 : decode cX1_saving 74 = .ok (.iload 5, 2) := by decide +kernel
theorem dX1_saving_76 : decode cX1_saving 76 = .ok (.isub, 1) := by decide +kernel
theorem dX1_saving_77 : decode cX1_saving 77 = .ok (.goto 4, 3) := by decide +kernel
theorem dX1_saving_80 : decode cX1_saving 80 = .ok (.iload_n 3, 1) := by decide +kernel
theorem dX1_saving_81 : decode cX1_saving 81 = .ok (.istore_n 3, 1) := by decide +kernel
theorem dX1_saving_82 : decode cX1_saving 82 = .ok (.aload_n 0, 1) := by decide +kernel
theorem dX1_saving_83 : decode cX1_saving 83 = .ok (.getfield 16, 3) := by decide +kernel
theorem dX1_saving_86 : decode cX1_saving 86 = .ok (.iload 4, 2) := by decide +kernel
theorem dX1_saving_88 : decode cX1_saving 88 = .ok (.baload, 1) := by decide +kernel
theorem dX1_saving_89 : decode cX1_saving 89 = .ok (.ifCond .eq 10, 3) := by decide +kernel
theorem dX1_saving_92 : decode cX1_saving 92 = .ok (.iload_n 3, 1) := by decide +kernel
theorem dX1_saving_93 : decode cX1_saving 93 = .ok (.iload 5, 2) := by decide +kernel
theorem dX1_saving_95 : decode cX1_saving 95 = .ok (.isub, 1) := by decide +kernel
theorem dX1_saving_96 : decode cX1_saving 96 = .ok (.goto 4, 3) := by decide +kernel
theorem dX1_saving_99 : decode cX1_saving 99 = .ok (.iload_n 3, 1) := by decide +kernel
theorem dX1_saving_100 : decode cX1_saving 100 = .ok (.istore_n 3, 1) := by decide +kernel
theorem dX1_saving_101 : decode cX1_saving 101 = .ok (.aload_n 0, 1) := by decide +kernel
theorem dX1_saving_102 : decode cX1_saving 102 = .ok (.getfield 7, 3) := by decide +kernel
theorem dX1_saving_105 : decode cX1_saving 105 = .ok (.sipush 128, 3) := by decide +kernel
theorem dX1_saving_108 : decode cX1_saving 108 = .ok (.iload_n 2, 1) := by decide +kernel
theorem dX1_saving_109 : decode cX1_saving 109 = .ok (.imul, 1) := by decide +kernel
theorem dX1_saving_110 : decode cX1_saving 110 = .ok (.iload 4, 2) := by decide +kernel
theorem dX1_saving_112 : decode cX1_saving 112 = .ok (.iadd, 1) := by decide +kernel
theorem dX1_saving_113 : decode cX1_saving 113 = .ok (.baload, 1) := by decide +kernel
theorem dX1_saving_114 : decode cX1_saving 114 = .ok (.ifCond .eq 10, 3) := by decide +kernel
theorem dX1_saving_117 : decode cX1_saving 117 = .ok (.iload_n 3, 1) := by decide +kernel
theorem dX1_saving_118 : decode cX1_saving 118 = .ok (.iload 5, 2) := by decide +kernel
theorem dX1_saving_120 : decode cX1_saving 120 = .ok (.isub, 1) := by decide +kernel
theorem dX1_saving_121 : decode cX1_saving 121 = .ok (.goto 4, 3) := by decide +kernel
theorem dX1_saving_124 : decode cX1_saving 124 = .ok (.iload_n 3, 1) := by decide +kernel
theorem dX1_saving_125 : decode cX1_saving 125 = .ok (.istore_n 3, 1) := by decide +kernel
theorem dX1_saving_126 : decode cX1_saving 126 = .ok (.iinc 4 1, 3) := by decide +kernel
theorem dX1_saving_129 : decode cX1_saving 129 = .ok (.goto (-107), 3) := by decide +kernel
theorem dX1_saving_132 : decode cX1_saving 132 = .ok (.iload_n 3, 1) := by decide +kernel
theorem dX1_saving_133 : decode cX1_saving 133 = .ok (.ireturn, 1) := by decide +kernel
set_option maxRecDepth 100000 in
set_option maxHeartbeats 4000000 in
theorem met_msaving (l : Launch) (Y : dL) (Z : Nat → Nat → Bool) (x y : Int32) : mMi l yX1_saving cX1_saving 6 (some .int) 3 Y [.int x, .int y] Z (fun r Z' => Z' 0 = Z 0 ∧ ((r = -1 ∧ ∀ f g, f < 4 → g < 4 → x = nI f → y = nI g → cntB (ms Z g) 128 = 0) ∨ ∃ f g, f < 4 ∧ g < 4 ∧ x = nI f ∧ y = nI g ∧ 0 < cntB (ms Z g) 128 ∧ r = sv (ms Z f) (wq Z f g) (wl Z f g) (ms Z g) 128)) := by
  refine m_ofi .int (own := RX1) rfl rfl (by decide) (Nat.le_of_ble_eq_true rfl) (by simp [lcat, Value.category]) ?_
  intro G hG ret
  refine j_aload_n (pc := 0) (i := 0) dX1_saving_0 rfl rfl ?_
  refine j_iload_n (pc := 1) (i := 1) dX1_saving_1 rfl rfl ?_
  refine j_iload_n (pc := 2) (i := 2) dX1_saving_2 rfl rfl ?_
  refine m_calli (pc := 3) (st := []) (met_mdivides (kl G) Y Z x y) hG (by decide) dX1_saving_3 cpM_X1_divides (Nat.le_of_ble_eq_true rfl) rfl (fun r3 Z3 hr3 => ?_)
  obtain ⟨hE3, hr3⟩ := hr3
  rw [hE3]
  rcases hr3 with ⟨rfl, f, g, hf, hg, rfl, rfl, h0⟩ | ⟨rfl, hbd⟩
  · skip
    skip
    refine n_if_ne (pc := 6) (tgt := 11) dX1_saving_6 (by decide) (by decide) (fun _ => ?_) (fun h => absurd h (by decide))
    refine j_aload_n (pc := 11) (i := 0) dX1_saving_11 rfl rfl ?_
    refine j_iload_n (pc := 12) (i := 1) dX1_saving_12 rfl rfl ?_
    refine j_iload_n (pc := 13) (i := 2) dX1_saving_13 rfl rfl ?_
    refine m_callv (pc := 14) (st := []) (met_mwork (kl G) Y Z f g hf hg) hG (by decide) dX1_saving_14 cpM_X1_work (Nat.le_of_ble_eq_true rfl) rfl (fun Z14 hr14 => ?_)
    refine j_iconst (pc := 17) (v := nI 0) dX1_saving_17 (by decide) ?_
    refine j_istore_n (pc := 18) (i := 3) (lv' := [.ref (Y.2.1 0), .int (nI f), .int (nI g), .int (nI 0)]) dX1_saving_18 rfl rfl ⟨(Nat.le_of_ble_eq_true rfl), (Nat.le_of_ble_eq_true rfl)⟩ ?_
    refine j_iconst (pc := 19) (v := nI 0) dX1_saving_19 (by decide) ?_
    refine j_istore (pc := 20) (i := 4) (lv' := [.ref (Y.2.1 0), .int (nI f), .int (nI g), .int (nI 0), .int (nI 0)]) dX1_saving_20 rfl ⟨(Nat.le_of_ble_eq_true rfl), (Nat.le_of_ble_eq_true rfl)⟩ ?_
    have loop : ∀ c, c ≤ 128 → J cX1_saving 6 RX1 G (mV G Y (mA Y) Z14) 22 [.ref (Y.2.1 0), .int (nI f), .int (nI g), .int (sv (ms Z f) (wq Z f g) (wl Z f g) (ms Z g) c), .int (nI c)] [] := by
      refine up_loop _ 128 ?_ (fun c hc ih => ?_)
      · skip
        refine j_iload (pc := 22) dX1_saving_22 rfl ?_
        refine j_sipush (pc := 24) (v := nI 128) dX1_saving_24 (by decide) ?_
        refine n_icmp_ge (pc := 27) (tgt := 132) dX1_saving_27 (by decide) (by omega) (fun h27 => ?_) (fun h27 => ?_)
        · skip
          refine j_iload_n (pc := 132) (i := 3) dX1_saving_132 rfl rfl ?_
          exact ret _ _ _ _ dX1_saving_133 rfl ⟨hr14.1, Or.inr ⟨f, g, hf, hg, rfl, rfl, h0, rfl⟩⟩
        · skip
          exact absurd h27 (by omega)
      · skip
        have a1 : Z14 0 (128 * f + c) = ms Z f c := by rw [hr14.1]; rfl
        have a2 : Z14 0 (128 * g + c) = ms Z g c := by rw [hr14.1]; rfl
        have a3 := (hr14.2 c hc).1
        have a4 := (hr14.2 c hc).2
        refine j_iload (pc := 22) dX1_saving_22 rfl ?_
        refine j_sipush (pc := 24) (v := nI 128) dX1_saving_24 (by decide) ?_
        refine n_icmp_ge (pc := 27) (tgt := 132) dX1_saving_27 (by decide) (by omega) (fun h27 => ?_) (fun h27 => ?_)
        · skip
          exact absurd h27 (by omega)
        · skip
          refine j_aload_n (pc := 30) (i := 0) dX1_saving_30 rfl rfl ?_
          refine j_iload (pc := 31) dX1_saving_31 rfl ?_
          refine m_calli (pc := 33) (st := []) (met_mletters (kl G) Y Z14 c (by omega)) hG (by decide) dX1_saving_33 cpM_X1_letters (Nat.le_of_ble_eq_true rfl) rfl (fun r33 Z33 hr33 => ?_)
          obtain ⟨hE33, hr33⟩ := hr33
          rw [hE33]
          subst hr33
          refine j_istore (pc := 36) (i := 5) (lv' := [.ref (Y.2.1 0), .int (nI f), .int (nI g), .int (sv (ms Z f) (wq Z f g) (wl Z f g) (ms Z g) c), .int (nI c), .int (nI (pop c 7))]) dX1_saving_36 rfl ⟨(Nat.le_of_ble_eq_true rfl), (Nat.le_of_ble_eq_true rfl)⟩ ?_
          refine j_aload_n (pc := 38) (i := 0) dX1_saving_38 rfl rfl ?_
          refine m_get_in (pc := 39) dX1_saving_39 ?_
          refine j_sipush (pc := 42) (v := nI 128) dX1_saving_42 (by decide) ?_
          refine j_iload_n (pc := 45) (i := 1) dX1_saving_45 rfl rfl ?_
          refine n_imul (pc := 46) dX1_saving_46 ?_
          refine j_iload (pc := 47) dX1_saving_47 rfl ?_
          refine n_iadd (pc := 49) dX1_saving_49 ?_
          refine m_ld_in (pc := 50) dX1_saving_50 (by omega) ?_
          refine b_if_eq (pc := 51) (tgt := 61) dX1_saving_51 (by decide) (fun h51 => ?_) (fun h51 => ?_)
          · skip
            refine j_iload_n (pc := 61) (i := 3) dX1_saving_61 rfl rfl ?_
            refine j_istore_n (pc := 62) (i := 3) (lv' := [.ref (Y.2.1 0), .int (nI f), .int (nI g), .int (sv (ms Z f) (wq Z f g) (wl Z f g) (ms Z g) c), .int (nI c), .int (nI (pop c 7))]) dX1_saving_62 rfl rfl ⟨(Nat.le_of_ble_eq_true rfl), (Nat.le_of_ble_eq_true rfl)⟩ ?_
            refine j_aload_n (pc := 63) (i := 0) dX1_saving_63 rfl rfl ?_
            refine m_get_quotient (pc := 64) dX1_saving_64 ?_
            refine j_iload (pc := 67) dX1_saving_67 rfl ?_
            refine m_ld_quotient (pc := 69) dX1_saving_69 (by omega) ?_
            refine b_if_eq (pc := 70) (tgt := 80) dX1_saving_70 (by decide) (fun h70 => ?_) (fun h70 => ?_)
            · skip
              refine j_iload_n (pc := 80) (i := 3) dX1_saving_80 rfl rfl ?_
              refine j_istore_n (pc := 81) (i := 3) (lv' := [.ref (Y.2.1 0), .int (nI f), .int (nI g), .int (sv (ms Z f) (wq Z f g) (wl Z f g) (ms Z g) c), .int (nI c), .int (nI (pop c 7))]) dX1_saving_81 rfl rfl ⟨(Nat.le_of_ble_eq_true rfl), (Nat.le_of_ble_eq_true rfl)⟩ ?_
              refine j_aload_n (pc := 82) (i := 0) dX1_saving_82 rfl rfl ?_
              refine m_get_left (pc := 83) dX1_saving_83 ?_
              refine j_iload (pc := 86) dX1_saving_86 rfl ?_
              refine m_ld_left (pc := 88) dX1_saving_88 (by omega) ?_
              refine b_if_eq (pc := 89) (tgt := 99) dX1_saving_89 (by decide) (fun h89 => ?_) (fun h89 => ?_)
              · skip
                refine j_iload_n (pc := 99) (i := 3) dX1_saving_99 rfl rfl ?_
                refine j_istore_n (pc := 100) (i := 3) (lv' := [.ref (Y.2.1 0), .int (nI f), .int (nI g), .int (sv (ms Z f) (wq Z f g) (wl Z f g) (ms Z g) c), .int (nI c), .int (nI (pop c 7))]) dX1_saving_100 rfl rfl ⟨(Nat.le_of_ble_eq_true rfl), (Nat.le_of_ble_eq_true rfl)⟩ ?_
                refine j_aload_n (pc := 101) (i := 0) dX1_saving_101 rfl rfl ?_
                refine m_get_in (pc := 102) dX1_saving_102 ?_
                refine j_sipush (pc := 105) (v := nI 128) dX1_saving_105 (by decide) ?_
                refine j_iload_n (pc := 108) (i := 2) dX1_saving_108 rfl rfl ?_
                refine n_imul (pc := 109) dX1_saving_109 ?_
                refine j_iload (pc := 110) dX1_saving_110 rfl ?_
                refine n_iadd (pc := 112) dX1_saving_112 ?_
                refine m_ld_in (pc := 113) dX1_saving_113 (by omega) ?_
                refine b_if_eq (pc := 114) (tgt := 124) dX1_saving_114 (by decide) (fun h114 => ?_) (fun h114 => ?_)
                · skip
                  refine j_iload_n (pc := 124) (i := 3) dX1_saving_124 rfl rfl ?_
                  refine j_istore_n (pc := 125) (i := 3) (lv' := [.ref (Y.2.1 0), .int (nI f), .int (nI g), .int (sv (ms Z f) (wq Z f g) (wl Z f g) (ms Z g) c), .int (nI c), .int (nI (pop c 7))]) dX1_saving_125 rfl rfl ⟨(Nat.le_of_ble_eq_true rfl), (Nat.le_of_ble_eq_true rfl)⟩ ?_
                  refine n_iinc (pc := 126) (n := 1) (lv' := [.ref (Y.2.1 0), .int (nI f), .int (nI g), .int (sv (ms Z f) (wq Z f g) (wl Z f g) (ms Z g) c), .int (nI (c + 1)), .int (nI (pop c 7))]) dX1_saving_126 rfl rfl (Nat.le_of_ble_eq_true rfl) ?_
                  refine j_goto (pc := 129) (tgt := 22) dX1_saving_129 (by decide) ?_
                  refine j_take 5 (lv' := [.ref (Y.2.1 0), .int (nI f), .int (nI g), .int (sv (ms Z f) (wq Z f g) (wl Z f g) (ms Z g) c), .int (nI (c + 1))]) rfl ?_
                  rw [show sv (ms Z f) (wq Z f g) (wl Z f g) (ms Z g) c = sv (ms Z f) (wq Z f g) (wl Z f g) (ms Z g) (c + 1) by
                    show _ = st2 (ms Z g c) (st2 (wl Z f g c) (st2 (wq Z f g c) (st1 (ms Z f c) (sv (ms Z f) (wq Z f g) (wl Z f g) (ms Z g) c) (nI (pop c 7))) (nI (pop c 7))) (nI (pop c 7))) (nI (pop c 7))
                    rw [← a1, ← a2, ← a3, ← a4, h51, h70, h89, h114]
                    rfl]
                  exact ih
                · skip
                  refine j_iload_n (pc := 117) (i := 3) dX1_saving_117 rfl rfl ?_
                  refine j_iload (pc := 118) dX1_saving_118 rfl ?_
                  refine j_isub (pc := 120) dX1_saving_120 ?_
                  refine j_goto (pc := 121) (tgt := 125) dX1_saving_121 (by decide) ?_
                  refine j_istore_n (pc := 125) (i := 3) (lv' := [.ref (Y.2.1 0), .int (nI f), .int (nI g), .int ((sv (ms Z f) (wq Z f g) (wl Z f g) (ms Z g) c) - (nI (pop c 7))), .int (nI c), .int (nI (pop c 7))]) dX1_saving_125 rfl rfl ⟨(Nat.le_of_ble_eq_true rfl), (Nat.le_of_ble_eq_true rfl)⟩ ?_
                  refine n_iinc (pc := 126) (n := 1) (lv' := [.ref (Y.2.1 0), .int (nI f), .int (nI g), .int ((sv (ms Z f) (wq Z f g) (wl Z f g) (ms Z g) c) - (nI (pop c 7))), .int (nI (c + 1)), .int (nI (pop c 7))]) dX1_saving_126 rfl rfl (Nat.le_of_ble_eq_true rfl) ?_
                  refine j_goto (pc := 129) (tgt := 22) dX1_saving_129 (by decide) ?_
                  refine j_take 5 (lv' := [.ref (Y.2.1 0), .int (nI f), .int (nI g), .int ((sv (ms Z f) (wq Z f g) (wl Z f g) (ms Z g) c) - (nI (pop c 7))), .int (nI (c + 1))]) rfl ?_
                  rw [show (sv (ms Z f) (wq Z f g) (wl Z f g) (ms Z g) c) - (nI (pop c 7)) = sv (ms Z f) (wq Z f g) (wl Z f g) (ms Z g) (c + 1) by
                    show _ = st2 (ms Z g c) (st2 (wl Z f g c) (st2 (wq Z f g c) (st1 (ms Z f c) (sv (ms Z f) (wq Z f g) (wl Z f g) (ms Z g) c) (nI (pop c 7))) (nI (pop c 7))) (nI (pop c 7))) (nI (pop c 7))
                    rw [← a1, ← a2, ← a3, ← a4, h51, h70, h89, h114]
                    rfl]
                  exact ih
              · skip
                refine j_iload_n (pc := 92) (i := 3) dX1_saving_92 rfl rfl ?_
                refine j_iload (pc := 93) dX1_saving_93 rfl ?_
                refine j_isub (pc := 95) dX1_saving_95 ?_
                refine j_goto (pc := 96) (tgt := 100) dX1_saving_96 (by decide) ?_
                refine j_istore_n (pc := 100) (i := 3) (lv' := [.ref (Y.2.1 0), .int (nI f), .int (nI g), .int ((sv (ms Z f) (wq Z f g) (wl Z f g) (ms Z g) c) - (nI (pop c 7))), .int (nI c), .int (nI (pop c 7))]) dX1_saving_100 rfl rfl ⟨(Nat.le_of_ble_eq_true rfl), (Nat.le_of_ble_eq_true rfl)⟩ ?_
                refine j_aload_n (pc := 101) (i := 0) dX1_saving_101 rfl rfl ?_
                refine m_get_in (pc := 102) dX1_saving_102 ?_
                refine j_sipush (pc := 105) (v := nI 128) dX1_saving_105 (by decide) ?_
                refine j_iload_n (pc := 108) (i := 2) dX1_saving_108 rfl rfl ?_
                refine n_imul (pc := 109) dX1_saving_109 ?_
                refine j_iload (pc := 110) dX1_saving_110 rfl ?_
                refine n_iadd (pc := 112) dX1_saving_112 ?_
                refine m_ld_in (pc := 113) dX1_saving_113 (by omega) ?_
                refine b_if_eq (pc := 114) (tgt := 124) dX1_saving_114 (by decide) (fun h114 => ?_) (fun h114 => ?_)
                · skip
                  refine j_iload_n (pc := 124) (i := 3) dX1_saving_124 rfl rfl ?_
                  refine j_istore_n (pc := 125) (i := 3) (lv' := [.ref (Y.2.1 0), .int (nI f), .int (nI g), .int ((sv (ms Z f) (wq Z f g) (wl Z f g) (ms Z g) c) - (nI (pop c 7))), .int (nI c), .int (nI (pop c 7))]) dX1_saving_125 rfl rfl ⟨(Nat.le_of_ble_eq_true rfl), (Nat.le_of_ble_eq_true rfl)⟩ ?_
                  refine n_iinc (pc := 126) (n := 1) (lv' := [.ref (Y.2.1 0), .int (nI f), .int (nI g), .int ((sv (ms Z f) (wq Z f g) (wl Z f g) (ms Z g) c) - (nI (pop c 7))), .int (nI (c + 1)), .int (nI (pop c 7))]) dX1_saving_126 rfl rfl (Nat.le_of_ble_eq_true rfl) ?_
                  refine j_goto (pc := 129) (tgt := 22) dX1_saving_129 (by decide) ?_
                  refine j_take 5 (lv' := [.ref (Y.2.1 0), .int (nI f), .int (nI g), .int ((sv (ms Z f) (wq Z f g) (wl Z f g) (ms Z g) c) - (nI (pop c 7))), .int (nI (c + 1))]) rfl ?_
                  rw [show (sv (ms Z f) (wq Z f g) (wl Z f g) (ms Z g) c) - (nI (pop c 7)) = sv (ms Z f) (wq Z f g) (wl Z f g) (ms Z g) (c + 1) by
                    show _ = st2 (ms Z g c) (st2 (wl Z f g c) (st2 (wq Z f g c) (st1 (ms Z f c) (sv (ms Z f) (wq Z f g) (wl Z f g) (ms Z g) c) (nI (pop c 7))) (nI (pop c 7))) (nI (pop c 7))) (nI (pop c 7))
                    rw [← a1, ← a2, ← a3, ← a4, h51, h70, h89, h114]
                    rfl]
                  exact ih
                · skip
                  refine j_iload_n (pc := 117) (i := 3) dX1_saving_117 rfl rfl ?_
                  refine j_iload (pc := 118) dX1_saving_118 rfl ?_
                  refine j_isub (pc := 120) dX1_saving_120 ?_
                  refine j_goto (pc := 121) (tgt := 125) dX1_saving_121 (by decide) ?_
                  refine j_istore_n (pc := 125) (i := 3) (lv' := [.ref (Y.2.1 0), .int (nI f), .int (nI g), .int (((sv (ms Z f) (wq Z f g) (wl Z f g) (ms Z g) c) - (nI (pop c 7))) - (nI (pop c 7))), .int (nI c), .int (nI (pop c 7))]) dX1_saving_125 rfl rfl ⟨(Nat.le_of_ble_eq_true rfl), (Nat.le_of_ble_eq_true rfl)⟩ ?_
                  refine n_iinc (pc := 126) (n := 1) (lv' := [.ref (Y.2.1 0), .int (nI f), .int (nI g), .int (((sv (ms Z f) (wq Z f g) (wl Z f g) (ms Z g) c) - (nI (pop c 7))) - (nI (pop c 7))), .int (nI (c + 1)), .int (nI (pop c 7))]) dX1_saving_126 rfl rfl (Nat.le_of_ble_eq_true rfl) ?_
                  refine j_goto (pc := 129) (tgt := 22) dX1_saving_129 (by decide) ?_
                  refine j_take 5 (lv' := [.ref (Y.2.1 0), .int (nI f), .int (nI g), .int (((sv (ms Z f) (wq Z f g) (wl Z f g) (ms Z g) c) - (nI (pop c 7))) - (nI (pop c 7))), .int (nI (c + 1))]) rfl ?_
                  rw [show ((sv (ms Z f) (wq Z f g) (wl Z f g) (ms Z g) c) - (nI (pop c 7))) - (nI (pop c 7)) = sv (ms Z f) (wq Z f g) (wl Z f g) (ms Z g) (c + 1) by
                    show _ = st2 (ms Z g c) (st2 (wl Z f g c) (st2 (wq Z f g c) (st1 (ms Z f c) (sv (ms Z f) (wq Z f g) (wl Z f g) (ms Z g) c) (nI (pop c 7))) (nI (pop c 7))) (nI (pop c 7))) (nI (pop c 7))
                    rw [← a1, ← a2, ← a3, ← a4, h51, h70, h89, h114]
                    rfl]
                  exact ih
            · skip
              refine j_iload_n (pc := 73) (i := 3) dX1_saving_73 rfl rfl ?_
              refine j_iload (pc := 74) dX1_saving_74 rfl ?_
              refine j_isub (pc := 76) dX1_saving_76 ?_
              refine j_goto (pc := 77) (tgt := 81) dX1_saving_77 (by decide) ?_
              refine j_istore_n (pc := 81) (i := 3) (lv' := [.ref (Y.2.1 0), .int (nI f), .int (nI g), .int ((sv (ms Z f) (wq Z f g) (wl Z f g) (ms Z g) c) - (nI (pop c 7))), .int (nI c), .int (nI (pop c 7))]) dX1_saving_81 rfl rfl ⟨(Nat.le_of_ble_eq_true rfl), (Nat.le_of_ble_eq_true rfl)⟩ ?_
              refine j_aload_n (pc := 82) (i := 0) dX1_saving_82 rfl rfl ?_
              refine m_get_left (pc := 83) dX1_saving_83 ?_
              refine j_iload (pc := 86) dX1_saving_86 rfl ?_
              refine m_ld_left (pc := 88) dX1_saving_88 (by omega) ?_
              refine b_if_eq (pc := 89) (tgt := 99) dX1_saving_89 (by decide) (fun h89 => ?_) (fun h89 => ?_)
              · skip
                refine j_iload_n (pc := 99) (i := 3) dX1_saving_99 rfl rfl ?_
                refine j_istore_n (pc := 100) (i := 3) (lv' := [.ref (Y.2.1 0), .int (nI f), .int (nI g), .int ((sv (ms Z f) (wq Z f g) (wl Z f g) (ms Z g) c) - (nI (pop c 7))), .int (nI c), .int (nI (pop c 7))]) dX1_saving_100 rfl rfl ⟨(Nat.le_of_ble_eq_true rfl), (Nat.le_of_ble_eq_true rfl)⟩ ?_
                refine j_aload_n (pc := 101) (i := 0) dX1_saving_101 rfl rfl ?_
                refine m_get_in (pc := 102) dX1_saving_102 ?_
                refine j_sipush (pc := 105) (v := nI 128) dX1_saving_105 (by decide) ?_
                refine j_iload_n (pc := 108) (i := 2) dX1_saving_108 rfl rfl ?_
                refine n_imul (pc := 109) dX1_saving_109 ?_
                refine j_iload (pc := 110) dX1_saving_110 rfl ?_
                refine n_iadd (pc := 112) dX1_saving_112 ?_
                refine m_ld_in (pc := 113) dX1_saving_113 (by omega) ?_
                refine b_if_eq (pc := 114) (tgt := 124) dX1_saving_114 (by decide) (fun h114 => ?_) (fun h114 => ?_)
                · skip
                  refine j_iload_n (pc := 124) (i := 3) dX1_saving_124 rfl rfl ?_
                  refine j_istore_n (pc := 125) (i := 3) (lv' := [.ref (Y.2.1 0), .int (nI f), .int (nI g), .int ((sv (ms Z f) (wq Z f g) (wl Z f g) (ms Z g) c) - (nI (pop c 7))), .int (nI c), .int (nI (pop c 7))]) dX1_saving_125 rfl rfl ⟨(Nat.le_of_ble_eq_true rfl), (Nat.le_of_ble_eq_true rfl)⟩ ?_
                  refine n_iinc (pc := 126) (n := 1) (lv' := [.ref (Y.2.1 0), .int (nI f), .int (nI g), .int ((sv (ms Z f) (wq Z f g) (wl Z f g) (ms Z g) c) - (nI (pop c 7))), .int (nI (c + 1)), .int (nI (pop c 7))]) dX1_saving_126 rfl rfl (Nat.le_of_ble_eq_true rfl) ?_
                  refine j_goto (pc := 129) (tgt := 22) dX1_saving_129 (by decide) ?_
                  refine j_take 5 (lv' := [.ref (Y.2.1 0), .int (nI f), .int (nI g), .int ((sv (ms Z f) (wq Z f g) (wl Z f g) (ms Z g) c) - (nI (pop c 7))), .int (nI (c + 1))]) rfl ?_
                  rw [show (sv (ms Z f) (wq Z f g) (wl Z f g) (ms Z g) c) - (nI (pop c 7)) = sv (ms Z f) (wq Z f g) (wl Z f g) (ms Z g) (c + 1) by
                    show _ = st2 (ms Z g c) (st2 (wl Z f g c) (st2 (wq Z f g c) (st1 (ms Z f c) (sv (ms Z f) (wq Z f g) (wl Z f g) (ms Z g) c) (nI (pop c 7))) (nI (pop c 7))) (nI (pop c 7))) (nI (pop c 7))
                    rw [← a1, ← a2, ← a3, ← a4, h51, h70, h89, h114]
                    rfl]
                  exact ih
                · skip
                  refine j_iload_n (pc := 117) (i := 3) dX1_saving_117 rfl rfl ?_
                  refine j_iload (pc := 118) dX1_saving_118 rfl ?_
                  refine j_isub (pc := 120) dX1_saving_120 ?_
                  refine j_goto (pc := 121) (tgt := 125) dX1_saving_121 (by decide) ?_
                  refine j_istore_n (pc := 125) (i := 3) (lv' := [.ref (Y.2.1 0), .int (nI f), .int (nI g), .int (((sv (ms Z f) (wq Z f g) (wl Z f g) (ms Z g) c) - (nI (pop c 7))) - (nI (pop c 7))), .int (nI c), .int (nI (pop c 7))]) dX1_saving_125 rfl rfl ⟨(Nat.le_of_ble_eq_true rfl), (Nat.le_of_ble_eq_true rfl)⟩ ?_
                  refine n_iinc (pc := 126) (n := 1) (lv' := [.ref (Y.2.1 0), .int (nI f), .int (nI g), .int (((sv (ms Z f) (wq Z f g) (wl Z f g) (ms Z g) c) - (nI (pop c 7))) - (nI (pop c 7))), .int (nI (c + 1)), .int (nI (pop c 7))]) dX1_saving_126 rfl rfl (Nat.le_of_ble_eq_true rfl) ?_
                  refine j_goto (pc := 129) (tgt := 22) dX1_saving_129 (by decide) ?_
                  refine j_take 5 (lv' := [.ref (Y.2.1 0), .int (nI f), .int (nI g), .int (((sv (ms Z f) (wq Z f g) (wl Z f g) (ms Z g) c) - (nI (pop c 7))) - (nI (pop c 7))), .int (nI (c + 1))]) rfl ?_
                  rw [show ((sv (ms Z f) (wq Z f g) (wl Z f g) (ms Z g) c) - (nI (pop c 7))) - (nI (pop c 7)) = sv (ms Z f) (wq Z f g) (wl Z f g) (ms Z g) (c + 1) by
                    show _ = st2 (ms Z g c) (st2 (wl Z f g c) (st2 (wq Z f g c) (st1 (ms Z f c) (sv (ms Z f) (wq Z f g) (wl Z f g) (ms Z g) c) (nI (pop c 7))) (nI (pop c 7))) (nI (pop c 7))) (nI (pop c 7))
                    rw [← a1, ← a2, ← a3, ← a4, h51, h70, h89, h114]
                    rfl]
                  exact ih
              · skip
                refine j_iload_n (pc := 92) (i := 3) dX1_saving_92 rfl rfl ?_
                refine j_iload (pc := 93) dX1_saving_93 rfl ?_
                refine j_isub (pc := 95) dX1_saving_95 ?_
                refine j_goto (pc := 96) (tgt := 100) dX1_saving_96 (by decide) ?_
                refine j_istore_n (pc := 100) (i := 3) (lv' := [.ref (Y.2.1 0), .int (nI f), .int (nI g), .int (((sv (ms Z f) (wq Z f g) (wl Z f g) (ms Z g) c) - (nI (pop c 7))) - (nI (pop c 7))), .int (nI c), .int (nI (pop c 7))]) dX1_saving_100 rfl rfl ⟨(Nat.le_of_ble_eq_true rfl), (Nat.le_of_ble_eq_true rfl)⟩ ?_
                refine j_aload_n (pc := 101) (i := 0) dX1_saving_101 rfl rfl ?_
                refine m_get_in (pc := 102) dX1_saving_102 ?_
                refine j_sipush (pc := 105) (v := nI 128) dX1_saving_105 (by decide) ?_
                refine j_iload_n (pc := 108) (i := 2) dX1_saving_108 rfl rfl ?_
                refine n_imul (pc := 109) dX1_saving_109 ?_
                refine j_iload (pc := 110) dX1_saving_110 rfl ?_
                refine n_iadd (pc := 112) dX1_saving_112 ?_
                refine m_ld_in (pc := 113) dX1_saving_113 (by omega) ?_
                refine b_if_eq (pc := 114) (tgt := 124) dX1_saving_114 (by decide) (fun h114 => ?_) (fun h114 => ?_)
                · skip
                  refine j_iload_n (pc := 124) (i := 3) dX1_saving_124 rfl rfl ?_
                  refine j_istore_n (pc := 125) (i := 3) (lv' := [.ref (Y.2.1 0), .int (nI f), .int (nI g), .int (((sv (ms Z f) (wq Z f g) (wl Z f g) (ms Z g) c) - (nI (pop c 7))) - (nI (pop c 7))), .int (nI c), .int (nI (pop c 7))]) dX1_saving_125 rfl rfl ⟨(Nat.le_of_ble_eq_true rfl), (Nat.le_of_ble_eq_true rfl)⟩ ?_
                  refine n_iinc (pc := 126) (n := 1) (lv' := [.ref (Y.2.1 0), .int (nI f), .int (nI g), .int (((sv (ms Z f) (wq Z f g) (wl Z f g) (ms Z g) c) - (nI (pop c 7))) - (nI (pop c 7))), .int (nI (c + 1)), .int (nI (pop c 7))]) dX1_saving_126 rfl rfl (Nat.le_of_ble_eq_true rfl) ?_
                  refine j_goto (pc := 129) (tgt := 22) dX1_saving_129 (by decide) ?_
                  refine j_take 5 (lv' := [.ref (Y.2.1 0), .int (nI f), .int (nI g), .int (((sv (ms Z f) (wq Z f g) (wl Z f g) (ms Z g) c) - (nI (pop c 7))) - (nI (pop c 7))), .int (nI (c + 1))]) rfl ?_
                  rw [show ((sv (ms Z f) (wq Z f g) (wl Z f g) (ms Z g) c) - (nI (pop c 7))) - (nI (pop c 7)) = sv (ms Z f) (wq Z f g) (wl Z f g) (ms Z g) (c + 1) by
                    show _ = st2 (ms Z g c) (st2 (wl Z f g c) (st2 (wq Z f g c) (st1 (ms Z f c) (sv (ms Z f) (wq Z f g) (wl Z f g) (ms Z g) c) (nI (pop c 7))) (nI (pop c 7))) (nI (pop c 7))) (nI (pop c 7))
                    rw [← a1, ← a2, ← a3, ← a4, h51, h70, h89, h114]
                    rfl]
                  exact ih
                · skip
                  refine j_iload_n (pc := 117) (i := 3) dX1_saving_117 rfl rfl ?_
                  refine j_iload (pc := 118) dX1_saving_118 rfl ?_
                  refine j_isub (pc := 120) dX1_saving_120 ?_
                  refine j_goto (pc := 121) (tgt := 125) dX1_saving_121 (by decide) ?_
                  refine j_istore_n (pc := 125) (i := 3) (lv' := [.ref (Y.2.1 0), .int (nI f), .int (nI g), .int ((((sv (ms Z f) (wq Z f g) (wl Z f g) (ms Z g) c) - (nI (pop c 7))) - (nI (pop c 7))) - (nI (pop c 7))), .int (nI c), .int (nI (pop c 7))]) dX1_saving_125 rfl rfl ⟨(Nat.le_of_ble_eq_true rfl), (Nat.le_of_ble_eq_true rfl)⟩ ?_
                  refine n_iinc (pc := 126) (n := 1) (lv' := [.ref (Y.2.1 0), .int (nI f), .int (nI g), .int ((((sv (ms Z f) (wq Z f g) (wl Z f g) (ms Z g) c) - (nI (pop c 7))) - (nI (pop c 7))) - (nI (pop c 7))), .int (nI (c + 1)), .int (nI (pop c 7))]) dX1_saving_126 rfl rfl (Nat.le_of_ble_eq_true rfl) ?_
                  refine j_goto (pc := 129) (tgt := 22) dX1_saving_129 (by decide) ?_
                  refine j_take 5 (lv' := [.ref (Y.2.1 0), .int (nI f), .int (nI g), .int ((((sv (ms Z f) (wq Z f g) (wl Z f g) (ms Z g) c) - (nI (pop c 7))) - (nI (pop c 7))) - (nI (pop c 7))), .int (nI (c + 1))]) rfl ?_
                  rw [show (((sv (ms Z f) (wq Z f g) (wl Z f g) (ms Z g) c) - (nI (pop c 7))) - (nI (pop c 7))) - (nI (pop c 7)) = sv (ms Z f) (wq Z f g) (wl Z f g) (ms Z g) (c + 1) by
                    show _ = st2 (ms Z g c) (st2 (wl Z f g c) (st2 (wq Z f g c) (st1 (ms Z f c) (sv (ms Z f) (wq Z f g) (wl Z f g) (ms Z g) c) (nI (pop c 7))) (nI (pop c 7))) (nI (pop c 7))) (nI (pop c 7))
                    rw [← a1, ← a2, ← a3, ← a4, h51, h70, h89, h114]
                    rfl]
                  exact ih
          · skip
            refine j_iload_n (pc := 54) (i := 3) dX1_saving_54 rfl rfl ?_
            refine j_iload (pc := 55) dX1_saving_55 rfl ?_
            refine j_iadd (pc := 57) dX1_saving_57 ?_
            refine j_goto (pc := 58) (tgt := 62) dX1_saving_58 (by decide) ?_
            refine j_istore_n (pc := 62) (i := 3) (lv' := [.ref (Y.2.1 0), .int (nI f), .int (nI g), .int ((sv (ms Z f) (wq Z f g) (wl Z f g) (ms Z g) c) + (nI (pop c 7))), .int (nI c), .int (nI (pop c 7))]) dX1_saving_62 rfl rfl ⟨(Nat.le_of_ble_eq_true rfl), (Nat.le_of_ble_eq_true rfl)⟩ ?_
            refine j_aload_n (pc := 63) (i := 0) dX1_saving_63 rfl rfl ?_
            refine m_get_quotient (pc := 64) dX1_saving_64 ?_
            refine j_iload (pc := 67) dX1_saving_67 rfl ?_
            refine m_ld_quotient (pc := 69) dX1_saving_69 (by omega) ?_
            refine b_if_eq (pc := 70) (tgt := 80) dX1_saving_70 (by decide) (fun h70 => ?_) (fun h70 => ?_)
            · skip
              refine j_iload_n (pc := 80) (i := 3) dX1_saving_80 rfl rfl ?_
              refine j_istore_n (pc := 81) (i := 3) (lv' := [.ref (Y.2.1 0), .int (nI f), .int (nI g), .int ((sv (ms Z f) (wq Z f g) (wl Z f g) (ms Z g) c) + (nI (pop c 7))), .int (nI c), .int (nI (pop c 7))]) dX1_saving_81 rfl rfl ⟨(Nat.le_of_ble_eq_true rfl), (Nat.le_of_ble_eq_true rfl)⟩ ?_
              refine j_aload_n (pc := 82) (i := 0) dX1_saving_82 rfl rfl ?_
              refine m_get_left (pc := 83) dX1_saving_83 ?_
              refine j_iload (pc := 86) dX1_saving_86 rfl ?_
              refine m_ld_left (pc := 88) dX1_saving_88 (by omega) ?_
              refine b_if_eq (pc := 89) (tgt := 99) dX1_saving_89 (by decide) (fun h89 => ?_) (fun h89 => ?_)
              · skip
                refine j_iload_n (pc := 99) (i := 3) dX1_saving_99 rfl rfl ?_
                refine j_istore_n (pc := 100) (i := 3) (lv' := [.ref (Y.2.1 0), .int (nI f), .int (nI g), .int ((sv (ms Z f) (wq Z f g) (wl Z f g) (ms Z g) c) + (nI (pop c 7))), .int (nI c), .int (nI (pop c 7))]) dX1_saving_100 rfl rfl ⟨(Nat.le_of_ble_eq_true rfl), (Nat.le_of_ble_eq_true rfl)⟩ ?_
                refine j_aload_n (pc := 101) (i := 0) dX1_saving_101 rfl rfl ?_
                refine m_get_in (pc := 102) dX1_saving_102 ?_
                refine j_sipush (pc := 105) (v := nI 128) dX1_saving_105 (by decide) ?_
                refine j_iload_n (pc := 108) (i := 2) dX1_saving_108 rfl rfl ?_
                refine n_imul (pc := 109) dX1_saving_109 ?_
                refine j_iload (pc := 110) dX1_saving_110 rfl ?_
                refine n_iadd (pc := 112) dX1_saving_112 ?_
                refine m_ld_in (pc := 113) dX1_saving_113 (by omega) ?_
                refine b_if_eq (pc := 114) (tgt := 124) dX1_saving_114 (by decide) (fun h114 => ?_) (fun h114 => ?_)
                · skip
                  refine j_iload_n (pc := 124) (i := 3) dX1_saving_124 rfl rfl ?_
                  refine j_istore_n (pc := 125) (i := 3) (lv' := [.ref (Y.2.1 0), .int (nI f), .int (nI g), .int ((sv (ms Z f) (wq Z f g) (wl Z f g) (ms Z g) c) + (nI (pop c 7))), .int (nI c), .int (nI (pop c 7))]) dX1_saving_125 rfl rfl ⟨(Nat.le_of_ble_eq_true rfl), (Nat.le_of_ble_eq_true rfl)⟩ ?_
                  refine n_iinc (pc := 126) (n := 1) (lv' := [.ref (Y.2.1 0), .int (nI f), .int (nI g), .int ((sv (ms Z f) (wq Z f g) (wl Z f g) (ms Z g) c) + (nI (pop c 7))), .int (nI (c + 1)), .int (nI (pop c 7))]) dX1_saving_126 rfl rfl (Nat.le_of_ble_eq_true rfl) ?_
                  refine j_goto (pc := 129) (tgt := 22) dX1_saving_129 (by decide) ?_
                  refine j_take 5 (lv' := [.ref (Y.2.1 0), .int (nI f), .int (nI g), .int ((sv (ms Z f) (wq Z f g) (wl Z f g) (ms Z g) c) + (nI (pop c 7))), .int (nI (c + 1))]) rfl ?_
                  rw [show (sv (ms Z f) (wq Z f g) (wl Z f g) (ms Z g) c) + (nI (pop c 7)) = sv (ms Z f) (wq Z f g) (wl Z f g) (ms Z g) (c + 1) by
                    show _ = st2 (ms Z g c) (st2 (wl Z f g c) (st2 (wq Z f g c) (st1 (ms Z f c) (sv (ms Z f) (wq Z f g) (wl Z f g) (ms Z g) c) (nI (pop c 7))) (nI (pop c 7))) (nI (pop c 7))) (nI (pop c 7))
                    rw [← a1, ← a2, ← a3, ← a4, h51, h70, h89, h114]
                    rfl]
                  exact ih
                · skip
                  refine j_iload_n (pc := 117) (i := 3) dX1_saving_117 rfl rfl ?_
                  refine j_iload (pc := 118) dX1_saving_118 rfl ?_
                  refine j_isub (pc := 120) dX1_saving_120 ?_
                  refine j_goto (pc := 121) (tgt := 125) dX1_saving_121 (by decide) ?_
                  refine j_istore_n (pc := 125) (i := 3) (lv' := [.ref (Y.2.1 0), .int (nI f), .int (nI g), .int (((sv (ms Z f) (wq Z f g) (wl Z f g) (ms Z g) c) + (nI (pop c 7))) - (nI (pop c 7))), .int (nI c), .int (nI (pop c 7))]) dX1_saving_125 rfl rfl ⟨(Nat.le_of_ble_eq_true rfl), (Nat.le_of_ble_eq_true rfl)⟩ ?_
                  refine n_iinc (pc := 126) (n := 1) (lv' := [.ref (Y.2.1 0), .int (nI f), .int (nI g), .int (((sv (ms Z f) (wq Z f g) (wl Z f g) (ms Z g) c) + (nI (pop c 7))) - (nI (pop c 7))), .int (nI (c + 1)), .int (nI (pop c 7))]) dX1_saving_126 rfl rfl (Nat.le_of_ble_eq_true rfl) ?_
                  refine j_goto (pc := 129) (tgt := 22) dX1_saving_129 (by decide) ?_
                  refine j_take 5 (lv' := [.ref (Y.2.1 0), .int (nI f), .int (nI g), .int (((sv (ms Z f) (wq Z f g) (wl Z f g) (ms Z g) c) + (nI (pop c 7))) - (nI (pop c 7))), .int (nI (c + 1))]) rfl ?_
                  rw [show ((sv (ms Z f) (wq Z f g) (wl Z f g) (ms Z g) c) + (nI (pop c 7))) - (nI (pop c 7)) = sv (ms Z f) (wq Z f g) (wl Z f g) (ms Z g) (c + 1) by
                    show _ = st2 (ms Z g c) (st2 (wl Z f g c) (st2 (wq Z f g c) (st1 (ms Z f c) (sv (ms Z f) (wq Z f g) (wl Z f g) (ms Z g) c) (nI (pop c 7))) (nI (pop c 7))) (nI (pop c 7))) (nI (pop c 7))
                    rw [← a1, ← a2, ← a3, ← a4, h51, h70, h89, h114]
                    rfl]
                  exact ih
              · skip
                refine j_iload_n (pc := 92) (i := 3) dX1_saving_92 rfl rfl ?_
                refine j_iload (pc := 93) dX1_saving_93 rfl ?_
                refine j_isub (pc := 95) dX1_saving_95 ?_
                refine j_goto (pc := 96) (tgt := 100) dX1_saving_96 (by decide) ?_
                refine j_istore_n (pc := 100) (i := 3) (lv' := [.ref (Y.2.1 0), .int (nI f), .int (nI g), .int (((sv (ms Z f) (wq Z f g) (wl Z f g) (ms Z g) c) + (nI (pop c 7))) - (nI (pop c 7))), .int (nI c), .int (nI (pop c 7))]) dX1_saving_100 rfl rfl ⟨(Nat.le_of_ble_eq_true rfl), (Nat.le_of_ble_eq_true rfl)⟩ ?_
                refine j_aload_n (pc := 101) (i := 0) dX1_saving_101 rfl rfl ?_
                refine m_get_in (pc := 102) dX1_saving_102 ?_
                refine j_sipush (pc := 105) (v := nI 128) dX1_saving_105 (by decide) ?_
                refine j_iload_n (pc := 108) (i := 2) dX1_saving_108 rfl rfl ?_
                refine n_imul (pc := 109) dX1_saving_109 ?_
                refine j_iload (pc := 110) dX1_saving_110 rfl ?_
                refine n_iadd (pc := 112) dX1_saving_112 ?_
                refine m_ld_in (pc := 113) dX1_saving_113 (by omega) ?_
                refine b_if_eq (pc := 114) (tgt := 124) dX1_saving_114 (by decide) (fun h114 => ?_) (fun h114 => ?_)
                · skip
                  refine j_iload_n (pc := 124) (i := 3) dX1_saving_124 rfl rfl ?_
                  refine j_istore_n (pc := 125) (i := 3) (lv' := [.ref (Y.2.1 0), .int (nI f), .int (nI g), .int (((sv (ms Z f) (wq Z f g) (wl Z f g) (ms Z g) c) + (nI (pop c 7))) - (nI (pop c 7))), .int (nI c), .int (nI (pop c 7))]) dX1_saving_125 rfl rfl ⟨(Nat.le_of_ble_eq_true rfl), (Nat.le_of_ble_eq_true rfl)⟩ ?_
                  refine n_iinc (pc := 126) (n := 1) (lv' := [.ref (Y.2.1 0), .int (nI f), .int (nI g), .int (((sv (ms Z f) (wq Z f g) (wl Z f g) (ms Z g) c) + (nI (pop c 7))) - (nI (pop c 7))), .int (nI (c + 1)), .int (nI (pop c 7))]) dX1_saving_126 rfl rfl (Nat.le_of_ble_eq_true rfl) ?_
                  refine j_goto (pc := 129) (tgt := 22) dX1_saving_129 (by decide) ?_
                  refine j_take 5 (lv' := [.ref (Y.2.1 0), .int (nI f), .int (nI g), .int (((sv (ms Z f) (wq Z f g) (wl Z f g) (ms Z g) c) + (nI (pop c 7))) - (nI (pop c 7))), .int (nI (c + 1))]) rfl ?_
                  rw [show ((sv (ms Z f) (wq Z f g) (wl Z f g) (ms Z g) c) + (nI (pop c 7))) - (nI (pop c 7)) = sv (ms Z f) (wq Z f g) (wl Z f g) (ms Z g) (c + 1) by
                    show _ = st2 (ms Z g c) (st2 (wl Z f g c) (st2 (wq Z f g c) (st1 (ms Z f c) (sv (ms Z f) (wq Z f g) (wl Z f g) (ms Z g) c) (nI (pop c 7))) (nI (pop c 7))) (nI (pop c 7))) (nI (pop c 7))
                    rw [← a1, ← a2, ← a3, ← a4, h51, h70, h89, h114]
                    rfl]
                  exact ih
                · skip
                  refine j_iload_n (pc := 117) (i := 3) dX1_saving_117 rfl rfl ?_
                  refine j_iload (pc := 118) dX1_saving_118 rfl ?_
                  refine j_isub (pc := 120) dX1_saving_120 ?_
                  refine j_goto (pc := 121) (tgt := 125) dX1_saving_121 (by decide) ?_
                  refine j_istore_n (pc := 125) (i := 3) (lv' := [.ref (Y.2.1 0), .int (nI f), .int (nI g), .int ((((sv (ms Z f) (wq Z f g) (wl Z f g) (ms Z g) c) + (nI (pop c 7))) - (nI (pop c 7))) - (nI (pop c 7))), .int (nI c), .int (nI (pop c 7))]) dX1_saving_125 rfl rfl ⟨(Nat.le_of_ble_eq_true rfl), (Nat.le_of_ble_eq_true rfl)⟩ ?_
                  refine n_iinc (pc := 126) (n := 1) (lv' := [.ref (Y.2.1 0), .int (nI f), .int (nI g), .int ((((sv (ms Z f) (wq Z f g) (wl Z f g) (ms Z g) c) + (nI (pop c 7))) - (nI (pop c 7))) - (nI (pop c 7))), .int (nI (c + 1)), .int (nI (pop c 7))]) dX1_saving_126 rfl rfl (Nat.le_of_ble_eq_true rfl) ?_
                  refine j_goto (pc := 129) (tgt := 22) dX1_saving_129 (by decide) ?_
                  refine j_take 5 (lv' := [.ref (Y.2.1 0), .int (nI f), .int (nI g), .int ((((sv (ms Z f) (wq Z f g) (wl Z f g) (ms Z g) c) + (nI (pop c 7))) - (nI (pop c 7))) - (nI (pop c 7))), .int (nI (c + 1))]) rfl ?_
                  rw [show (((sv (ms Z f) (wq Z f g) (wl Z f g) (ms Z g) c) + (nI (pop c 7))) - (nI (pop c 7))) - (nI (pop c 7)) = sv (ms Z f) (wq Z f g) (wl Z f g) (ms Z g) (c + 1) by
                    show _ = st2 (ms Z g c) (st2 (wl Z f g c) (st2 (wq Z f g c) (st1 (ms Z f c) (sv (ms Z f) (wq Z f g) (wl Z f g) (ms Z g) c) (nI (pop c 7))) (nI (pop c 7))) (nI (pop c 7))) (nI (pop c 7))
                    rw [← a1, ← a2, ← a3, ← a4, h51, h70, h89, h114]
                    rfl]
                  exact ih
            · skip
              refine j_iload_n (pc := 73) (i := 3) dX1_saving_73 rfl rfl ?_
              refine j_iload (pc := 74) dX1_saving_74 rfl ?_
              refine j_isub (pc := 76) dX1_saving_76 ?_
              refine j_goto (pc := 77) (tgt := 81) dX1_saving_77 (by decide) ?_
              refine j_istore_n (pc := 81) (i := 3) (lv' := [.ref (Y.2.1 0), .int (nI f), .int (nI g), .int (((sv (ms Z f) (wq Z f g) (wl Z f g) (ms Z g) c) + (nI (pop c 7))) - (nI (pop c 7))), .int (nI c), .int (nI (pop c 7))]) dX1_saving_81 rfl rfl ⟨(Nat.le_of_ble_eq_true rfl), (Nat.le_of_ble_eq_true rfl)⟩ ?_
              refine j_aload_n (pc := 82) (i := 0) dX1_saving_82 rfl rfl ?_
              refine m_get_left (pc := 83) dX1_saving_83 ?_
              refine j_iload (pc := 86) dX1_saving_86 rfl ?_
              refine m_ld_left (pc := 88) dX1_saving_88 (by omega) ?_
              refine b_if_eq (pc := 89) (tgt := 99) dX1_saving_89 (by decide) (fun h89 => ?_) (fun h89 => ?_)
              · skip
                refine j_iload_n (pc := 99) (i := 3) dX1_saving_99 rfl rfl ?_
                refine j_istore_n (pc := 100) (i := 3) (lv' := [.ref (Y.2.1 0), .int (nI f), .int (nI g), .int (((sv (ms Z f) (wq Z f g) (wl Z f g) (ms Z g) c) + (nI (pop c 7))) - (nI (pop c 7))), .int (nI c), .int (nI (pop c 7))]) dX1_saving_100 rfl rfl ⟨(Nat.le_of_ble_eq_true rfl), (Nat.le_of_ble_eq_true rfl)⟩ ?_
                refine j_aload_n (pc := 101) (i := 0) dX1_saving_101 rfl rfl ?_
                refine m_get_in (pc := 102) dX1_saving_102 ?_
                refine j_sipush (pc := 105) (v := nI 128) dX1_saving_105 (by decide) ?_
                refine j_iload_n (pc := 108) (i := 2) dX1_saving_108 rfl rfl ?_
                refine n_imul (pc := 109) dX1_saving_109 ?_
                refine j_iload (pc := 110) dX1_saving_110 rfl ?_
                refine n_iadd (pc := 112) dX1_saving_112 ?_
                refine m_ld_in (pc := 113) dX1_saving_113 (by omega) ?_
                refine b_if_eq (pc := 114) (tgt := 124) dX1_saving_114 (by decide) (fun h114 => ?_) (fun h114 => ?_)
                · skip
                  refine j_iload_n (pc := 124) (i := 3) dX1_saving_124 rfl rfl ?_
                  refine j_istore_n (pc := 125) (i := 3) (lv' := [.ref (Y.2.1 0), .int (nI f), .int (nI g), .int (((sv (ms Z f) (wq Z f g) (wl Z f g) (ms Z g) c) + (nI (pop c 7))) - (nI (pop c 7))), .int (nI c), .int (nI (pop c 7))]) dX1_saving_125 rfl rfl ⟨(Nat.le_of_ble_eq_true rfl), (Nat.le_of_ble_eq_true rfl)⟩ ?_
                  refine n_iinc (pc := 126) (n := 1) (lv' := [.ref (Y.2.1 0), .int (nI f), .int (nI g), .int (((sv (ms Z f) (wq Z f g) (wl Z f g) (ms Z g) c) + (nI (pop c 7))) - (nI (pop c 7))), .int (nI (c + 1)), .int (nI (pop c 7))]) dX1_saving_126 rfl rfl (Nat.le_of_ble_eq_true rfl) ?_
                  refine j_goto (pc := 129) (tgt := 22) dX1_saving_129 (by decide) ?_
                  refine j_take 5 (lv' := [.ref (Y.2.1 0), .int (nI f), .int (nI g), .int (((sv (ms Z f) (wq Z f g) (wl Z f g) (ms Z g) c) + (nI (pop c 7))) - (nI (pop c 7))), .int (nI (c + 1))]) rfl ?_
                  rw [show ((sv (ms Z f) (wq Z f g) (wl Z f g) (ms Z g) c) + (nI (pop c 7))) - (nI (pop c 7)) = sv (ms Z f) (wq Z f g) (wl Z f g) (ms Z g) (c + 1) by
                    show _ = st2 (ms Z g c) (st2 (wl Z f g c) (st2 (wq Z f g c) (st1 (ms Z f c) (sv (ms Z f) (wq Z f g) (wl Z f g) (ms Z g) c) (nI (pop c 7))) (nI (pop c 7))) (nI (pop c 7))) (nI (pop c 7))
                    rw [← a1, ← a2, ← a3, ← a4, h51, h70, h89, h114]
                    rfl]
                  exact ih
                · skip
                  refine j_iload_n (pc := 117) (i := 3) dX1_saving_117 rfl rfl ?_
                  refine j_iload (pc := 118) dX1_saving_118 rfl ?_
                  refine j_isub (pc := 120) dX1_saving_120 ?_
                  refine j_goto (pc := 121) (tgt := 125) dX1_saving_121 (by decide) ?_
                  refine j_istore_n (pc := 125) (i := 3) (lv' := [.ref (Y.2.1 0), .int (nI f), .int (nI g), .int ((((sv (ms Z f) (wq Z f g) (wl Z f g) (ms Z g) c) + (nI (pop c 7))) - (nI (pop c 7))) - (nI (pop c 7))), .int (nI c), .int (nI (pop c 7))]) dX1_saving_125 rfl rfl ⟨(Nat.le_of_ble_eq_true rfl), (Nat.le_of_ble_eq_true rfl)⟩ ?_
                  refine n_iinc (pc := 126) (n := 1) (lv' := [.ref (Y.2.1 0), .int (nI f), .int (nI g), .int ((((sv (ms Z f) (wq Z f g) (wl Z f g) (ms Z g) c) + (nI (pop c 7))) - (nI (pop c 7))) - (nI (pop c 7))), .int (nI (c + 1)), .int (nI (pop c 7))]) dX1_saving_126 rfl rfl (Nat.le_of_ble_eq_true rfl) ?_
                  refine j_goto (pc := 129) (tgt := 22) dX1_saving_129 (by decide) ?_
                  refine j_take 5 (lv' := [.ref (Y.2.1 0), .int (nI f), .int (nI g), .int ((((sv (ms Z f) (wq Z f g) (wl Z f g) (ms Z g) c) + (nI (pop c 7))) - (nI (pop c 7))) - (nI (pop c 7))), .int (nI (c + 1))]) rfl ?_
                  rw [show (((sv (ms Z f) (wq Z f g) (wl Z f g) (ms Z g) c) + (nI (pop c 7))) - (nI (pop c 7))) - (nI (pop c 7)) = sv (ms Z f) (wq Z f g) (wl Z f g) (ms Z g) (c + 1) by
                    show _ = st2 (ms Z g c) (st2 (wl Z f g c) (st2 (wq Z f g c) (st1 (ms Z f c) (sv (ms Z f) (wq Z f g) (wl Z f g) (ms Z g) c) (nI (pop c 7))) (nI (pop c 7))) (nI (pop c 7))) (nI (pop c 7))
                    rw [← a1, ← a2, ← a3, ← a4, h51, h70, h89, h114]
                    rfl]
                  exact ih
              · skip
                refine j_iload_n (pc := 92) (i := 3) dX1_saving_92 rfl rfl ?_
                refine j_iload (pc := 93) dX1_saving_93 rfl ?_
                refine j_isub (pc := 95) dX1_saving_95 ?_
                refine j_goto (pc := 96) (tgt := 100) dX1_saving_96 (by decide) ?_
                refine j_istore_n (pc := 100) (i := 3) (lv' := [.ref (Y.2.1 0), .int (nI f), .int (nI g), .int ((((sv (ms Z f) (wq Z f g) (wl Z f g) (ms Z g) c) + (nI (pop c 7))) - (nI (pop c 7))) - (nI (pop c 7))), .int (nI c), .int (nI (pop c 7))]) dX1_saving_100 rfl rfl ⟨(Nat.le_of_ble_eq_true rfl), (Nat.le_of_ble_eq_true rfl)⟩ ?_
                refine j_aload_n (pc := 101) (i := 0) dX1_saving_101 rfl rfl ?_
                refine m_get_in (pc := 102) dX1_saving_102 ?_
                refine j_sipush (pc := 105) (v := nI 128) dX1_saving_105 (by decide) ?_
                refine j_iload_n (pc := 108) (i := 2) dX1_saving_108 rfl rfl ?_
                refine n_imul (pc := 109) dX1_saving_109 ?_
                refine j_iload (pc := 110) dX1_saving_110 rfl ?_
                refine n_iadd (pc := 112) dX1_saving_112 ?_
                refine m_ld_in (pc := 113) dX1_saving_113 (by omega) ?_
                refine b_if_eq (pc := 114) (tgt := 124) dX1_saving_114 (by decide) (fun h114 => ?_) (fun h114 => ?_)
                · skip
                  refine j_iload_n (pc := 124) (i := 3) dX1_saving_124 rfl rfl ?_
                  refine j_istore_n (pc := 125) (i := 3) (lv' := [.ref (Y.2.1 0), .int (nI f), .int (nI g), .int ((((sv (ms Z f) (wq Z f g) (wl Z f g) (ms Z g) c) + (nI (pop c 7))) - (nI (pop c 7))) - (nI (pop c 7))), .int (nI c), .int (nI (pop c 7))]) dX1_saving_125 rfl rfl ⟨(Nat.le_of_ble_eq_true rfl), (Nat.le_of_ble_eq_true rfl)⟩ ?_
                  refine n_iinc (pc := 126) (n := 1) (lv' := [.ref (Y.2.1 0), .int (nI f), .int (nI g), .int ((((sv (ms Z f) (wq Z f g) (wl Z f g) (ms Z g) c) + (nI (pop c 7))) - (nI (pop c 7))) - (nI (pop c 7))), .int (nI (c + 1)), .int (nI (pop c 7))]) dX1_saving_126 rfl rfl (Nat.le_of_ble_eq_true rfl) ?_
                  refine j_goto (pc := 129) (tgt := 22) dX1_saving_129 (by decide) ?_
                  refine j_take 5 (lv' := [.ref (Y.2.1 0), .int (nI f), .int (nI g), .int ((((sv (ms Z f) (wq Z f g) (wl Z f g) (ms Z g) c) + (nI (pop c 7))) - (nI (pop c 7))) - (nI (pop c 7))), .int (nI (c + 1))]) rfl ?_
                  rw [show (((sv (ms Z f) (wq Z f g) (wl Z f g) (ms Z g) c) + (nI (pop c 7))) - (nI (pop c 7))) - (nI (pop c 7)) = sv (ms Z f) (wq Z f g) (wl Z f g) (ms Z g) (c + 1) by
                    show _ = st2 (ms Z g c) (st2 (wl Z f g c) (st2 (wq Z f g c) (st1 (ms Z f c) (sv (ms Z f) (wq Z f g) (wl Z f g) (ms Z g) c) (nI (pop c 7))) (nI (pop c 7))) (nI (pop c 7))) (nI (pop c 7))
                    rw [← a1, ← a2, ← a3, ← a4, h51, h70, h89, h114]
                    rfl]
                  exact ih
                · skip
                  refine j_iload_n (pc := 117) (i := 3) dX1_saving_117 rfl rfl ?_
                  refine j_iload (pc := 118) dX1_saving_118 rfl ?_
                  refine j_isub (pc := 120) dX1_saving_120 ?_
                  refine j_goto (pc := 121) (tgt := 125) dX1_saving_121 (by decide) ?_
                  refine j_istore_n (pc := 125) (i := 3) (lv' := [.ref (Y.2.1 0), .int (nI f), .int (nI g), .int (((((sv (ms Z f) (wq Z f g) (wl Z f g) (ms Z g) c) + (nI (pop c 7))) - (nI (pop c 7))) - (nI (pop c 7))) - (nI (pop c 7))), .int (nI c), .int (nI (pop c 7))]) dX1_saving_125 rfl rfl ⟨(Nat.le_of_ble_eq_true rfl), (Nat.le_of_ble_eq_true rfl)⟩ ?_
                  refine n_iinc (pc := 126) (n := 1) (lv' := [.ref (Y.2.1 0), .int (nI f), .int (nI g), .int (((((sv (ms Z f) (wq Z f g) (wl Z f g) (ms Z g) c) + (nI (pop c 7))) - (nI (pop c 7))) - (nI (pop c 7))) - (nI (pop c 7))), .int (nI (c + 1)), .int (nI (pop c 7))]) dX1_saving_126 rfl rfl (Nat.le_of_ble_eq_true rfl) ?_
                  refine j_goto (pc := 129) (tgt := 22) dX1_saving_129 (by decide) ?_
                  refine j_take 5 (lv' := [.ref (Y.2.1 0), .int (nI f), .int (nI g), .int (((((sv (ms Z f) (wq Z f g) (wl Z f g) (ms Z g) c) + (nI (pop c 7))) - (nI (pop c 7))) - (nI (pop c 7))) - (nI (pop c 7))), .int (nI (c + 1))]) rfl ?_
                  rw [show ((((sv (ms Z f) (wq Z f g) (wl Z f g) (ms Z g) c) + (nI (pop c 7))) - (nI (pop c 7))) - (nI (pop c 7))) - (nI (pop c 7)) = sv (ms Z f) (wq Z f g) (wl Z f g) (ms Z g) (c + 1) by
                    show _ = st2 (ms Z g c) (st2 (wl Z f g c) (st2 (wq Z f g c) (st1 (ms Z f c) (sv (ms Z f) (wq Z f g) (wl Z f g) (ms Z g) c) (nI (pop c 7))) (nI (pop c 7))) (nI (pop c 7))) (nI (pop c 7))
                    rw [← a1, ← a2, ← a3, ← a4, h51, h70, h89, h114]
                    rfl]
                  exact ih
    exact loop 0 (Nat.zero_le _)
  · skip
    skip
    refine n_if_ne (pc := 6) (tgt := 11) dX1_saving_6 (by decide) (by decide) (fun h => absurd h (by decide)) (fun _ => ?_)
    refine j_iconst (pc := 9) (v := -1) dX1_saving_9 (by decide) ?_
    exact ret _ _ _ _ dX1_saving_10 rfl ⟨rfl, Or.inl ⟨rfl, hbd⟩⟩
end
section
/-! plain: counting and summing over sets; the desk's rows against the reference's sets -/
def wsum (w : Nat → Nat) (q : Nat → Bool) : Nat → Nat
  | 0 => 0
  | c + 1 => if q c then wsum w q c + w c else wsum w q c
theorem cntB_ws (q : Nat → Bool) : ∀ n, cntB q n = wsum (fun _ => 1) q n
  | 0 => rfl
  | n + 1 => by
    unfold cntB wsum
    rw [cntB_ws q n]
theorem wsum_0 {w : Nat → Nat} {q : Nat → Bool} : ∀ n, (∀ x, x < n → q x = false) → wsum w q n = 0
  | 0, _ => rfl
  | n + 1, h => by
    unfold wsum
    rw [h n (by omega), wsum_0 n (fun x hx => h x (by omega))]
    rfl
theorem wsum_congr {w : Nat → Nat} {q q' : Nat → Bool} : ∀ n, (∀ x, x < n → q x = q' x) → wsum w q n = wsum w q' n
  | 0, _ => rfl
  | n + 1, h => by
    unfold wsum
    rw [h n (by omega), wsum_congr n (fun x hx => h x (by omega))]
theorem wsum_ins {w : Nat → Nat} {q : Nat → Bool} {v : Nat} (hv : q v = true) : ∀ n, wsum w q n = wsum w (fun x => q x && !decide (x = v)) n + (if v < n then w v else 0)
  | 0 => by simp [wsum]
  | n + 1 => by
    unfold wsum
    rw [wsum_ins hv n]
    by_cases e : n = v
    · subst e
      simp [hv]
    · rw [decide_eq_false e]
      simp only [Bool.not_false, Bool.and_true]
      by_cases z : v < n
      · rw [if_pos z, if_pos (show v < n + 1 by omega)]
        split <;> omega
      · rw [if_neg z, if_neg (show ¬ v < n + 1 by omega)]
        split <;> omega
theorem wsum_list {w : Nat → Nat} {N : Nat} : ∀ {L : List Nat} {q : Nat → Bool}, L.Nodup → (∀ x ∈ L, x < N) → (∀ x, x < N → (q x = true ↔ x ∈ L)) → wsum w q N = (L.map w).sum
  | [], q, _, _, hq => by
    rw [wsum_0 N (fun x hx => ?_)]
    · rfl
    · cases e : q x with
      | false => rfl
      | true => exact absurd ((hq x hx).mp e) List.not_mem_nil
  | v :: t, q, hn, hl, hq => by
    have hv : v < N := hl v List.mem_cons_self
    have hn2 := List.nodup_cons.mp hn
    rw [wsum_ins ((hq v hv).mpr List.mem_cons_self) N, if_pos hv, wsum_list (L := t) hn2.2 (fun x hx => hl x (List.mem_cons_of_mem _ hx)) (fun x hx => ?_)]
    · rw [List.map_cons, List.sum_cons]; omega
    · rw [Bool.and_eq_true, hq x hx, List.mem_cons]
      constructor
      · rintro ⟨h1 | h1, h2⟩
        · rw [decide_eq_true h1] at h2; cases h2
        · exact h1
      · intro h
        refine ⟨Or.inr h, ?_⟩
        rw [decide_eq_false (fun z => hn2.1 (by rw [← z]; exact h))]
        rfl
theorem cntB_list {N : Nat} {L : List Nat} {q : Nat → Bool} (hn : L.Nodup) (hl : ∀ x ∈ L, x < N) (hq : ∀ x, x < N → (q x = true ↔ x ∈ L)) : cntB q N = L.length := by
  rw [cntB_ws, wsum_list hn hl hq]
  clear hn hl hq
  induction L with
  | nil => rfl
  | cons a t ih => rw [List.map_cons, List.sum_cons, ih, List.length_cons]; omega
/-- rows as lists -/
theorem row_mem {X : Nat → Nat → Nat} {e x : Nat} : x ∈ row X e ↔ mg (gr X e) (X 1 e) x := by
  unfold row mg
  rw [List.mem_map]
  constructor
  · rintro ⟨i, h1, h2⟩
    exact ⟨i, List.mem_range.mp h1, h2⟩
  · rintro ⟨i, h1, h2⟩
    exact ⟨i, List.mem_range.mpr h1, h2⟩
theorem filt_nodup {g : Nat → Nat} {n : Nat} (p : Nat → Bool) (h : ∀ i j, i < j → j < n → p i = true → p j = true → g i ≠ g j) : (((List.range n).filter p).map g).Nodup := by
  unfold List.Nodup
  rw [List.pairwise_map]
  refine List.Pairwise.imp_of_mem ?_ (List.Pairwise.filter p (List.pairwise_lt_range (n := n)))
  intro a b ha hb hab
  have h1 := List.mem_filter.mp ha
  have h2 := List.mem_filter.mp hb
  exact h a b hab (List.mem_range.mp h2.1) h1.2 h2.2
theorem row_nodup {X : Nat → Nat → Nat} {e : Nat} (h : sg (gr X e) (X 1 e)) : (row X e).Nodup := by
  have := filt_nodup (g := gr X e) (n := X 1 e) (fun _ => true) (fun i j hij hj _ _ => Nat.ne_of_lt (h i j hij hj))
  rw [List.filter_eq_self.mpr (fun _ _ => rfl)] at this
  exact this
theorem lts_sum (g : Nat → Nat) : ∀ n, lts g n = ((List.range n).map (fun i => pop (g i) 8)).sum
  | 0 => rfl
  | n + 1 => by
    unfold lts
    rw [lts_sum g n, List.range_succ, List.map_append, List.sum_append]
    simp
/-- the desk's state against the reference's -/
def Rel (X : Nat → Nat → Nat) (Z : Nat → Nat → Bool) : Prop := Good X ∧ ∀ e, e < 4 → ∀ c, c < 128 → (ms Z e c = true ↔ mg (gr X e) (X 1 e) c)
theorem Rel.of {X X' : Nat → Nat → Nat} {Z Z' : Nat → Nat → Bool} (h : Rel X Z) (h1 : X' 1 = X 1) (h2 : X' 2 = X 2) (h0 : Z' 0 = Z 0) : Rel X' Z' := by
  refine ⟨h.1.of h1 h2, fun e he c hc => ?_⟩
  rw [ms_of h0, h.2 e he c hc]
  unfold gr
  rw [h1, h2]
theorem Rel.cnt {X : Nat → Nat → Nat} {Z : Nat → Nat → Bool} (h : Rel X Z) {e : Nat} (he : e < 4) : cntB (ms Z e) 128 = X 1 e := by
  have hg := h.1 e he
  rw [cntB_list (row_nodup hg.2.2) (fun x hx => ?_) (fun x hx => ?_)]
  · unfold row; simp
  · obtain ⟨i, hi, rfl⟩ := row_mem.mp hx
    exact hg.2.1 i hi
  · rw [row_mem]; exact h.2 e he x hx
/-- how many of the set stand below c -/
theorem Rel.below {X : Nat → Nat → Nat} {Z : Nat → Nat → Bool} (h : Rel X Z) {e : Nat} (he : e < 4) : ∀ c, c ≤ 128 → cntB (ms Z e) c ≤ X 1 e ∧ (∀ i, i < cntB (ms Z e) c → gr X e i < c) ∧ ∀ i, cntB (ms Z e) c ≤ i → i < X 1 e → c ≤ gr X e i
  | 0, _ => ⟨Nat.zero_le _, fun i hi => absurd hi (Nat.not_lt_zero i), fun i _ _ => Nat.zero_le _⟩
  | c + 1, hc => by
    obtain ⟨h1, h2, h3⟩ := Rel.below h he c (by omega)
    have hg := h.1 e he
    have hm := h.2 e he c (by omega)
    cases q : ms Z e c with
    | true =>
      obtain ⟨i, hi, ei⟩ := hm.mp q
      have hk : i = cntB (ms Z e) c := by
        rcases Nat.lt_trichotomy i (cntB (ms Z e) c) with z | z | z
        · have := h2 i z; omega
        · exact z
        · have z1 := h3 _ (Nat.le_refl _) (by omega)
          have z2 := hg.2.2 _ i z hi
          omega
      have ec : cntB (ms Z e) (c + 1) = cntB (ms Z e) c + 1 := by
        show (if ms Z e c then cntB (ms Z e) c + 1 else cntB (ms Z e) c) = _
        rw [q]; rfl
      rw [ec]
      refine ⟨by omega, fun j hj => ?_, fun j hj hj2 => ?_⟩
      · rcases Nat.lt_or_ge j (cntB (ms Z e) c) with z | z
        · have := h2 j z; omega
        · rw [show j = i by omega, ei]; omega
      · have := hg.2.2 i j (by omega) hj2
        omega
    | false =>
      have ec : cntB (ms Z e) (c + 1) = cntB (ms Z e) c := by
        show (if ms Z e c then cntB (ms Z e) c + 1 else cntB (ms Z e) c) = _
        rw [q]; rfl
      rw [ec]
      refine ⟨h1, fun j hj => by have := h2 j hj; omega, fun j hj hj2 => ?_⟩
      have z1 := h3 j hj hj2
      have z2 : gr X e j ≠ c := fun z => by rw [hm.mpr ⟨j, hj2, z⟩] at q; cases q
      omega
theorem Rel.at {X : Nat → Nat → Nat} {Z : Nat → Nat → Bool} (h : Rel X Z) {e i : Nat} (he : e < 4) (hi : i < X 1 e) : cntB (ms Z e) (gr X e i) = i := by
  have hg := h.1 e he
  obtain ⟨h1, h2, h3⟩ := h.below he (gr X e i) (Nat.le_of_lt (hg.2.1 i hi))
  rcases Nat.lt_trichotomy (cntB (ms Z e) (gr X e i)) i with z | z | z
  · have z1 := h3 _ (Nat.le_refl _) (by omega)
    have z2 := hg.2.2 _ i z hi
    omega
  · exact z
  · have := h2 i z; omega
/-- bits: a cube with and without the letters of another -/
theorem bl_or {k h : Nat} (hs : sub k h) : nd h k ||| k = h := by
  apply Nat.eq_of_testBit_eq
  intro j
  rw [Nat.testBit_or, nd_testBit]
  cases e : k.testBit j with
  | true => rw [hs j e]; rfl
  | false => simp
theorem bl_and (h k : Nat) : nd h k &&& k = 0 := by
  apply Nat.eq_of_testBit_eq
  intro j
  rw [Nat.testBit_and, nd_testBit, Nat.zero_testBit]
  cases k.testBit j <;> simp
theorem bl_nd {x k : Nat} (hx : x &&& k = 0) : nd (x ||| k) k = x := by
  apply Nat.eq_of_testBit_eq
  intro j
  have h1 : (x &&& k).testBit j = false := by rw [hx, Nat.zero_testBit]
  rw [Nat.testBit_and] at h1
  rw [nd_testBit, Nat.testBit_or]
  cases e : k.testBit j with
  | true =>
    rw [e, Bool.and_true] at h1
    rw [h1]
    rfl
  | false => simp
theorem bl_sub (x k : Nat) : sub k (x ||| k) := fun j hj => by rw [Nat.testBit_or, hj, Bool.or_true]
theorem and0_bit {x k : Nat} : x &&& k = 0 ↔ ∀ j, x.testBit j = true → k.testBit j = false := by
  constructor
  · intro h j hj
    have h1 : (x &&& k).testBit j = false := by rw [h, Nat.zero_testBit]
    rw [Nat.testBit_and, hj, Bool.true_and] at h1
    exact h1
  · intro h
    apply Nat.eq_of_testBit_eq
    intro j
    rw [Nat.testBit_and, Nat.zero_testBit]
    cases e : x.testBit j with
    | false => rfl
    | true => rw [h j e]; rfl
theorem qb_mem {g : Nat → Nat} {c n x : Nat} : x ∈ qb g c n ↔ ∃ i, i < n ∧ sub c (g i) ∧ nd (g i) c = x := by
  unfold qb
  rw [List.mem_map]
  constructor
  · rintro ⟨i, h1, h2⟩
    have h3 := List.mem_filter.mp h1
    exact ⟨i, List.mem_range.mp h3.1, nd_sub.mp (of_decide_eq_true h3.2), h2⟩
  · rintro ⟨i, h1, h2, h3⟩
    exact ⟨i, List.mem_filter.mpr ⟨List.mem_range.mpr h1, decide_eq_true (nd_sub.mpr h2)⟩, h3⟩
theorem qb_nodup {g : Nat → Nat} {c n : Nat} (h : sg g n) : (qb g c n).Nodup := by
  unfold qb
  refine filt_nodup (g := fun i => nd (g i) c) _ (fun i j hij hj hi hj2 e => ?_)
  have h1 := bl_or (nd_sub.mp (of_decide_eq_true hi))
  have h2 := bl_or (nd_sub.mp (of_decide_eq_true hj2))
  have e' : nd (g i) c = nd (g j) c := e
  rw [e', h2] at h1
  have := h i j hij hj
  omega
/-- x is in the quotient of f by c -/
theorem qh_iff {X : Nat → Nat → Nat} {Z : Nat → Nat → Bool} (h : Rel X Z) {f c x : Nat} (hf : f < 4) (hc : c < 128) (hx : x < 128) : qh Z f c x = true ↔ x ∈ qb (gr X f) c (X 1 f) := by
  unfold qh
  rw [Bool.and_eq_true, decide_eq_true_iff, h.2 f hf _ (Nat.or_lt_two_pow (n := 7) hx hc), qb_mem]
  constructor
  · rintro ⟨h1, i, hi, e⟩
    exact ⟨i, hi, by rw [e]; exact bl_sub x c, by rw [e]; exact bl_nd h1⟩
  · rintro ⟨i, hi, h1, e⟩
    refine ⟨by rw [← e]; exact bl_and _ _, i, hi, ?_⟩
    rw [← e]
    exact (bl_or h1).symm
theorem qh_cnt {X : Nat → Nat → Nat} {Z : Nat → Nat → Bool} (h : Rel X Z) {f c : Nat} (hf : f < 4) (hc : c < 128) : cntB (qh Z f c) 128 = (qb (gr X f) c (X 1 f)).length :=
  cntB_list (qb_nodup (h.1 f hf).2.2) (fun x hx => qb_mem_lt (h.1 f hf).2.1 hx) (fun x hx => qh_iff h hf hc hx)
theorem qb_pop {g : Nat → Nat} {c n : Nat} (hn : n ≤ 8) : (qb g c n).length = pop (plc g n c) 8 := by
  have h1 : ∀ k, k ≤ n → (qb g c k).length = pop (plc g n c) k := by
    intro k
    induction k with
    | zero => intro _; rfl
    | succ k ih =>
      intro hk
      have e := ih (by omega)
      show _ = pop (plc g n c) k + ((plc g n c).testBit k).toNat
      by_cases z : nd c (g k) = 0
      · rw [qb_y z, List.length_append, plc_bit.mpr ⟨by omega, nd_sub.mp z⟩, e]
        rfl
      · rw [qb_n z, e]
        cases q : (plc g n c).testBit k with
        | false => rfl
        | true => exact absurd (nd_sub.mpr (plc_bit.mp q).2) z
  have h2 : ∀ k, n ≤ k → pop (plc g n c) k = pop (plc g n c) n := by
    intro k
    induction k with
    | zero => intro hk; rw [show n = 0 by omega]
    | succ k ih =>
      intro hk
      rcases Nat.lt_or_ge k n with z | z
      · rw [show k + 1 = n by omega]
      · show pop (plc g n c) k + ((plc g n c).testBit k).toNat = _
        rw [ih z]
        cases q : (plc g n c).testBit k with
        | false => rfl
        | true => exact absurd (plc_bit.mp q).1 (by omega)
  rw [h1 n (Nat.le_refl _), h2 8 hn]
theorem comB_bit (q : Nat → Bool) (b : Nat) : ∀ n, (comB q n).testBit b = true ↔ b < 7 ∧ ∀ c, c < n → q c = true → c.testBit b = true
  | 0 => by
    unfold comB
    rw [tb127]
    simp
  | n + 1 => by
    have ih := comB_bit q b n
    unfold comB
    cases e : q n with
    | true =>
      rw [if_pos rfl, Nat.testBit_and, Bool.and_eq_true, ih]
      constructor
      · rintro ⟨⟨h1, h2⟩, h3⟩
        refine ⟨h1, fun c hc hq => ?_⟩
        rcases Nat.lt_or_ge c n with z | z
        · exact h2 c z hq
        · rw [show c = n by omega]; exact h3
      · rintro ⟨h1, h2⟩
        exact ⟨⟨h1, fun c hc => h2 c (by omega)⟩, h2 n (by omega) e⟩
    | false =>
      rw [if_neg (by decide), ih]
      constructor
      · rintro ⟨h1, h2⟩
        refine ⟨h1, fun c hc hq => ?_⟩
        rcases Nat.lt_or_ge c n with z | z
        · exact h2 c z hq
        · rw [show c = n by omega, e] at hq; cases hq
      · rintro ⟨h1, h2⟩
        exact ⟨h1, fun c hc => h2 c (by omega)⟩
/-- free quotients are those by closed cubes that two hold -/
theorem fb_iff {X : Nat → Nat → Nat} {Z : Nat → Nat → Bool} (h : Rel X Z) {e c : Nat} (he : e < 4) (hc : c < 128) : fb Z e c = true ↔ Al (gr X e) (X 1 e) c := by
  have hg := h.1 e he
  unfold fb Al
  rw [Bool.and_eq_true, decide_eq_true_iff, decide_eq_true_iff, qh_cnt h he hc, qb_pop hg.1]
  have key : 2 ≤ pop (plc (gr X e) (X 1 e) c) 8 → (comB (qh Z e c) 128 = 0 ↔ cl (gr X e) (X 1 e) c = c) := by
    intro h2
    rw [← qb_pop hg.1] at h2
    obtain ⟨y, hy⟩ : ∃ y, y ∈ qb (gr X e) c (X 1 e) := List.exists_mem_of_length_pos (by omega)
    have e1 : comB (qh Z e c) 128 = nd (cl (gr X e) (X 1 e) c) c := by
      apply sub_eq
      · intro b hb
        rw [comB_bit] at hb
        have hyl := qb_mem_lt hg.2.1 hy
        have hyb := hb.2 y hyl ((qh_iff h he hc hyl).mpr hy)
        obtain ⟨i, hi, h3, h4⟩ := qb_mem.mp hy
        rw [nd_testBit, cl_bit.mpr ⟨hb.1, fun j hj hs => ?_⟩]
        · rw [← h4, nd_testBit, Bool.and_eq_true] at hyb
          rw [hyb.2]
          rfl
        · have hm : nd (gr X e j) c ∈ qb (gr X e) c (X 1 e) := qb_mem.mpr ⟨j, hj, hs, rfl⟩
          have hml := qb_mem_lt hg.2.1 hm
          have := hb.2 _ hml ((qh_iff h he hc hml).mpr hm)
          rw [nd_testBit, Bool.and_eq_true] at this
          exact this.1
      · intro b hb
        rw [nd_testBit, Bool.and_eq_true] at hb
        have hcl := cl_bit.mp hb.1
        rw [comB_bit]
        refine ⟨hcl.1, fun x hx hq => ?_⟩
        obtain ⟨i, hi, h3, h4⟩ := qb_mem.mp ((qh_iff h he hc hx).mp hq)
        rw [← h4, nd_testBit, hcl.2 i hi h3, hb.2]
        rfl
    rw [e1, nd_sub]
    exact ⟨fun z => sub_eq z (cl_ge hc), fun z => by rw [z]; exact sub.rf c⟩
  constructor
  · rintro ⟨a, b⟩
    exact ⟨a, (key a).mp b⟩
  · rintro ⟨a, b⟩
    exact ⟨a, (key a).mpr b⟩
/-- a set within another, with as many members, is it -/
theorem cntB_sub {q q' : Nat → Bool} : ∀ n, (∀ x, x < n → q x = true → q' x = true) → cntB q n ≤ cntB q' n ∧ (cntB q n = cntB q' n → ∀ x, x < n → q x = q' x)
  | 0, _ => ⟨Nat.le_refl _, fun _ x hx => absurd hx (by omega)⟩
  | n + 1, h => by
    obtain ⟨h1, h2⟩ := cntB_sub n (fun x hx => h x (by omega))
    have h3 := h n (by omega)
    have e1 : cntB q (n + 1) = if q n then cntB q n + 1 else cntB q n := rfl
    have e2 : cntB q' (n + 1) = if q' n then cntB q' n + 1 else cntB q' n := rfl
    rw [e1, e2]
    cases a : q n with
    | true =>
      rw [h3 a]
      simp only [if_true]
      refine ⟨by omega, fun z x hx => ?_⟩
      rcases Nat.lt_or_ge x n with y | y
      · exact h2 (by omega) x y
      · rw [show x = n by omega, a, h3 a]
    | false =>
      cases b : q' n with
      | true =>
        simp only [if_true]
        refine ⟨?_, fun z => ?_⟩
        · simp; omega
        · simp at z; omega
      | false =>
        refine ⟨by simpa using h1, fun z x hx => ?_⟩
        rcases Nat.lt_or_ge x n with y | y
        · exact h2 (by simpa using z) x y
        · rw [show x = n by omega, a, b]
theorem sm_iff {X : Nat → Nat → Nat} {Z : Nat → Nat → Bool} (h : Rel X Z) {e c d : Nat} (he : e < 4) (hc : c < 128) (hd : d < 128) (hA : Al (gr X e) (X 1 e) c) : sm Z e c d = true ↔ (Al (gr X e) (X 1 e) d ∧ SK (gr X e) (X 1 e) c d) := by
  have hg := h.1 e he
  unfold sm
  rw [allN_iff]
  constructor
  · intro hs
    have hq : ∀ x, x < 128 → qh Z e c x = qh Z e d x := fun x hx => eq_of_beq (hs x hx)
    have hcnt : cntB (qh Z e c) 128 = cntB (qh Z e d) 128 := by
      rw [cntB_ws, cntB_ws]; exact wsum_congr 128 hq
    have hcom : ∀ n, n ≤ 128 → comB (qh Z e c) n = comB (qh Z e d) n := by
      intro n
      induction n with
      | zero => intro _; rfl
      | succ n ih =>
        intro hn
        show (if qh Z e c n then comB (qh Z e c) n &&& n else comB (qh Z e c) n) = if qh Z e d n then comB (qh Z e d) n &&& n else comB (qh Z e d) n
        rw [ih (by omega), hq n (by omega)]
    refine ⟨(fb_iff h he hd).mp ?_, ?_, fun i hi hsub => ?_⟩
    · have := (fb_iff h he hc).mpr hA
      unfold fb at this ⊢
      rw [← hcnt, ← hcom 128 (Nat.le_refl _)]
      exact this
    · rw [← qb_pop hg.1, ← qb_pop hg.1, ← qh_cnt h he hc, ← qh_cnt h he hd, hcnt]
    · have hm : nd (gr X e i) c ∈ qb (gr X e) c (X 1 e) := qb_mem.mpr ⟨i, hi, hsub, rfl⟩
      have hml := qb_mem_lt hg.2.1 hm
      have h1 := (qh_iff h he hc hml).mpr hm
      rw [hq _ hml] at h1
      unfold qh at h1
      rw [Bool.and_eq_true, decide_eq_true_iff, h.2 e he _ (Nat.or_lt_two_pow (n := 7) hml hd)] at h1
      exact h1
  · rintro ⟨hAd, h1, h2⟩
    have hsub : ∀ x, x < 128 → qh Z e c x = true → qh Z e d x = true := by
      intro x hx hq
      obtain ⟨i, hi, h3, h4⟩ := qb_mem.mp ((qh_iff h he hc hx).mp hq)
      obtain ⟨a1, a2⟩ := h2 i hi h3
      rw [h4] at a1 a2
      unfold qh
      rw [Bool.and_eq_true, decide_eq_true_iff, h.2 e he _ (Nat.or_lt_two_pow (n := 7) hx hd)]
      exact ⟨a1, a2⟩
    have := (cntB_sub 128 hsub).2 (by rw [qh_cnt h he hc, qh_cnt h he hd, qb_pop hg.1, qb_pop hg.1]; exact h1)
    intro x hx
    rw [this x hx]
    exact beq_self_eq_true _
theorem kf_iff {X : Nat → Nat → Nat} {Z : Nat → Nat → Bool} (h : Rel X Z) {e c : Nat} (he : e < 4) (hc : c < 128) : kf Z e c = true ↔ (Al (gr X e) (X 1 e) c ∧ ∀ d, d < c → Al (gr X e) (X 1 e) d → ¬ SK (gr X e) (X 1 e) c d) := by
  unfold kf
  rw [Bool.and_eq_true, fb_iff h he hc, allN_iff]
  constructor
  · rintro ⟨h1, h2⟩
    refine ⟨h1, fun d hd hA hS => ?_⟩
    have := h2 d hd
    rw [(sm_iff h he hc (by omega) h1).mpr ⟨hA, hS⟩] at this
    cases this
  · rintro ⟨h1, h2⟩
    refine ⟨h1, fun d hd => ?_⟩
    cases e2 : sm Z e c d with
    | false => rfl
    | true =>
      obtain ⟨a, b⟩ := (sm_iff h he hc (by omega) h1).mp e2
      exact absurd b (h2 d hd a)
theorem sum_cnt {f : Nat → Nat} {q : Nat → Bool} : ∀ n, (∀ c, c < n → f c = (q c).toNat) → sumN f n = cntB q n
  | 0, _ => rfl
  | n + 1, h => by
    show sumN f n + f n = if q n then cntB q n + 1 else cntB q n
    rw [sum_cnt n (fun c hc => h c (by omega)), h n (by omega)]
    cases q n <;> simp
theorem ind_b {p : Prop} {b : Bool} (h : b = true ↔ p) : ind p = b.toNat := by
  cases e : b with
  | true => rw [ind_t (h.mp e)]; rfl
  | false => rw [ind_f (fun z => by rw [h.mpr z] at e; cases e)]; rfl
end
section
/-! plain: each method of the desk answers as the reference's does, and keeps the relation -/
theorem nj {a b : Nat} (ha : a < 2147483648) (hb : b < 2147483648) (h : nI a = nI b) : a = b := (nI_eq ha hb).mp h
theorem ms_upb {Z : Nat → Nat → Bool} {e k e' c : Nat} {v : Bool} (hk : k < 128) (hc : c < 128) : ms (upb Z 0 (128 * e + k) v) e' c = if e' = e ∧ c = k then v else ms Z e' c := by
  unfold ms
  by_cases q : e' = e ∧ c = k
  · rw [if_pos q, q.1, q.2, upb_s]
  · rw [if_neg q, upb_n]
    intro z
    apply q
    omega
/-- the relation after one expression has changed -/
theorem Rel.one {X X' : Nat → Nat → Nat} {Z Z' : Nat → Nat → Bool} {e : Nat} (h : Rel X Z) (hG : Good X') (hs : ∀ f, f < 4 → f ≠ e → rsame X X' f) (hz : ∀ e' x, e' ≠ e → x < 128 → ms Z' e' x = ms Z e' x) (he : ∀ x, x < 128 → (ms Z' e x = true ↔ mg (gr X' e) (X' 1 e) x)) : Rel X' Z' := by
  refine ⟨hG, fun f hf c hc => ?_⟩
  by_cases q : f = e
  · rw [q]; exact he c hc
  · rw [hz f c q hc, h.2 f hf c hc]
    exact ((hs f hf q).mg c).symm
theorem ag_put {X X' : Nat → Nat → Nat} {Z Z' : Nat → Nat → Bool} {x c r r' : Int32} (h : Rel X Z) (hd : putP X x c r X') (hm : (r' = nI 0 ∧ Z' = Z ∧ ((∀ k, k < 4 → x ≠ nI k) ∨ (∀ k, k < 128 → c ≠ nI k))) ∨ ∃ e k, e < 4 ∧ k < 128 ∧ x = nI e ∧ c = nI k ∧ ((ms Z e k = false ∧ 8 ≤ cntB (ms Z e) 128 ∧ r' = nI 0 ∧ Z' = Z) ∨ ((ms Z e k = true ∨ cntB (ms Z e) 128 < 8) ∧ r' = nI 1 ∧ Z' = upb Z 0 (128 * e + k) true))) : r = r' ∧ Rel X' Z' := by
  rcases hd with ⟨rfl, rfl, hx⟩ | ⟨rfl, rfl, hx⟩ | ⟨e, k, he, hk, rfl, rfl, hd⟩
  · rcases hm with ⟨rfl, rfl, _⟩ | ⟨e, k, he, hk, h1, _⟩
    · exact ⟨rfl, h⟩
    · exact absurd h1 (hx e he)
  · rcases hm with ⟨rfl, rfl, _⟩ | ⟨e, k, he, hk, _, h1, _⟩
    · exact ⟨rfl, h⟩
    · exact absurd h1 (hx k hk)
  · rcases hm with ⟨_, _, h1 | h1⟩ | ⟨e', k', he', hk', h1, h2, hm⟩
    · exact absurd rfl (h1 e he)
    · exact absurd rfl (h1 k hk)
    · have e1 := nj (by omega) (by omega) h1
      have e2 := nj (by omega) (by omega) h2
      subst e1 e2
      have hc := h.cnt he
      rw [hc] at hm
      have hmem := h.2 e he k hk
      rcases hd with ⟨rfl, rfl, i, hi, hik⟩ | ⟨hno, hd⟩
      · have ht := hmem.mpr ⟨i, hi, hik⟩
        rcases hm with ⟨z, _⟩ | ⟨_, rfl, rfl⟩
        · rw [ht] at z; cases z
        · refine ⟨rfl, h.1, fun f hf c hc => ?_⟩
          rw [ms_upb hk hc, ← h.2 f hf c hc]
          by_cases q : f = e ∧ c = k
          · rw [if_pos q, q.1, q.2, ht]
          · rw [if_neg q]
      · have hf : ¬ ms Z e k = true := fun z => by
          obtain ⟨i, hi, hik⟩ := hmem.mp z
          exact hno i hi hik
        rcases hd with ⟨rfl, rfl, h8⟩ | ⟨rfl, h8, hp⟩
        · rcases hm with ⟨_, _, rfl, rfl⟩ | ⟨z | z, _⟩
          · exact ⟨rfl, h⟩
          · exact absurd z hf
          · omega
        · rcases hm with ⟨_, z, _⟩ | ⟨_, rfl, rfl⟩
          · omega
          · obtain ⟨g1, g2, g3, _⟩ := putQ_good h.1 he hk h8 hno hp
            refine ⟨rfl, h.one g1 g3 (fun e' x hne hx => ?_) (fun x hx => ?_)⟩
            · rw [ms_upb hk hx, if_neg (fun z => hne z.1)]
            · rw [ms_upb hk hx, g2 x, ← h.2 e he x hx]
              by_cases q : x = k
              · rw [if_pos ⟨rfl, q⟩]; simp [q]
              · rw [if_neg (fun z => q z.2)]; simp [q]
theorem ag_take {X X' : Nat → Nat → Nat} {Z Z' : Nat → Nat → Bool} {x c r r' : Int32} (h : Rel X Z) (hd : takeP X x c r X') (hm : (r' = nI 0 ∧ Z' = Z ∧ ((∀ k, k < 4 → x ≠ nI k) ∨ (∀ k, k < 128 → c ≠ nI k))) ∨ ∃ e k, e < 4 ∧ k < 128 ∧ x = nI e ∧ c = nI k ∧ ((ms Z e k = false ∧ r' = nI 0 ∧ Z' = Z) ∨ (ms Z e k = true ∧ r' = nI 1 ∧ Z' = upb Z 0 (128 * e + k) false))) : r = r' ∧ Rel X' Z' := by
  rcases hd with ⟨rfl, rfl, hx⟩ | ⟨e, he, rfl, hd⟩
  · rcases hm with ⟨rfl, rfl, _⟩ | ⟨e, k, he, hk, h1, _⟩
    · exact ⟨rfl, h⟩
    · exact absurd h1 (hx e he)
  · have hg := h.1 e he
    rcases hm with ⟨rfl, rfl, h1 | h1⟩ | ⟨e', k, he', hk, h1, rfl, hm⟩
    · exact absurd rfl (h1 e he)
    · rcases hd with ⟨rfl, rfl, _⟩ | ⟨_, i, hi, hik, _⟩
      · exact ⟨rfl, h⟩
      · exact absurd hik.symm (h1 _ (hg.2.1 i hi))
    · have e1 := nj (by omega) (by omega) h1
      subst e1
      have hmem := h.2 e he k hk
      rcases hd with ⟨rfl, rfl, hno⟩ | ⟨rfl, i, hi, hik, hp⟩
      · rcases hm with ⟨_, rfl, rfl⟩ | ⟨z, _⟩
        · exact ⟨rfl, h⟩
        · obtain ⟨i, hi, hik⟩ := hmem.mp z
          exact absurd (congrArg nI hik) (hno i hi)
      · have hlt : X 2 (e * 8 + i) < 128 := hg.2.1 i hi
        have ek : X 2 (e * 8 + i) = k := nj (by omega) (by omega) hik
        have ek2 : gr X e i = k := ek
        rcases hm with ⟨z, _⟩ | ⟨_, rfl, rfl⟩
        · rw [hmem.mpr ⟨i, hi, ek⟩] at z; cases z
        · obtain ⟨g1, g2, g3⟩ := takeQ_good h.1 he hi hp
          refine ⟨rfl, h.one g1 g3 (fun e' x hne hx => ?_) (fun x hx => ?_)⟩
          · rw [ms_upb hk hx, if_neg (fun z => hne z.1)]
          · rw [ms_upb hk hx, g2 x, ek2, ← h.2 e he x hx]
            by_cases q : x = k
            · rw [if_pos ⟨rfl, q⟩]; simp [q]
            · rw [if_neg (fun z => q z.2)]; simp [q]
theorem ag_clear {X X' : Nat → Nat → Nat} {Z Z' : Nat → Nat → Bool} {x r r' : Int32} (h : Rel X Z) (hd : (r = nI 0 ∧ X' = X ∧ ∀ k, k < 4 → x ≠ nI k) ∨ ∃ e, e < 4 ∧ x = nI e ∧ r = nI 1 ∧ X' = up2 X 1 e 0) (hm : (r' = nI 0 ∧ Z' = Z ∧ (∀ k, k < 4 → x ≠ nI k)) ∨ ∃ e, e < 4 ∧ x = nI e ∧ r' = nI 1 ∧ blk Z e 128 (fun _ => false) Z') : r = r' ∧ Rel X' Z' := by
  rcases hd with ⟨rfl, rfl, hx⟩ | ⟨e, he, rfl, rfl, rfl⟩
  · rcases hm with ⟨rfl, rfl, _⟩ | ⟨e, he, h1, _⟩
    · exact ⟨rfl, h⟩
    · exact absurd h1 (hx e he)
  · rcases hm with ⟨_, _, h1⟩ | ⟨e', he', h1, rfl, hb⟩
    · exact absurd rfl (h1 e he)
    · have e1 := nj (by omega) (by omega) h1
      subst e1
      obtain ⟨b1, b2⟩ := blk_ms hb
      have e2 : up2 X 1 e 0 2 = X 2 := up2_k _ _ _ (by decide)
      refine ⟨rfl, h.one (e := e) (fun f hf => ?_) (fun f hf hne => ⟨up2_n _ _ _ hne, fun i _ => by unfold gr; rw [e2]⟩) b2 (fun x hx => ?_)⟩
      · by_cases q : f = e
        · subst q
          rw [up2_s]
          exact ⟨by omega, fun i hi => absurd hi (by omega), fun i j _ hj => absurd hj (by omega)⟩
        · have := h.1 f hf
          rw [up2_n _ _ _ q]
          unfold gr at this ⊢
          rw [e2]
          exact this
      · rw [b1 x hx, up2_s]
        constructor
        · intro z; simp at z
        · rintro ⟨i, hi, _⟩; omega
theorem ag_size {X X' : Nat → Nat → Nat} {Z Z' : Nat → Nat → Bool} {x r r' : Int32} (h : Rel X Z) (hd : X' = X ∧ ((r = -1 ∧ ∀ k, k < 4 → x ≠ nI k) ∨ ∃ e, e < 4 ∧ x = nI e ∧ r = nI (X 1 e))) (hm : Z' = Z ∧ ((r' = -1 ∧ (∀ k, k < 4 → x ≠ nI k)) ∨ ∃ e, e < 4 ∧ x = nI e ∧ r' = nI (cntB (ms Z e) 128))) : r = r' ∧ Rel X' Z' := by
  obtain ⟨rfl, hd⟩ := hd
  obtain ⟨rfl, hm⟩ := hm
  refine ⟨?_, h⟩
  rcases hd with ⟨rfl, hx⟩ | ⟨e, he, rfl, rfl⟩
  · rcases hm with ⟨rfl, _⟩ | ⟨e, he, h1, _⟩
    · rfl
    · exact absurd h1 (hx e he)
  · rcases hm with ⟨_, h1⟩ | ⟨e', he', h1, rfl⟩
    · exact absurd rfl (h1 e he)
    · have e1 := nj (by omega) (by omega) h1
      subst e1
      rw [h.cnt he]
theorem ag_cube {X X' : Nat → Nat → Nat} {Z Z' : Nat → Nat → Bool} {x i r r' : Int32} (h : Rel X Z) (hd : X' = X ∧ ((r = -1 ∧ ∀ k, k < 4 → x ≠ nI k) ∨ ∃ e, e < 4 ∧ x = nI e ∧ ((r = -1 ∧ ∀ k, k < X 1 e → i ≠ nI k) ∨ ∃ k, k < X 1 e ∧ i = nI k ∧ r = nI (X 2 (e * 8 + k))))) (hm : Z' = Z ∧ ((r' = -1 ∧ (∀ k, k < 4 → x ≠ nI k)) ∨ ∃ e, e < 4 ∧ x = nI e ∧ ((r' = -1 ∧ ∀ c, c < 128 → ms Z e c = true → nI (cntB (ms Z e) c) ≠ i) ∨ ∃ c, c < 128 ∧ ms Z e c = true ∧ nI (cntB (ms Z e) c) = i ∧ r' = nI c))) : r = r' ∧ Rel X' Z' := by
  obtain ⟨rfl, hd⟩ := hd
  obtain ⟨rfl, hm⟩ := hm
  refine ⟨?_, h⟩
  rcases hd with ⟨rfl, hx⟩ | ⟨e, he, rfl, hd⟩
  · rcases hm with ⟨rfl, _⟩ | ⟨e, he, h1, _⟩
    · rfl
    · exact absurd h1 (hx e he)
  · rcases hm with ⟨_, h1⟩ | ⟨e', he', h1, hm⟩
    · exact absurd rfl (h1 e he)
    · have e1 := nj (by omega) (by omega) h1
      subst e1
      have hg := h.1 e he
      have h8 := hg.1
      rcases hd with ⟨rfl, hno⟩ | ⟨k, hk, rfl, rfl⟩
      · rcases hm with ⟨rfl, _⟩ | ⟨c, hc, hms, hi, rfl⟩
        · rfl
        · obtain ⟨j, hj, rfl⟩ := (h.2 e he c hc).mp hms
          rw [h.at he hj] at hi
          exact absurd hi.symm (hno j hj)
      · have hlt := hg.2.1 k hk
        rcases hm with ⟨_, hno⟩ | ⟨c, hc, hms, hi, rfl⟩
        · have := hno _ hlt ((h.2 e he _ hlt).mpr ⟨k, hk, rfl⟩)
          rw [h.at he hk] at this
          exact absurd rfl this
        · obtain ⟨j, hj, rfl⟩ := (h.2 e he c hc).mp hms
          rw [h.at he hj] at hi
          have := nj (by omega) (by omega) hi
          rw [this] <;> rfl
/-- storing a set -/
theorem ag_store {X X' : Nat → Nat → Nat} {Z Z' : Nat → Nat → Bool} {e : Nat} {L : List Nat} {q : Nat → Bool} {r r' : Int32} (h : Rel X Z) (he : e < 4) (hd : storeP X e L r X') (hm : stP Z e q r' Z') (hq : ∀ x, x < 128 → (q x = true ↔ x ∈ L)) : r = r' ∧ Rel X' Z' := by
  obtain ⟨d1, rfl, d3, d4⟩ := hd
  obtain ⟨m1, m2, rfl⟩ := hm
  have hR : Rel X' Z' := h.one d1 d4 m2 (fun x hx => by rw [m1 x hx, hq x hx, d3 x])
  refine ⟨?_, hR⟩
  rw [hR.cnt he]
theorem ag_divideBy {X X' : Nat → Nat → Nat} {Z Z' : Nat → Nat → Bool} {x y c r r' : Int32} (h : Rel X Z) (hd : (r = -1 ∧ X' = X ∧ ((∀ k, k < 4 → x ≠ nI k) ∨ (∀ k, k < 4 → y ≠ nI k) ∨ ∀ k, k < 128 → c ≠ nI k)) ∨ ∃ e f k, e < 4 ∧ f < 4 ∧ k < 128 ∧ x = nI e ∧ y = nI f ∧ c = nI k ∧ storeP X e (qb (gr X f) k (X 1 f)) r X') (hm : (r' = -1 ∧ Z' = Z ∧ ((∀ k, k < 4 → x ≠ nI k) ∨ (∀ k, k < 4 → y ≠ nI k) ∨ (∀ k, k < 128 → c ≠ nI k))) ∨ ∃ e f k, e < 4 ∧ f < 4 ∧ k < 128 ∧ x = nI e ∧ y = nI f ∧ c = nI k ∧ stP Z e (qh Z f k) r' Z') : r = r' ∧ Rel X' Z' := by
  rcases hd with ⟨rfl, rfl, hx⟩ | ⟨e, f, k, he, hf, hk, rfl, rfl, rfl, hd⟩
  · rcases hm with ⟨rfl, rfl, _⟩ | ⟨e, f, k, he, hf, hk, h1, h2, h3, _⟩
    · exact ⟨rfl, h⟩
    · rcases hx with hx | hx | hx
      · exact absurd h1 (hx e he)
      · exact absurd h2 (hx f hf)
      · exact absurd h3 (hx k hk)
  · rcases hm with ⟨_, _, h1 | h1 | h1⟩ | ⟨e', f', k', he', hf', hk', h1, h2, h3, hm⟩
    · exact absurd rfl (h1 e he)
    · exact absurd rfl (h1 f hf)
    · exact absurd rfl (h1 k hk)
    · have e1 := nj (by omega) (by omega) h1
      have e2 := nj (by omega) (by omega) h2
      have e3 := nj (by omega) (by omega) h3
      subst e1 e2 e3
      exact ag_store h he hd hm (fun x hx => qh_iff h hf hk hx)
/-- the reference's quotient is the desk's -/
theorem wq_iff {X : Nat → Nat → Nat} {Z : Nat → Nat → Bool} (h : Rel X Z) {f g x : Nat} (hf : f < 4) (hg : g < 4) (h0 : 0 < X 1 g) (hx : x < 128) : wq Z f g x = true ↔ x ∈ qlist X f g := by
  have hgf := h.1 f hf
  have hgg := h.1 g hg
  have key : wq Z f g x = true ↔ ∀ k, k < X 1 g → x &&& gr X g k = 0 ∧ mg (gr X f) (X 1 f) (x ||| gr X g k) := by
    unfold wq
    rw [allN_iff]
    constructor
    · intro hw k hk
      have hlt := hgg.2.1 k hk
      have h1 : (!ms Z g (gr X g k) || qh Z f (gr X g k) x) = true := hw _ hlt
      rw [(h.2 g hg _ hlt).mpr ⟨k, hk, rfl⟩] at h1
      have h2 : qh Z f (gr X g k) x = true := by simpa using h1
      unfold qh at h2
      rw [Bool.and_eq_true, decide_eq_true_iff, h.2 f hf _ (Nat.or_lt_two_pow (n := 7) hx hlt)] at h2
      exact h2
    · intro hw c hc
      show (!ms Z g c || qh Z f c x) = true
      cases q : ms Z g c with
      | false => rfl
      | true =>
        obtain ⟨k, hk, rfl⟩ := (h.2 g hg c hc).mp q
        obtain ⟨a1, a2⟩ := hw k hk
        show (!true || qh Z f (gr X g k) x) = true
        rw [Bool.not_true, Bool.false_or]
        unfold qh
        rw [Bool.and_eq_true, decide_eq_true_iff, h.2 f hf _ (Nat.or_lt_two_pow (n := 7) hx hc)]
        exact ⟨a1, a2⟩
  rw [key]
  unfold qlist
  rw [List.mem_filter]
  unfold qgood
  rw [Bool.and_eq_true, decide_eq_true_iff, allN_iff, and0_bit]
  constructor
  · intro hw
    refine ⟨?_, fun j hj => ?_, fun k hk => ?_⟩
    · obtain ⟨a1, a2⟩ := hw 0 h0
      obtain ⟨i, hi, ei⟩ := a2
      exact qb_mem.mpr ⟨i, hi, by rw [ei]; exact bl_sub x _, by rw [ei]; exact bl_nd a1⟩
    · cases q : (orN (gr X g) (X 1 g)).testBit j with
      | false => rfl
      | true =>
        obtain ⟨k, hk, hb⟩ := (orN_bit _ _ _).mp q
        rw [and0_bit.mp (hw k hk).1 j hj] at hb
        cases hb
    · obtain ⟨i, hi, ei⟩ := (hw k hk).2
      exact anyN_t hi (decide_eq_true ei)
  · rintro ⟨_, h1, h2⟩ k hk
    refine ⟨and0_bit.mpr (fun j hj => ?_), ?_⟩
    · cases q : (gr X g k).testBit j with
      | false => rfl
      | true =>
        have z := h1 j hj
        rw [(orN_bit _ _ _).mpr ⟨k, hk, q⟩] at z
        cases z
    · obtain ⟨i, hi, ei⟩ := anyN_iff.mp (h2 k hk)
      exact ⟨i, hi, of_decide_eq_true ei⟩
end
section
/-! plain: rest, common, free, kernels, holding, saving -/
theorem rmL_mem {X : Nat → Nat → Nat} {f g n x : Nat} {M : List Nat} : x ∈ rmL X f g M n ↔ mg (gr X f) n x ∧ isPrL X g M x = false := by
  unfold rmL mg
  rw [List.mem_map]
  constructor
  · rintro ⟨i, h1, rfl⟩
    have h2 := List.mem_filter.mp h1
    exact ⟨⟨i, List.mem_range.mp h2.1, rfl⟩, by simpa using h2.2⟩
  · rintro ⟨⟨i, hi, rfl⟩, h2⟩
    exact ⟨i, List.mem_filter.mpr ⟨List.mem_range.mpr hi, by simpa using h2⟩, rfl⟩
/-- the reference's rest is the desk's -/
theorem wl_iff {X : Nat → Nat → Nat} {Z : Nat → Nat → Bool} (h : Rel X Z) {f g x : Nat} (hf : f < 4) (hg : g < 4) (h0 : 0 < X 1 g) (hx : x < 128) : wl Z f g x = true ↔ x ∈ rlist X f g := by
  have hgg := h.1 g hg
  have key : anyN (fun c => anyN (wlc Z f g x c) 128) 128 = isPrL X g (qlist X f g) x := by
    rw [Bool.eq_iff_iff]
    unfold isPrL
    rw [anyN_iff, anyN_iff]
    constructor
    · rintro ⟨c, hc, h1⟩
      obtain ⟨y, hy, h2⟩ := anyN_iff.mp h1
      have h2 : (ms Z g c && (wq Z f g y && decide (y ||| c = x))) = true := h2
      rw [Bool.and_eq_true, Bool.and_eq_true, decide_eq_true_iff] at h2
      obtain ⟨a1, a2, a3⟩ := h2
      obtain ⟨k, hk, rfl⟩ := (h.2 g hg c hc).mp a1
      have a4 : x = y ||| gr X g k := a3.symm
      have a5 := a2
      unfold wq at a5
      rw [allN_iff] at a5
      have a6 : (!ms Z g (gr X g k) || qh Z f (gr X g k) y) = true := a5 _ hc
      rw [a1] at a6
      have a7 : qh Z f (gr X g k) y = true := by simpa using a6
      unfold qh at a7
      rw [Bool.and_eq_true, decide_eq_true_iff] at a7
      refine ⟨k, hk, ?_⟩
      rw [Bool.and_eq_true, decide_eq_true_iff, decide_eq_true_iff, a4, bl_nd a7.1]
      exact ⟨nd_sub.mpr (bl_sub y _), (wq_iff h hf hg h0 hy).mp a2⟩
    · rintro ⟨k, hk, h1⟩
      rw [Bool.and_eq_true, decide_eq_true_iff, decide_eq_true_iff] at h1
      obtain ⟨a1, a2⟩ := h1
      have hlt := hgg.2.1 k hk
      have hy : nd x (gr X g k) < 128 := Nat.lt_of_le_of_lt (nd_le _ _) hx
      refine ⟨gr X g k, hlt, anyN_t hy ?_⟩
      show (ms Z g (gr X g k) && (wq Z f g (nd x (gr X g k)) && decide (nd x (gr X g k) ||| gr X g k = x))) = true
      rw [Bool.and_eq_true, Bool.and_eq_true, decide_eq_true_iff]
      exact ⟨(h.2 g hg _ hlt).mpr ⟨k, hk, rfl⟩, (wq_iff h hf hg h0 hy).mpr a2, bl_or (nd_sub.mp a1)⟩
  unfold wl rlist
  rw [rmL_mem, Bool.and_eq_true, h.2 f hf x hx, key]
  simp
theorem ag_div {X X' : Nat → Nat → Nat} {Z Z' : Nat → Nat → Bool} {x y z r r' : Int32} {L : Nat → Nat → List Nat} {q : Nat → Nat → Nat → Bool} (h : Rel X Z) (hq : ∀ f g, f < 4 → g < 4 → 0 < X 1 g → ∀ x, x < 128 → (q f g x = true ↔ x ∈ L f g)) (hd : (r = -1 ∧ X' = X ∧ ((∀ k, k < 4 → x ≠ nI k) ∨ (∀ f g, f < 4 → g < 4 → y = nI f → z = nI g → X 1 g = 0))) ∨ ∃ e f g, e < 4 ∧ f < 4 ∧ g < 4 ∧ x = nI e ∧ y = nI f ∧ z = nI g ∧ 0 < X 1 g ∧ storeP X e (L f g) r X') (hm : (r' = -1 ∧ Z' = Z ∧ ((∀ k, k < 4 → x ≠ nI k) ∨ (∀ f g, f < 4 → g < 4 → y = nI f → z = nI g → cntB (ms Z g) 128 = 0))) ∨ ∃ e f g, e < 4 ∧ f < 4 ∧ g < 4 ∧ x = nI e ∧ y = nI f ∧ z = nI g ∧ 0 < cntB (ms Z g) 128 ∧ stP Z e (q f g) r' Z') : r = r' ∧ Rel X' Z' := by
  rcases hd with ⟨rfl, rfl, hx⟩ | ⟨e, f, g, he, hf, hg, rfl, rfl, rfl, h0, hd⟩
  · rcases hm with ⟨rfl, rfl, _⟩ | ⟨e, f, g, he, hf, hg, h1, h2, h3, h4, _⟩
    · exact ⟨rfl, h⟩
    · rcases hx with hx | hx
      · exact absurd h1 (hx e he)
      · have := hx f g hf hg h2 h3
        rw [h.cnt hg] at h4
        omega
  · rcases hm with ⟨_, _, h1 | h1⟩ | ⟨e', f', g', he', hf', hg', h1, h2, h3, h4, hm⟩
    · exact absurd rfl (h1 e he)
    · have := h1 f g hf hg rfl rfl
      rw [h.cnt hg] at this
      omega
    · have e1 := nj (by omega) (by omega) h1
      have e2 := nj (by omega) (by omega) h2
      have e3 := nj (by omega) (by omega) h3
      subst e1 e2 e3
      exact ag_store h he hd hm (hq f g hf hg h0)
theorem ag_common {X X' : Nat → Nat → Nat} {Z Z' : Nat → Nat → Bool} {x r r' : Int32} (h : Rel X Z) (hd : X' = X ∧ ((r = -1 ∧ (∀ k, k < 4 → x ≠ nI k)) ∨ ∃ e, e < 4 ∧ x = nI e ∧ ((r = -1 ∧ X 1 e = 0) ∨ (0 < X 1 e ∧ r = nI (com (gr X e) 255 (X 1 e)))))) (hm : Z' = Z ∧ ((r' = -1 ∧ (∀ k, k < 4 → x ≠ nI k)) ∨ ∃ e, e < 4 ∧ x = nI e ∧ ((r' = -1 ∧ cntB (ms Z e) 128 = 0) ∨ (cntB (ms Z e) 128 ≠ 0 ∧ r' = nI (comB (ms Z e) 128))))) : r = r' ∧ Rel X' Z' := by
  obtain ⟨rfl, hd⟩ := hd
  obtain ⟨rfl, hm⟩ := hm
  refine ⟨?_, h⟩
  rcases hd with ⟨rfl, hx⟩ | ⟨e, he, rfl, hd⟩
  · rcases hm with ⟨rfl, _⟩ | ⟨e, he, h1, _⟩
    · rfl
    · exact absurd h1 (hx e he)
  · rcases hm with ⟨_, h1⟩ | ⟨e', he', h1, hm⟩
    · exact absurd rfl (h1 e he)
    · have e1 := nj (by omega) (by omega) h1
      subst e1
      rw [h.cnt he] at hm
      rcases hd with ⟨rfl, h2⟩ | ⟨h2, rfl⟩
      · rcases hm with ⟨rfl, _⟩ | ⟨h3, _⟩
        · rfl
        · exact absurd h2 h3
      · rcases hm with ⟨_, h3⟩ | ⟨_, rfl⟩
        · omega
        · have hg := h.1 e he
          congr 1
          apply sub_eq
          · intro b hb
            rw [com_bit] at hb
            rw [comB_bit]
            refine ⟨hb.1, fun c hc hq => ?_⟩
            obtain ⟨i, hi, rfl⟩ := (h.2 e he c hc).mp hq
            exact hb.2 i hi (by rw [tb255]; exact decide_eq_true (by omega))
          · intro b hb
            rw [comB_bit] at hb
            rw [com_bit]
            refine ⟨hb.1, fun i hi _ => ?_⟩
            have hlt := hg.2.1 i hi
            exact hb.2 _ hlt ((h.2 e he _ hlt).mpr ⟨i, hi, rfl⟩)
theorem ag_free {X X' : Nat → Nat → Nat} {Z Z' : Nat → Nat → Bool} {x r r' : Int32} (h : Rel X Z) (hd : X' = X ∧ ((r = nI 0 ∧ (∀ k, k < 4 → x ≠ nI k)) ∨ ∃ e, e < 4 ∧ x = nI e ∧ ((r = nI 1 ∧ 1 < X 1 e ∧ com (gr X e) 255 (X 1 e) = 0) ∨ (r = nI 0 ∧ ¬ (1 < X 1 e ∧ com (gr X e) 255 (X 1 e) = 0))))) (hm : Z' = Z ∧ ((r' = nI 0 ∧ (∀ k, k < 4 → x ≠ nI k)) ∨ ∃ e, e < 4 ∧ x = nI e ∧ r' = nI (fb Z e 0).toNat)) : r = r' ∧ Rel X' Z' := by
  obtain ⟨rfl, hd⟩ := hd
  obtain ⟨rfl, hm⟩ := hm
  refine ⟨?_, h⟩
  rcases hd with ⟨rfl, hx⟩ | ⟨e, he, rfl, hd⟩
  · rcases hm with ⟨rfl, _⟩ | ⟨e, he, h1, _⟩
    · rfl
    · exact absurd h1 (hx e he)
  · rcases hm with ⟨_, h1⟩ | ⟨e', he', h1, rfl⟩
    · exact absurd rfl (h1 e he)
    · have e1 := nj (by omega) (by omega) h1
      subst e1
      have hg := h.1 e he
      have key : fb Z' e 0 = true ↔ (1 < X' 1 e ∧ com (gr X' e) 255 (X' 1 e) = 0) := by
        rw [fb_iff h he (by decide), com255 hg.1]
        constructor
        · rintro ⟨a, b⟩
          exact ⟨Nat.lt_of_lt_of_le a (plc_pop _ _ _), b⟩
        · rintro ⟨a, b⟩
          have := start_Al (g := gr X' e) hg.1 a
          rw [b] at this
          exact this
      rcases hd with ⟨rfl, h2⟩ | ⟨rfl, h2⟩
      · exact (congrArg (fun b : Bool => nI b.toNat) (key.mpr h2)).symm
      · cases q : fb Z' e 0 with
        | false => rfl
        | true => exact absurd (key.mp q) h2
theorem ag_cokernels {X X' : Nat → Nat → Nat} {Z Z' : Nat → Nat → Bool} {x r r' : Int32} {p : Nat → Nat → Prop} {q : Nat → Nat → Bool} (h : Rel X Z) (hp : ∀ e c, e < 4 → c < 128 → (q e c = true ↔ p e c)) (hd : X' 1 = X 1 ∧ X' 2 = X 2 ∧ ((r = -1 ∧ (∀ k, k < 4 → x ≠ nI k)) ∨ ∃ e, e < 4 ∧ x = nI e ∧ r = nI (sumN (fun c => ind (p e c)) 128))) (hm : Z' = Z ∧ ((r' = -1 ∧ (∀ k, k < 4 → x ≠ nI k)) ∨ ∃ e, e < 4 ∧ x = nI e ∧ r' = nI (cntB (q e) 128))) : r = r' ∧ Rel X' Z' := by
  obtain ⟨d1, d2, hd⟩ := hd
  obtain ⟨rfl, hm⟩ := hm
  refine ⟨?_, h.of d1 d2 rfl⟩
  rcases hd with ⟨rfl, hx⟩ | ⟨e, he, rfl, rfl⟩
  · rcases hm with ⟨rfl, _⟩ | ⟨e, he, h1, _⟩
    · rfl
    · exact absurd h1 (hx e he)
  · rcases hm with ⟨_, h1⟩ | ⟨e', he', h1, rfl⟩
    · exact absurd rfl (h1 e he)
    · have e1 := nj (by omega) (by omega) h1
      subst e1
      rw [sum_cnt 128 (q := q e) (fun c hc => ind_b (hp e c he hc))]
theorem ag_next {X X' : Nat → Nat → Nat} {Z Z' : Nat → Nat → Bool} {x w r r' : Int32} (h : Rel X Z) (hd : X' 1 = X 1 ∧ X' 2 = X 2 ∧ ((r = -1 ∧ (∀ k, k < 4 → x ≠ nI k)) ∨ ∃ e, e < 4 ∧ x = nI e ∧ ((r = -1 ∧ ∀ D, D < 128 → Al (gr X e) (X 1 e) D → ¬ w ≤ nI D) ∨ ∃ D, D < 128 ∧ Al (gr X e) (X 1 e) D ∧ w ≤ nI D ∧ r = nI D ∧ ∀ D', D' < D → Al (gr X e) (X 1 e) D' → ¬ w ≤ nI D'))) (hm : Z' = Z ∧ ((r' = -1 ∧ (∀ k, k < 4 → x ≠ nI k)) ∨ ∃ e, e < 4 ∧ x = nI e ∧ ((r' = -1 ∧ ∀ D, D < 128 → fb Z e D = true → nI D < w) ∨ ∃ D, D < 128 ∧ fb Z e D = true ∧ ¬ nI D < w ∧ r' = nI D ∧ ∀ D', D' < D → fb Z e D' = true → nI D' < w))) : r = r' ∧ Rel X' Z' := by
  obtain ⟨d1, d2, hd⟩ := hd
  obtain ⟨rfl, hm⟩ := hm
  refine ⟨?_, h.of d1 d2 rfl⟩
  rcases hd with ⟨rfl, hx⟩ | ⟨e, he, rfl, hd⟩
  · rcases hm with ⟨rfl, _⟩ | ⟨e, he, h1, _⟩
    · rfl
    · exact absurd h1 (hx e he)
  · rcases hm with ⟨_, h1⟩ | ⟨e', he', h1, hm⟩
    · exact absurd rfl (h1 e he)
    · have e1 := nj (by omega) (by omega) h1
      subst e1
      rcases hd with ⟨rfl, hno⟩ | ⟨D, hD, hA, hw, rfl, hl⟩
      · rcases hm with ⟨rfl, _⟩ | ⟨D, hD, hA, hw, _⟩
        · rfl
        · exact absurd (Int32.not_lt.mp hw) (hno D hD ((fb_iff h he hD).mp hA))
      · have hF := (fb_iff h he hD).mpr hA
        rcases hm with ⟨_, hno⟩ | ⟨D2, hD2, hA2, hw2, rfl, hl2⟩
        · exact absurd (hno D hD hF) (Int32.not_lt.mpr hw)
        · rcases Nat.lt_trichotomy D D2 with z | z | z
          · exact absurd (hl2 D z hF) (Int32.not_lt.mpr hw)
          · rw [z]
          · exact absurd (Int32.not_lt.mp hw2) (hl D2 z ((fb_iff h he hD2).mp hA2))
theorem hb_bits {X : Nat → Nat → Nat} {Z : Nat → Nat → Bool} (h : Rel X Z) {e k : Nat} (he : e < 4) : ∀ c, c ≤ 128 → hb (ms Z e) k c = bitsOf (fun i => decide (nd k (gr X e i) = 0)) (cntB (ms Z e) c)
  | 0, _ => rfl
  | c + 1, hc => by
    have ih := hb_bits h (k := k) he c (by omega)
    show (if ms Z e c then (if nd k c = 0 then hb (ms Z e) k c ||| 2 ^ (cntB (ms Z e) c) else hb (ms Z e) k c) else hb (ms Z e) k c) = bitsOf _ (if ms Z e c then cntB (ms Z e) c + 1 else cntB (ms Z e) c)
    cases q : ms Z e c with
    | false => rw [if_neg (by decide), if_neg (by decide)]; exact ih
    | true =>
      rw [if_pos rfl, if_pos rfl]
      obtain ⟨i, hi, ei⟩ := (h.2 e he c (by omega)).mp q
      have e1 : gr X e (cntB (ms Z e) c) = c := by
        have := h.at he hi
        rw [ei] at this
        rw [this, ei]
      show _ = bitsOf _ (cntB (ms Z e) c) ||| (if decide (nd k (gr X e (cntB (ms Z e) c)) = 0) then 2 ^ (cntB (ms Z e) c) else 0)
      rw [e1, ← ih]
      by_cases z : nd k c = 0
      · rw [if_pos z, decide_eq_true z, if_pos rfl]
      · rw [if_neg z, decide_eq_false z, if_neg (by decide), Nat.or_zero]
theorem ag_holding {X X' : Nat → Nat → Nat} {Z Z' : Nat → Nat → Bool} {x c r r' : Int32} (h : Rel X Z) (hd : X' = X ∧ ((r = -1 ∧ ((∀ k, k < 4 → x ≠ nI k) ∨ ∀ k, k < 128 → c ≠ nI k)) ∨ ∃ e k, e < 4 ∧ k < 128 ∧ x = nI e ∧ c = nI k ∧ r = nI (bitsOf (fun i => decide (nd k (gr X e i) = 0)) (X 1 e)))) (hm : Z' = Z ∧ ((r' = -1 ∧ ((∀ k, k < 4 → x ≠ nI k) ∨ (∀ k, k < 128 → c ≠ nI k))) ∨ ∃ e k, e < 4 ∧ k < 128 ∧ x = nI e ∧ c = nI k ∧ r' = nI (hb (ms Z e) k 128))) : r = r' ∧ Rel X' Z' := by
  obtain ⟨rfl, hd⟩ := hd
  obtain ⟨rfl, hm⟩ := hm
  refine ⟨?_, h⟩
  rcases hd with ⟨rfl, hx⟩ | ⟨e, k, he, hk, rfl, rfl, rfl⟩
  · rcases hm with ⟨rfl, _⟩ | ⟨e, k, he, hk, h1, h2, _⟩
    · rfl
    · rcases hx with hx | hx
      · exact absurd h1 (hx e he)
      · exact absurd h2 (hx k hk)
  · rcases hm with ⟨_, h1 | h1⟩ | ⟨e', k', he', hk', h1, h2, rfl⟩
    · exact absurd rfl (h1 e he)
    · exact absurd rfl (h1 k hk)
    · have e1 := nj (by omega) (by omega) h1
      have e2 := nj (by omega) (by omega) h2
      subst e1 e2
      rw [hb_bits h he 128 (Nat.le_refl _), h.cnt he]
/-- sums of letters -/
theorem pop78 {c : Nat} (hc : c < 128) : pop c 8 = pop c 7 := by
  have h : c.testBit 7 = false := Nat.testBit_lt_two_pow (show c < 2 ^ 7 from hc)
  show pop c 7 + (c.testBit 7).toNat = pop c 7
  simp [h]
theorem map_pop {L : List Nat} (h : ∀ x ∈ L, x < 128) : L.map (fun x => pop x 8) = L.map (fun x => pop x 7) := List.map_congr_left (fun x hx => pop78 (h x hx))
theorem st1_n (b : Bool) (s : Int32) (p : Nat) : st1 b s (nI p) = s + nI (if b then p else 0) := by
  cases b
  · show s = s + nI 0
    rw [nI_0]; exact (Int32.add_zero s).symm
  · rfl
theorem st2_n (b : Bool) (s : Int32) (p : Nat) : st2 b s (nI p) = s - nI (if b then p else 0) := by
  cases b
  · show s = s - nI 0
    rw [nI_0]; exact (Int32.sub_zero s).symm
  · rfl
theorem ws_s (w : Nat → Nat) (q : Nat → Bool) (c : Nat) : wsum w q (c + 1) = wsum w q c + (if q c then w c else 0) := by
  show (if q c then wsum w q c + w c else wsum w q c) = _
  cases q c <;> rfl
theorem i32_5 (a b c d x y z t : Int32) : a - (b + c) - d + x - y - z - t = a + x - (b + y + (c + z)) - (d + t) := by grind
theorem sv_ws (qe qq ql qg : Nat → Bool) : ∀ n, sv qe qq ql qg n = nI (wsum (fun c => pop c 7) qe n) - nI (wsum (fun c => pop c 7) qq n + wsum (fun c => pop c 7) ql n) - nI (wsum (fun c => pop c 7) qg n)
  | 0 => by
    show nI 0 = nI 0 - nI (0 + 0) - nI 0
    decide +kernel
  | n + 1 => by
    show st2 (qg n) (st2 (ql n) (st2 (qq n) (st1 (qe n) (sv qe qq ql qg n) (nI (pop n 7))) (nI (pop n 7))) (nI (pop n 7))) (nI (pop n 7)) = _
    rw [sv_ws qe qq ql qg n, st2_n, st2_n, st2_n, st1_n, ws_s, ws_s, ws_s, ws_s]
    simp only [← nI_add]
    exact i32_5 _ _ _ _ _ _ _ _
theorem qlist_nodup {X : Nat → Nat → Nat} (hG : Good X) {f g : Nat} (hf : f < 4) : (qlist X f g).Nodup := List.Pairwise.filter _ (qb_nodup (hG f hf).2.2)
theorem rlist_nodup {X : Nat → Nat → Nat} (hG : Good X) {f g : Nat} (hf : f < 4) : (rlist X f g).Nodup := filt_nodup (g := gr X f) _ (fun i j hij hj _ _ => Nat.ne_of_lt ((hG f hf).2.2 i j hij hj))
theorem row_lt {X : Nat → Nat → Nat} (hG : Good X) {f : Nat} (hf : f < 4) : ∀ x ∈ row X f, x < 128 := fun x hx => by
  obtain ⟨i, hi, rfl⟩ := row_mem.mp hx
  exact (hG f hf).2.1 i hi
theorem lts_ws {X : Nat → Nat → Nat} {Z : Nat → Nat → Bool} (h : Rel X Z) {f : Nat} (hf : f < 4) : lts (gr X f) (X 1 f) = wsum (fun c => pop c 7) (ms Z f) 128 := by
  rw [lts_sum, wsum_list (row_nodup (h.1 f hf).2.2) (row_lt h.1 hf) (fun x hx => by rw [row_mem]; exact h.2 f hf x hx), ← map_pop (row_lt h.1 hf)]
  unfold row
  rw [List.map_map] <;> rfl
theorem ag_saving {X X' : Nat → Nat → Nat} {Z Z' : Nat → Nat → Bool} {x y r r' : Int32} (h : Rel X Z) (hd : X' 1 = X 1 ∧ X' 2 = X 2 ∧ ((r = -1 ∧ ∀ f g, f < 4 → g < 4 → x = nI f → y = nI g → X 1 g = 0) ∨ ∃ f g, f < 4 ∧ g < 4 ∧ x = nI f ∧ y = nI g ∧ 0 < X 1 g ∧ r = nI (lts (gr X f) (X 1 f)) - nI (((qlist X f g).map (fun x => pop x 8)).sum + ((rlist X f g).map (fun x => pop x 8)).sum) - nI (lts (gr X g) (X 1 g)))) (hm : Z' 0 = Z 0 ∧ ((r' = -1 ∧ ∀ f g, f < 4 → g < 4 → x = nI f → y = nI g → cntB (ms Z g) 128 = 0) ∨ ∃ f g, f < 4 ∧ g < 4 ∧ x = nI f ∧ y = nI g ∧ 0 < cntB (ms Z g) 128 ∧ r' = sv (ms Z f) (wq Z f g) (wl Z f g) (ms Z g) 128)) : r = r' ∧ Rel X' Z' := by
  obtain ⟨d1, d2, hd⟩ := hd
  obtain ⟨m0, hm⟩ := hm
  refine ⟨?_, h.of d1 d2 m0⟩
  rcases hd with ⟨rfl, hx⟩ | ⟨f, g, hf, hg, rfl, rfl, h0, rfl⟩
  · rcases hm with ⟨rfl, _⟩ | ⟨f, g, hf, hg, h1, h2, h3, _⟩
    · rfl
    · have := hx f g hf hg h1 h2
      rw [h.cnt hg] at h3
      omega
  · rcases hm with ⟨_, h1⟩ | ⟨f', g', hf', hg', h1, h2, h3, rfl⟩
    · have := h1 f g hf hg rfl rfl
      rw [h.cnt hg] at this
      omega
    · have e1 := nj (by omega) (by omega) h1
      have e2 := nj (by omega) (by omega) h2
      subst e1 e2
      have hr : ∀ x ∈ rlist X f g, x < 128 := fun x hx => rmL_mem_lt (h.1 f hf).2.1 hx
      rw [sv_ws, lts_ws h hf, lts_ws h hg, map_pop (qlist_lt h.1 hf), map_pop hr, wsum_list (qlist_nodup h.1 hf) (qlist_lt h.1 hf) (fun x hx => wq_iff h hf hg h0 hx), wsum_list (rlist_nodup h.1 hf) hr (fun x hx => wl_iff h hf hg h0 hx)]
end
section
/-! the constructors -/
set_option maxRecDepth 100000
def adF (a0 a1 a2 a3 a4 a5 a6 a7 : Nat) : Nat → Nat := fun k => match k with
  | 0 => a0
  | 1 => a1
  | 2 => a2
  | 3 => a3
  | 4 => a4
  | 5 => a5
  | 6 => a6
  | _ => a7
def clF (k1 k2 k3 k4 k5 k6 k7 : ClassId) : Nat → ClassId := fun k => match k with
  | 0 => k1
  | 1 => k1
  | 2 => k2
  | 3 => k3
  | 4 => k4
  | 5 => k5
  | 6 => k6
  | _ => k7
theorem dX0_init_0 : decode cX0_init 0 = .ok (.aload_n 0, 1) := by decide +kernel
theorem dX0_init_1 : decode cX0_init 1 = .ok (.invokespecial 1, 3) := by decide +kernel
theorem dX0_init_4 : decode cX0_init 4 = .ok (.aload_n 0, 1) := by decide +kernel
theorem dX0_init_5 : decode cX0_init 5 = .ok (.iconst 4, 1) := by decide +kernel
theorem dX0_init_6 : decode cX0_init 6 = .ok (.newarray .byte, 2) := by decide +kernel
theorem dX0_init_8 : decode cX0_init 8 = .ok (.putfield 7, 3) := by decide +kernel
theorem dX0_init_11 : decode cX0_init 11 = .ok (.aload_n 0, 1) := by decide +kernel
theorem dX0_init_12 : decode cX0_init 12 = .ok (.bipush 32, 2) := by decide +kernel
theorem dX0_init_14 : decode cX0_init 14 = .ok (.newarray .byte, 2) := by decide +kernel
theorem dX0_init_16 : decode cX0_init 16 = .ok (.putfield 13, 3) := by decide +kernel
theorem dX0_init_19 : decode cX0_init 19 = .ok (.aload_n 0, 1) := by decide +kernel
theorem dX0_init_20 : decode cX0_init 20 = .ok (.bipush 8, 2) := by decide +kernel
theorem dX0_init_22 : decode cX0_init 22 = .ok (.newarray .byte, 2) := by decide +kernel
theorem dX0_init_24 : decode cX0_init 24 = .ok (.putfield 16, 3) := by decide +kernel
theorem dX0_init_27 : decode cX0_init 27 = .ok (.aload_n 0, 1) := by decide +kernel
theorem dX0_init_28 : decode cX0_init 28 = .ok (.sipush 128, 3) := by decide +kernel
theorem dX0_init_31 : decode cX0_init 31 = .ok (.newarray .boolean, 2) := by decide +kernel
theorem dX0_init_33 : decode cX0_init 33 = .ok (.putfield 19, 3) := by decide +kernel
theorem dX0_init_36 : decode cX0_init 36 = .ok (.aload_n 0, 1) := by decide +kernel
theorem dX0_init_37 : decode cX0_init 37 = .ok (.sipush 128, 3) := by decide +kernel
theorem dX0_init_40 : decode cX0_init 40 = .ok (.newarray .short, 2) := by decide +kernel
theorem dX0_init_42 : decode cX0_init 42 = .ok (.putfield 23, 3) := by decide +kernel
theorem dX0_init_45 : decode cX0_init 45 = .ok (.aload_n 0, 1) := by decide +kernel
theorem dX0_init_46 : decode cX0_init 46 = .ok (.sipush 128, 3) := by decide +kernel
theorem dX0_init_49 : decode cX0_init 49 = .ok (.newarray .byte, 2) := by decide +kernel
theorem dX0_init_51 : decode cX0_init 51 = .ok (.putfield 27, 3) := by decide +kernel
theorem dX0_init_54 : decode cX0_init 54 = .ok (.aload_n 0, 1) := by decide +kernel
theorem dX0_init_55 : decode cX0_init 55 = .ok (.sipush 128, 3) := by decide +kernel
theorem dX0_init_58 : decode cX0_init 58 = .ok (.newarray .byte, 2) := by decide +kernel
theorem dX0_init_60 : decode cX0_init 60 = .ok (.putfield 30, 3) := by decide +kernel
theorem dX0_init_63 : decode cX0_init 63 = .ok (.return_, 1) := by decide +kernel
set_option maxHeartbeats 4000000 in
set_option maxRecDepth 100000 in
theorem met_init (l : Launch) (D : va_G) (h0 sz : Nat) : Met l yX0_init (ws_ yX0_init cX0_init 1 none) ({ frames := 1, cells := 7, slots := 556, locals := 12 }) (va_Pc [.ref h0] (fun U => U.heap.size = sz ∧ va_P D vwCl [(h0, .inr (0, [.null, .null, .int (nI 0), .null, .null, .null, .int (nI 0), .null, .null]))] U.heap ∧ va_K D vwCl [] U ∧ va_D (fun _ => True) [(h0, .inr (0, [.null, .null, .int (nI 0), .null, .null, .null, .int (nI 0), .null, .null]))])) (va_Qv (fun u : (Nat → Nat) × (Nat → ClassId) => u.1 0 = h0) (fun u t => va_P D vwCl (dkW (D, u) (fun _ _ => 0)) t.heap ∧ va_K D vwCl (dkT (D, u)) t ∧ va_D (va_A [(h0, .inr (0, [.null, .null, .int (nI 0), .null, .null, .null, .int (nI 0), .null, .null]))] sz) (dkW (D, u) (fun _ _ => 0))) (va_A [(h0, .inr (0, [.null, .null, .int (nI 0), .null, .null, .null, .int (nI 0), .null, .null]))] sz)) 7 556 (va_A [(h0, .inr (0, [.null, .null, .int (nI 0), .null, .null, .null, .int (nI 0), .null, .null]))] sz) := by
  refine Met.ofW (cc := cX0_init) (maxL := 1) (ret := none) (by decide) rfl ?_
  intro p e s m args below meth c s₁ B hml hv
  obtain ⟨rfl, hsz, hP, hK, hD0⟩ := hv
  have hx := B.exec
  have hb := B.bytes
  have hr := B.returns
  have hts := atoms_spec (ws := ws_ yX0_init cX0_init 1 none) B.pre
  have hts : ∀ w ∈ lw_all, w.before _ s = true := fun w h => hts w (List.mem_cons_of_mem _ h)
  have hown : s.vm.findClass RX0 = some m.cls := findClass_of_methodNamed B.named
  have hlocks := B.notSynchronized
  have hin : meth.name = "<init>" := (name_of_methodNamed B.named B.method).1
  subst hsz
  have hD := hD0.self (sz := s.heap.size)
  generalize hAe : va_A [(h0, .inr (0, [.null, .null, .int (nI 0), .null, .null, .null, .int (nI 0), .null, .null]))] s.heap.size = A at hD ⊢
  have hA : ∀ q : Nat, s.heap.size ≤ q → A q := fun q h => by rw [← hAe]; exact Or.inr h
  have hS : va_S A s.heap s.heap [] := va_S.rf
  have hP : va_P D vwCl [(h0, .inr (0, [.null, .null, .int (nI 0), .null, .null, .null, .int (nI 0), .null, .null]))] s.heap := hP
  have hl := lv_entry ([.ref h0]) (n := 1) (Nat.le_of_ble_eq_true rfl)
  rw [lg_entry_eq]
  generalize (lg_sl ([.ref h0]) ++ List.replicate (1 - (lg_sl ([.ref h0])).length) Slot.unset).toArray = ls at hl ⊢
  have hl : lv_has ls 1 [(0, .ref h0)] := hl
  refine lv_aload_n hx hb dX0_init_0 rfl (lv_at hl 0 rfl) ?_
  refine W.objInit hx hb hown (hts _ q35) (hts _ q36) (hts _ q37) rfl (by rw [hml]; exact hl.1) rfl dX0_init_1 (Nat.le_of_ble_eq_true rfl) (Nat.le_of_ble_eq_true rfl) ?_
  refine W.eq (g2 := F0 m 4 ls []) rfl ?_
  refine lv_aload_n hx hb dX0_init_4 rfl (lv_at hl 0 rfl) ?_
  refine lv_iconst (v := 4) hx hb dX0_init_5 (by decide) ?_
  refine va_newa (atype := .byte) (ty := .byte) (a0 := (4, .inl (fun _ => nI 0))) (N' := 4) hx hb (hts _ q66) rfl hK hP hD hS hA (fun cA => by show arrV cA 4 (fun _ => Value.int (nI 0)) = _; rw [nI_0]; rfl) (by decide) (by decide) (by decide) (Nat.le_of_ble_eq_true rfl) (Nat.le_of_ble_eq_true rfl) dX0_init_6 (fun q1 k1 H hK hP hD hS => ?_)
  have hK : va_K D vwCl [(k1, .byte)] s := hK
  have hP : va_P D vwCl [(h0, .inr (0, [.null, .null, .int (nI 0), .null, .null, .null, .int (nI 0), .null, .null])), (q1, .inl (k1, 4, .inl (fun _ => nI 0)))] H := hP
  have hD : va_D A [(h0, .inr (0, [.null, .null, .int (nI 0), .null, .null, .null, .int (nI 0), .null, .null])), (q1, .inl (k1, 4, .inl (fun _ => nI 0)))] := hD
  refine va_putF (D := D) (ci := 0) (v := .ref q1) (ty := .array .byte) (C := RX0) (T := TX0) (N := 9) hx hb hts in_X0 tyX0 tyX0_ok nmX0 hown hK hP hD hS 0 rfl rfl 0 (by decide) (hts _ q38) (fun _ h9 => h9) rfl hin rfl (by decide +kernel) rfl rfl (Nat.le_of_ble_eq_true rfl) dX0_init_8 (fun H locs hP hD hS => ?_)
  have hP : va_P D vwCl [(h0, .inr (0, [.ref q1, .null, .int (nI 0), .null, .null, .null, .int (nI 0), .null, .null])), (q1, .inl (k1, 4, .inl (fun _ => nI 0)))] H := hP
  have hD : va_D A [(h0, .inr (0, [.ref q1, .null, .int (nI 0), .null, .null, .null, .int (nI 0), .null, .null])), (q1, .inl (k1, 4, .inl (fun _ => nI 0)))] := hD
  refine lv_aload_n hx hb dX0_init_11 rfl (lv_at hl 0 rfl) ?_
  refine lv_bipush (v := 32) hx hb dX0_init_12 (by decide) ?_
  refine va_newa (atype := .byte) (ty := .byte) (a0 := (32, .inl (fun _ => nI 0))) (N' := 32) hx hb (hts _ q66) rfl hK hP hD hS hA (fun cA => by show arrV cA 32 (fun _ => Value.int (nI 0)) = _; rw [nI_0]; rfl) (by decide) (by decide) (by decide) (Nat.le_of_ble_eq_true rfl) (Nat.le_of_ble_eq_true rfl) dX0_init_14 (fun q2 k2 H hK hP hD hS => ?_)
  have hK : va_K D vwCl [(k1, .byte), (k2, .byte)] s := hK
  have hP : va_P D vwCl [(h0, .inr (0, [.ref q1, .null, .int (nI 0), .null, .null, .null, .int (nI 0), .null, .null])), (q1, .inl (k1, 4, .inl (fun _ => nI 0))), (q2, .inl (k2, 32, .inl (fun _ => nI 0)))] H := hP
  have hD : va_D A [(h0, .inr (0, [.ref q1, .null, .int (nI 0), .null, .null, .null, .int (nI 0), .null, .null])), (q1, .inl (k1, 4, .inl (fun _ => nI 0))), (q2, .inl (k2, 32, .inl (fun _ => nI 0)))] := hD
  refine va_putF (D := D) (ci := 0) (v := .ref q2) (ty := .array .byte) (C := RX0) (T := TX0) (N := 9) hx hb hts in_X0 tyX0 tyX0_ok nmX0 hown hK hP hD hS 0 rfl rfl 1 (by decide) (hts _ q39) (fun _ h9 => h9) rfl hin rfl (by decide +kernel) rfl rfl (Nat.le_of_ble_eq_true rfl) dX0_init_16 (fun H locs hP hD hS => ?_)
  have hP : va_P D vwCl [(h0, .inr (0, [.ref q1, .ref q2, .int (nI 0), .null, .null, .null, .int (nI 0), .null, .null])), (q1, .inl (k1, 4, .inl (fun _ => nI 0))), (q2, .inl (k2, 32, .inl (fun _ => nI 0)))] H := hP
  have hD : va_D A [(h0, .inr (0, [.ref q1, .ref q2, .int (nI 0), .null, .null, .null, .int (nI 0), .null, .null])), (q1, .inl (k1, 4, .inl (fun _ => nI 0))), (q2, .inl (k2, 32, .inl (fun _ => nI 0)))] := hD
  refine lv_aload_n hx hb dX0_init_19 rfl (lv_at hl 0 rfl) ?_
  refine lv_bipush (v := 8) hx hb dX0_init_20 (by decide) ?_
  refine va_newa (atype := .byte) (ty := .byte) (a0 := (8, .inl (fun _ => nI 0))) (N' := 8) hx hb (hts _ q66) rfl hK hP hD hS hA (fun cA => by show arrV cA 8 (fun _ => Value.int (nI 0)) = _; rw [nI_0]; rfl) (by decide) (by decide) (by decide) (Nat.le_of_ble_eq_true rfl) (Nat.le_of_ble_eq_true rfl) dX0_init_22 (fun q3 k3 H hK hP hD hS => ?_)
  have hK : va_K D vwCl [(k1, .byte), (k2, .byte), (k3, .byte)] s := hK
  have hP : va_P D vwCl [(h0, .inr (0, [.ref q1, .ref q2, .int (nI 0), .null, .null, .null, .int (nI 0), .null, .null])), (q1, .inl (k1, 4, .inl (fun _ => nI 0))), (q2, .inl (k2, 32, .inl (fun _ => nI 0))), (q3, .inl (k3, 8, .inl (fun _ => nI 0)))] H := hP
  have hD : va_D A [(h0, .inr (0, [.ref q1, .ref q2, .int (nI 0), .null, .null, .null, .int (nI 0), .null, .null])), (q1, .inl (k1, 4, .inl (fun _ => nI 0))), (q2, .inl (k2, 32, .inl (fun _ => nI 0))), (q3, .inl (k3, 8, .inl (fun _ => nI 0)))] := hD
  refine va_putF (D := D) (ci := 0) (v := .ref q3) (ty := .array .byte) (C := RX0) (T := TX0) (N := 9) hx hb hts in_X0 tyX0 tyX0_ok nmX0 hown hK hP hD hS 0 rfl rfl 3 (by decide) (hts _ q41) (fun _ h9 => h9) rfl hin rfl (by decide +kernel) rfl rfl (Nat.le_of_ble_eq_true rfl) dX0_init_24 (fun H locs hP hD hS => ?_)
  have hP : va_P D vwCl [(h0, .inr (0, [.ref q1, .ref q2, .int (nI 0), .ref q3, .null, .null, .int (nI 0), .null, .null])), (q1, .inl (k1, 4, .inl (fun _ => nI 0))), (q2, .inl (k2, 32, .inl (fun _ => nI 0))), (q3, .inl (k3, 8, .inl (fun _ => nI 0)))] H := hP
  have hD : va_D A [(h0, .inr (0, [.ref q1, .ref q2, .int (nI 0), .ref q3, .null, .null, .int (nI 0), .null, .null])), (q1, .inl (k1, 4, .inl (fun _ => nI 0))), (q2, .inl (k2, 32, .inl (fun _ => nI 0))), (q3, .inl (k3, 8, .inl (fun _ => nI 0)))] := hD
  refine lv_aload_n hx hb dX0_init_27 rfl (lv_at hl 0 rfl) ?_
  refine lv_sipush (v := 128) hx hb dX0_init_28 (by decide) ?_
  refine va_newa (atype := .boolean) (ty := .boolean) (a0 := (128, .inl (fun _ => nI 0))) (N' := 128) hx hb (hts _ q67) rfl hK hP hD hS hA (fun cA => by show arrV cA 128 (fun _ => Value.int (nI 0)) = _; rw [nI_0]; rfl) (by decide) (by decide) (by decide) (Nat.le_of_ble_eq_true rfl) (Nat.le_of_ble_eq_true rfl) dX0_init_31 (fun q4 k4 H hK hP hD hS => ?_)
  have hK : va_K D vwCl [(k1, .byte), (k2, .byte), (k3, .byte), (k4, .boolean)] s := hK
  have hP : va_P D vwCl [(h0, .inr (0, [.ref q1, .ref q2, .int (nI 0), .ref q3, .null, .null, .int (nI 0), .null, .null])), (q1, .inl (k1, 4, .inl (fun _ => nI 0))), (q2, .inl (k2, 32, .inl (fun _ => nI 0))), (q3, .inl (k3, 8, .inl (fun _ => nI 0))), (q4, .inl (k4, 128, .inl (fun _ => nI 0)))] H := hP
  have hD : va_D A [(h0, .inr (0, [.ref q1, .ref q2, .int (nI 0), .ref q3, .null, .null, .int (nI 0), .null, .null])), (q1, .inl (k1, 4, .inl (fun _ => nI 0))), (q2, .inl (k2, 32, .inl (fun _ => nI 0))), (q3, .inl (k3, 8, .inl (fun _ => nI 0))), (q4, .inl (k4, 128, .inl (fun _ => nI 0)))] := hD
  refine va_putF (D := D) (ci := 0) (v := .ref q4) (ty := .array .boolean) (C := RX0) (T := TX0) (N := 9) hx hb hts in_X0 tyX0 tyX0_ok nmX0 hown hK hP hD hS 0 rfl rfl 4 (by decide) (hts _ q42) (fun _ h9 => h9) rfl hin rfl (by decide +kernel) rfl rfl (Nat.le_of_ble_eq_true rfl) dX0_init_33 (fun H locs hP hD hS => ?_)
  have hP : va_P D vwCl [(h0, .inr (0, [.ref q1, .ref q2, .int (nI 0), .ref q3, .ref q4, .null, .int (nI 0), .null, .null])), (q1, .inl (k1, 4, .inl (fun _ => nI 0))), (q2, .inl (k2, 32, .inl (fun _ => nI 0))), (q3, .inl (k3, 8, .inl (fun _ => nI 0))), (q4, .inl (k4, 128, .inl (fun _ => nI 0)))] H := hP
  have hD : va_D A [(h0, .inr (0, [.ref q1, .ref q2, .int (nI 0), .ref q3, .ref q4, .null, .int (nI 0), .null, .null])), (q1, .inl (k1, 4, .inl (fun _ => nI 0))), (q2, .inl (k2, 32, .inl (fun _ => nI 0))), (q3, .inl (k3, 8, .inl (fun _ => nI 0))), (q4, .inl (k4, 128, .inl (fun _ => nI 0)))] := hD
  refine lv_aload_n hx hb dX0_init_36 rfl (lv_at hl 0 rfl) ?_
  refine lv_sipush (v := 128) hx hb dX0_init_37 (by decide) ?_
  refine va_newa (atype := .short) (ty := .short) (a0 := (128, .inl (fun _ => nI 0))) (N' := 128) hx hb (hts _ q68) rfl hK hP hD hS hA (fun cA => by show arrV cA 128 (fun _ => Value.int (nI 0)) = _; rw [nI_0]; rfl) (by decide) (by decide) (by decide) (Nat.le_of_ble_eq_true rfl) (Nat.le_of_ble_eq_true rfl) dX0_init_40 (fun q5 k5 H hK hP hD hS => ?_)
  have hK : va_K D vwCl [(k1, .byte), (k2, .byte), (k3, .byte), (k4, .boolean), (k5, .short)] s := hK
  have hP : va_P D vwCl [(h0, .inr (0, [.ref q1, .ref q2, .int (nI 0), .ref q3, .ref q4, .null, .int (nI 0), .null, .null])), (q1, .inl (k1, 4, .inl (fun _ => nI 0))), (q2, .inl (k2, 32, .inl (fun _ => nI 0))), (q3, .inl (k3, 8, .inl (fun _ => nI 0))), (q4, .inl (k4, 128, .inl (fun _ => nI 0))), (q5, .inl (k5, 128, .inl (fun _ => nI 0)))] H := hP
  have hD : va_D A [(h0, .inr (0, [.ref q1, .ref q2, .int (nI 0), .ref q3, .ref q4, .null, .int (nI 0), .null, .null])), (q1, .inl (k1, 4, .inl (fun _ => nI 0))), (q2, .inl (k2, 32, .inl (fun _ => nI 0))), (q3, .inl (k3, 8, .inl (fun _ => nI 0))), (q4, .inl (k4, 128, .inl (fun _ => nI 0))), (q5, .inl (k5, 128, .inl (fun _ => nI 0)))] := hD
  refine va_putF (D := D) (ci := 0) (v := .ref q5) (ty := .array .short) (C := RX0) (T := TX0) (N := 9) hx hb hts in_X0 tyX0 tyX0_ok nmX0 hown hK hP hD hS 0 rfl rfl 5 (by decide) (hts _ q43) (fun _ h9 => h9) rfl hin rfl (by decide +kernel) rfl rfl (Nat.le_of_ble_eq_true rfl) dX0_init_42 (fun H locs hP hD hS => ?_)
  have hP : va_P D vwCl [(h0, .inr (0, [.ref q1, .ref q2, .int (nI 0), .ref q3, .ref q4, .ref q5, .int (nI 0), .null, .null])), (q1, .inl (k1, 4, .inl (fun _ => nI 0))), (q2, .inl (k2, 32, .inl (fun _ => nI 0))), (q3, .inl (k3, 8, .inl (fun _ => nI 0))), (q4, .inl (k4, 128, .inl (fun _ => nI 0))), (q5, .inl (k5, 128, .inl (fun _ => nI 0)))] H := hP
  have hD : va_D A [(h0, .inr (0, [.ref q1, .ref q2, .int (nI 0), .ref q3, .ref q4, .ref q5, .int (nI 0), .null, .null])), (q1, .inl (k1, 4, .inl (fun _ => nI 0))), (q2, .inl (k2, 32, .inl (fun _ => nI 0))), (q3, .inl (k3, 8, .inl (fun _ => nI 0))), (q4, .inl (k4, 128, .inl (fun _ => nI 0))), (q5, .inl (k5, 128, .inl (fun _ => nI 0)))] := hD
  refine lv_aload_n hx hb dX0_init_45 rfl (lv_at hl 0 rfl) ?_
  refine lv_sipush (v := 128) hx hb dX0_init_46 (by decide) ?_
  refine va_newa (atype := .byte) (ty := .byte) (a0 := (128, .inl (fun _ => nI 0))) (N' := 128) hx hb (hts _ q66) rfl hK hP hD hS hA (fun cA => by show arrV cA 128 (fun _ => Value.int (nI 0)) = _; rw [nI_0]; rfl) (by decide) (by decide) (by decide) (Nat.le_of_ble_eq_true rfl) (Nat.le_of_ble_eq_true rfl) dX0_init_49 (fun q6 k6 H hK hP hD hS => ?_)
  have hK : va_K D vwCl [(k1, .byte), (k2, .byte), (k3, .byte), (k4, .boolean), (k5, .short), (k6, .byte)] s := hK
  have hP : va_P D vwCl [(h0, .inr (0, [.ref q1, .ref q2, .int (nI 0), .ref q3, .ref q4, .ref q5, .int (nI 0), .null, .null])), (q1, .inl (k1, 4, .inl (fun _ => nI 0))), (q2, .inl (k2, 32, .inl (fun _ => nI 0))), (q3, .inl (k3, 8, .inl (fun _ => nI 0))), (q4, .inl (k4, 128, .inl (fun _ => nI 0))), (q5, .inl (k5, 128, .inl (fun _ => nI 0))), (q6, .inl (k6, 128, .inl (fun _ => nI 0)))] H := hP
  have hD : va_D A [(h0, .inr (0, [.ref q1, .ref q2, .int (nI 0), .ref q3, .ref q4, .ref q5, .int (nI 0), .null, .null])), (q1, .inl (k1, 4, .inl (fun _ => nI 0))), (q2, .inl (k2, 32, .inl (fun _ => nI 0))), (q3, .inl (k3, 8, .inl (fun _ => nI 0))), (q4, .inl (k4, 128, .inl (fun _ => nI 0))), (q5, .inl (k5, 128, .inl (fun _ => nI 0))), (q6, .inl (k6, 128, .inl (fun _ => nI 0)))] := hD
  refine va_putF (D := D) (ci := 0) (v := .ref q6) (ty := .array .byte) (C := RX0) (T := TX0) (N := 9) hx hb hts in_X0 tyX0 tyX0_ok nmX0 hown hK hP hD hS 0 rfl rfl 7 (by decide) (hts _ q45) (fun _ h9 => h9) rfl hin rfl (by decide +kernel) rfl rfl (Nat.le_of_ble_eq_true rfl) dX0_init_51 (fun H locs hP hD hS => ?_)
  have hP : va_P D vwCl [(h0, .inr (0, [.ref q1, .ref q2, .int (nI 0), .ref q3, .ref q4, .ref q5, .int (nI 0), .ref q6, .null])), (q1, .inl (k1, 4, .inl (fun _ => nI 0))), (q2, .inl (k2, 32, .inl (fun _ => nI 0))), (q3, .inl (k3, 8, .inl (fun _ => nI 0))), (q4, .inl (k4, 128, .inl (fun _ => nI 0))), (q5, .inl (k5, 128, .inl (fun _ => nI 0))), (q6, .inl (k6, 128, .inl (fun _ => nI 0)))] H := hP
  have hD : va_D A [(h0, .inr (0, [.ref q1, .ref q2, .int (nI 0), .ref q3, .ref q4, .ref q5, .int (nI 0), .ref q6, .null])), (q1, .inl (k1, 4, .inl (fun _ => nI 0))), (q2, .inl (k2, 32, .inl (fun _ => nI 0))), (q3, .inl (k3, 8, .inl (fun _ => nI 0))), (q4, .inl (k4, 128, .inl (fun _ => nI 0))), (q5, .inl (k5, 128, .inl (fun _ => nI 0))), (q6, .inl (k6, 128, .inl (fun _ => nI 0)))] := hD
  refine lv_aload_n hx hb dX0_init_54 rfl (lv_at hl 0 rfl) ?_
  refine lv_sipush (v := 128) hx hb dX0_init_55 (by decide) ?_
  refine va_newa (atype := .byte) (ty := .byte) (a0 := (128, .inl (fun _ => nI 0))) (N' := 128) hx hb (hts _ q66) rfl hK hP hD hS hA (fun cA => by show arrV cA 128 (fun _ => Value.int (nI 0)) = _; rw [nI_0]; rfl) (by decide) (by decide) (by decide) (Nat.le_of_ble_eq_true rfl) (Nat.le_of_ble_eq_true rfl) dX0_init_58 (fun q7 k7 H hK hP hD hS => ?_)
  have hK : va_K D vwCl [(k1, .byte), (k2, .byte), (k3, .byte), (k4, .boolean), (k5, .short), (k6, .byte), (k7, .byte)] s := hK
  have hP : va_P D vwCl [(h0, .inr (0, [.ref q1, .ref q2, .int (nI 0), .ref q3, .ref q4, .ref q5, .int (nI 0), .ref q6, .null])), (q1, .inl (k1, 4, .inl (fun _ => nI 0))), (q2, .inl (k2, 32, .inl (fun _ => nI 0))), (q3, .inl (k3, 8, .inl (fun _ => nI 0))), (q4, .inl (k4, 128, .inl (fun _ => nI 0))), (q5, .inl (k5, 128, .inl (fun _ => nI 0))), (q6, .inl (k6, 128, .inl (fun _ => nI 0))), (q7, .inl (k7, 128, .inl (fun _ => nI 0)))] H := hP
  have hD : va_D A [(h0, .inr (0, [.ref q1, .ref q2, .int (nI 0), .ref q3, .ref q4, .ref q5, .int (nI 0), .ref q6, .null])), (q1, .inl (k1, 4, .inl (fun _ => nI 0))), (q2, .inl (k2, 32, .inl (fun _ => nI 0))), (q3, .inl (k3, 8, .inl (fun _ => nI 0))), (q4, .inl (k4, 128, .inl (fun _ => nI 0))), (q5, .inl (k5, 128, .inl (fun _ => nI 0))), (q6, .inl (k6, 128, .inl (fun _ => nI 0))), (q7, .inl (k7, 128, .inl (fun _ => nI 0)))] := hD
  refine va_putF (D := D) (ci := 0) (v := .ref q7) (ty := .array .byte) (C := RX0) (T := TX0) (N := 9) hx hb hts in_X0 tyX0 tyX0_ok nmX0 hown hK hP hD hS 0 rfl rfl 8 (by decide) (hts _ q46) (fun _ h9 => h9) rfl hin rfl (by decide +kernel) rfl rfl (Nat.le_of_ble_eq_true rfl) dX0_init_60 (fun H locs hP hD hS => ?_)
  have hP : va_P D vwCl [(h0, .inr (0, [.ref q1, .ref q2, .int (nI 0), .ref q3, .ref q4, .ref q5, .int (nI 0), .ref q6, .ref q7])), (q1, .inl (k1, 4, .inl (fun _ => nI 0))), (q2, .inl (k2, 32, .inl (fun _ => nI 0))), (q3, .inl (k3, 8, .inl (fun _ => nI 0))), (q4, .inl (k4, 128, .inl (fun _ => nI 0))), (q5, .inl (k5, 128, .inl (fun _ => nI 0))), (q6, .inl (k6, 128, .inl (fun _ => nI 0))), (q7, .inl (k7, 128, .inl (fun _ => nI 0)))] H := hP
  have hD : va_D A [(h0, .inr (0, [.ref q1, .ref q2, .int (nI 0), .ref q3, .ref q4, .ref q5, .int (nI 0), .ref q6, .ref q7])), (q1, .inl (k1, 4, .inl (fun _ => nI 0))), (q2, .inl (k2, 32, .inl (fun _ => nI 0))), (q3, .inl (k3, 8, .inl (fun _ => nI 0))), (q4, .inl (k4, 128, .inl (fun _ => nI 0))), (q5, .inl (k5, 128, .inl (fun _ => nI 0))), (q6, .inl (k6, 128, .inl (fun _ => nI 0))), (q7, .inl (k7, 128, .inl (fun _ => nI 0)))] := hD
  have hP9 : va_P D vwCl (dkW (D, (adF h0 q1 q2 q3 q4 q5 q6 q7, clF k1 k2 k3 k4 k5 k6 k7)) (fun _ _ => 0)) H := hP
  have hD9 : va_D A (dkW (D, (adF h0 q1 q2 q3 q4 q5 q6 q7, clF k1 k2 k3 k4 k5 k6 k7)) (fun _ _ => 0)) := hD
  have hK9 : va_K D vwCl (dkT (D, (adF h0 q1 q2 q3 q4 q5 q6 q7, clF k1 k2 k3 k4 k5 k6 k7))) s := hK
  refine W.widen (k := 7) (n := 556) (Nat.le_of_ble_eq_true rfl) (Nat.le_of_ble_eq_true rfl) ?_
  exact W.vret hx hb hr (fun t ht hW => ⟨⟨(adF h0 q1 q2 q3 q4 q5 q6 q7, clF k1 k2 k3 k4 k5 k6 k7), rfl, rfl, by show va_P D vwCl (dkW (D, (adF h0 q1 q2 q3 q4 q5 q6 q7, clF k1 k2 k3 k4 k5 k6 k7)) (fun _ _ => 0)) t.heap; rw [ht]; exact hP9, va_K.moved hW.alike hK9, hD9⟩, hS.F ht⟩) hS.2.2 dX0_init_63
theorem dX1_init_0 : decode cX1_init 0 = .ok (.aload_n 0, 1) := by decide +kernel
theorem dX1_init_1 : decode cX1_init 1 = .ok (.invokespecial 1, 3) := by decide +kernel
theorem dX1_init_4 : decode cX1_init 4 = .ok (.aload_n 0, 1) := by decide +kernel
theorem dX1_init_5 : decode cX1_init 5 = .ok (.sipush 512, 3) := by decide +kernel
theorem dX1_init_8 : decode cX1_init 8 = .ok (.newarray .boolean, 2) := by decide +kernel
theorem dX1_init_10 : decode cX1_init 10 = .ok (.putfield 7, 3) := by decide +kernel
theorem dX1_init_13 : decode cX1_init 13 = .ok (.aload_n 0, 1) := by decide +kernel
theorem dX1_init_14 : decode cX1_init 14 = .ok (.sipush 128, 3) := by decide +kernel
theorem dX1_init_17 : decode cX1_init 17 = .ok (.newarray .boolean, 2) := by decide +kernel
theorem dX1_init_19 : decode cX1_init 19 = .ok (.putfield 13, 3) := by decide +kernel
theorem dX1_init_22 : decode cX1_init 22 = .ok (.aload_n 0, 1) := by decide +kernel
theorem dX1_init_23 : decode cX1_init 23 = .ok (.sipush 128, 3) := by decide +kernel
theorem dX1_init_26 : decode cX1_init 26 = .ok (.newarray .boolean, 2) := by decide +kernel
theorem dX1_init_28 : decode cX1_init 28 = .ok (.putfield 16, 3) := by decide +kernel
theorem dX1_init_31 : decode cX1_init 31 = .ok (.return_, 1) := by decide +kernel
set_option maxHeartbeats 4000000 in
set_option maxRecDepth 100000 in
theorem met_minit (l : Launch) (D : va_G) (h0 sz : Nat) : Met l yX1_init (ws_ yX1_init cX1_init 1 none) ({ frames := 1, cells := 3, slots := 768, locals := 12 }) (va_Pc [.ref h0] (fun U => U.heap.size = sz ∧ va_P D vwCl [(h0, .inr (1, [.null, .null, .null]))] U.heap ∧ va_K D vwCl [] U ∧ va_D (fun _ => True) [(h0, .inr (1, [.null, .null, .null]))])) (va_Qv (fun u : (Nat → Nat) × (Nat → ClassId) => u.1 0 = h0) (fun u t => va_P D vwCl (mkW (D, u) (fun _ _ => false)) t.heap ∧ va_K D vwCl (mkT (D, u)) t ∧ va_D (va_A [(h0, .inr (1, [.null, .null, .null]))] sz) (mkW (D, u) (fun _ _ => false))) (va_A [(h0, .inr (1, [.null, .null, .null]))] sz)) 3 768 (va_A [(h0, .inr (1, [.null, .null, .null]))] sz) := by
  refine Met.ofW (cc := cX1_init) (maxL := 1) (ret := none) (by decide) rfl ?_
  intro p e s m args below meth c s₁ B hml hv
  obtain ⟨rfl, hsz, hP, hK, hD0⟩ := hv
  have hx := B.exec
  have hb := B.bytes
  have hr := B.returns
  have hts := atoms_spec (ws := ws_ yX1_init cX1_init 1 none) B.pre
  have hts : ∀ w ∈ lw_all, w.before _ s = true := fun w h => hts w (List.mem_cons_of_mem _ h)
  have hown : s.vm.findClass RX1 = some m.cls := findClass_of_methodNamed B.named
  have hlocks := B.notSynchronized
  have hin : meth.name = "<init>" := (name_of_methodNamed B.named B.method).1
  subst hsz
  have hD := hD0.self (sz := s.heap.size)
  generalize hAe : va_A [(h0, .inr (1, [.null, .null, .null]))] s.heap.size = A at hD ⊢
  have hA : ∀ q : Nat, s.heap.size ≤ q → A q := fun q h => by rw [← hAe]; exact Or.inr h
  have hS : va_S A s.heap s.heap [] := va_S.rf
  have hP : va_P D vwCl [(h0, .inr (1, [.null, .null, .null]))] s.heap := hP
  have hl := lv_entry ([.ref h0]) (n := 1) (Nat.le_of_ble_eq_true rfl)
  rw [lg_entry_eq]
  generalize (lg_sl ([.ref h0]) ++ List.replicate (1 - (lg_sl ([.ref h0])).length) Slot.unset).toArray = ls at hl ⊢
  have hl : lv_has ls 1 [(0, .ref h0)] := hl
  refine lv_aload_n hx hb dX1_init_0 rfl (lv_at hl 0 rfl) ?_
  refine W.objInit hx hb hown (hts _ q215) (hts _ q36) (hts _ q37) rfl (by rw [hml]; exact hl.1) rfl dX1_init_1 (Nat.le_of_ble_eq_true rfl) (Nat.le_of_ble_eq_true rfl) ?_
  refine W.eq (g2 := F0 m 4 ls []) rfl ?_
  refine lv_aload_n hx hb dX1_init_4 rfl (lv_at hl 0 rfl) ?_
  refine lv_sipush (v := 512) hx hb dX1_init_5 (by decide) ?_
  refine va_newa (atype := .boolean) (ty := .boolean) (a0 := (512, .inl (fun _ => nI 0))) (N' := 512) hx hb (hts _ q67) rfl hK hP hD hS hA (fun cA => by show arrV cA 512 (fun _ => Value.int (nI 0)) = _; rw [nI_0]; rfl) (by decide) (by decide) (by decide) (Nat.le_of_ble_eq_true rfl) (Nat.le_of_ble_eq_true rfl) dX1_init_8 (fun q1 k1 H hK hP hD hS => ?_)
  have hK : va_K D vwCl [(k1, .boolean)] s := hK
  have hP : va_P D vwCl [(h0, .inr (1, [.null, .null, .null])), (q1, .inl (k1, 512, .inl (fun _ => nI 0)))] H := hP
  have hD : va_D A [(h0, .inr (1, [.null, .null, .null])), (q1, .inl (k1, 512, .inl (fun _ => nI 0)))] := hD
  refine va_put (D := D) (ci := 1) (v := .ref q1) (ty := .array .boolean) (C := RX1) (T := TX1) (N := 3) hx hb hts in_X1 tyX1 tyX1_ok nmX1 hown hK hP hD hS 0 rfl rfl 0 (by decide) (hts _ q216) (fun _ h9 => h9) rfl (by decide +kernel) rfl rfl (Nat.le_of_ble_eq_true rfl) dX1_init_10 (fun H locs hP hD hS => ?_)
  have hP : va_P D vwCl [(h0, .inr (1, [.ref q1, .null, .null])), (q1, .inl (k1, 512, .inl (fun _ => nI 0)))] H := hP
  have hD : va_D A [(h0, .inr (1, [.ref q1, .null, .null])), (q1, .inl (k1, 512, .inl (fun _ => nI 0)))] := hD
  refine lv_aload_n hx hb dX1_init_13 rfl (lv_at hl 0 rfl) ?_
  refine lv_sipush (v := 128) hx hb dX1_init_14 (by decide) ?_
  refine va_newa (atype := .boolean) (ty := .boolean) (a0 := (128, .inl (fun _ => nI 0))) (N' := 128) hx hb (hts _ q67) rfl hK hP hD hS hA (fun cA => by show arrV cA 128 (fun _ => Value.int (nI 0)) = _; rw [nI_0]; rfl) (by decide) (by decide) (by decide) (Nat.le_of_ble_eq_true rfl) (Nat.le_of_ble_eq_true rfl) dX1_init_17 (fun q2 k2 H hK hP hD hS => ?_)
  have hK : va_K D vwCl [(k1, .boolean), (k2, .boolean)] s := hK
  have hP : va_P D vwCl [(h0, .inr (1, [.ref q1, .null, .null])), (q1, .inl (k1, 512, .inl (fun _ => nI 0))), (q2, .inl (k2, 128, .inl (fun _ => nI 0)))] H := hP
  have hD : va_D A [(h0, .inr (1, [.ref q1, .null, .null])), (q1, .inl (k1, 512, .inl (fun _ => nI 0))), (q2, .inl (k2, 128, .inl (fun _ => nI 0)))] := hD
  refine va_put (D := D) (ci := 1) (v := .ref q2) (ty := .array .boolean) (C := RX1) (T := TX1) (N := 3) hx hb hts in_X1 tyX1 tyX1_ok nmX1 hown hK hP hD hS 0 rfl rfl 1 (by decide) (hts _ q217) (fun _ h9 => h9) rfl (by decide +kernel) rfl rfl (Nat.le_of_ble_eq_true rfl) dX1_init_19 (fun H locs hP hD hS => ?_)
  have hP : va_P D vwCl [(h0, .inr (1, [.ref q1, .ref q2, .null])), (q1, .inl (k1, 512, .inl (fun _ => nI 0))), (q2, .inl (k2, 128, .inl (fun _ => nI 0)))] H := hP
  have hD : va_D A [(h0, .inr (1, [.ref q1, .ref q2, .null])), (q1, .inl (k1, 512, .inl (fun _ => nI 0))), (q2, .inl (k2, 128, .inl (fun _ => nI 0)))] := hD
  refine lv_aload_n hx hb dX1_init_22 rfl (lv_at hl 0 rfl) ?_
  refine lv_sipush (v := 128) hx hb dX1_init_23 (by decide) ?_
  refine va_newa (atype := .boolean) (ty := .boolean) (a0 := (128, .inl (fun _ => nI 0))) (N' := 128) hx hb (hts _ q67) rfl hK hP hD hS hA (fun cA => by show arrV cA 128 (fun _ => Value.int (nI 0)) = _; rw [nI_0]; rfl) (by decide) (by decide) (by decide) (Nat.le_of_ble_eq_true rfl) (Nat.le_of_ble_eq_true rfl) dX1_init_26 (fun q3 k3 H hK hP hD hS => ?_)
  have hK : va_K D vwCl [(k1, .boolean), (k2, .boolean), (k3, .boolean)] s := hK
  have hP : va_P D vwCl [(h0, .inr (1, [.ref q1, .ref q2, .null])), (q1, .inl (k1, 512, .inl (fun _ => nI 0))), (q2, .inl (k2, 128, .inl (fun _ => nI 0))), (q3, .inl (k3, 128, .inl (fun _ => nI 0)))] H := hP
  have hD : va_D A [(h0, .inr (1, [.ref q1, .ref q2, .null])), (q1, .inl (k1, 512, .inl (fun _ => nI 0))), (q2, .inl (k2, 128, .inl (fun _ => nI 0))), (q3, .inl (k3, 128, .inl (fun _ => nI 0)))] := hD
  refine va_put (D := D) (ci := 1) (v := .ref q3) (ty := .array .boolean) (C := RX1) (T := TX1) (N := 3) hx hb hts in_X1 tyX1 tyX1_ok nmX1 hown hK hP hD hS 0 rfl rfl 2 (by decide) (hts _ q218) (fun _ h9 => h9) rfl (by decide +kernel) rfl rfl (Nat.le_of_ble_eq_true rfl) dX1_init_28 (fun H locs hP hD hS => ?_)
  have hP : va_P D vwCl [(h0, .inr (1, [.ref q1, .ref q2, .ref q3])), (q1, .inl (k1, 512, .inl (fun _ => nI 0))), (q2, .inl (k2, 128, .inl (fun _ => nI 0))), (q3, .inl (k3, 128, .inl (fun _ => nI 0)))] H := hP
  have hD : va_D A [(h0, .inr (1, [.ref q1, .ref q2, .ref q3])), (q1, .inl (k1, 512, .inl (fun _ => nI 0))), (q2, .inl (k2, 128, .inl (fun _ => nI 0))), (q3, .inl (k3, 128, .inl (fun _ => nI 0)))] := hD
  have hP9 : va_P D vwCl (mkW (D, (adF h0 q1 q2 q3 q3 q3 q3 q3, clF k1 k2 k3 k3 k3 k3 k3)) (fun _ _ => false)) H := hP
  have hD9 : va_D A (mkW (D, (adF h0 q1 q2 q3 q3 q3 q3 q3, clF k1 k2 k3 k3 k3 k3 k3)) (fun _ _ => false)) := hD
  have hK9 : va_K D vwCl (mkT (D, (adF h0 q1 q2 q3 q3 q3 q3 q3, clF k1 k2 k3 k3 k3 k3 k3))) s := hK
  refine W.widen (k := 3) (n := 768) (Nat.le_of_ble_eq_true rfl) (Nat.le_of_ble_eq_true rfl) ?_
  exact W.vret hx hb hr (fun t ht hW => ⟨⟨(adF h0 q1 q2 q3 q3 q3 q3 q3, clF k1 k2 k3 k3 k3 k3 k3), rfl, rfl, by show va_P D vwCl (mkW (D, (adF h0 q1 q2 q3 q3 q3 q3 q3, clF k1 k2 k3 k3 k3 k3 k3)) (fun _ _ => false)) t.heap; rw [ht]; exact hP9, va_K.moved hW.alike hK9, hD9⟩, hS.F ht⟩) hS.2.2 dX1_init_31
end
section
/-! the law's instructions -/
set_option maxRecDepth 100000
abbrev cL_law : ByteArray := code
theorem dL_law_0 : decode cL_law 0 = .ok (.new 7, 3) := by decide +kernel
theorem dL_law_3 : decode cL_law 3 = .ok (.dup, 1) := by decide +kernel
theorem dL_law_4 : decode cL_law 4 = .ok (.invokespecial 9, 3) := by decide +kernel
theorem dL_law_7 : decode cL_law 7 = .ok (.astore_n 1, 1) := by decide +kernel
theorem dL_law_8 : decode cL_law 8 = .ok (.new 10, 3) := by decide +kernel
theorem dL_law_11 : decode cL_law 11 = .ok (.dup, 1) := by decide +kernel
theorem dL_law_12 : decode cL_law 12 = .ok (.invokespecial 12, 3) := by decide +kernel
theorem dL_law_15 : decode cL_law 15 = .ok (.astore_n 2, 1) := by decide +kernel
theorem dL_law_16 : decode cL_law 16 = .ok (.iconst 0, 1) := by decide +kernel
theorem dL_law_17 : decode cL_law 17 = .ok (.istore_n 3, 1) := by decide +kernel
theorem dL_law_18 : decode cL_law 18 = .ok (.iload_n 3, 1) := by decide +kernel
theorem dL_law_19 : decode cL_law 19 = .ok (.aload_n 0, 1) := by decide +kernel
theorem dL_law_20 : decode cL_law 20 = .ok (.arraylength, 1) := by decide +kernel
theorem dL_law_21 : decode cL_law 21 = .ok (.iconst 4, 1) := by decide +kernel
theorem dL_law_22 : decode cL_law 22 = .ok (.isub, 1) := by decide +kernel
theorem dL_law_23 : decode cL_law 23 = .ok (.if_icmp .gt 556, 3) := by decide +kernel
theorem dL_law_26 : decode cL_law 26 = .ok (.aload_n 0, 1) := by decide +kernel
theorem dL_law_27 : decode cL_law 27 = .ok (.iload_n 3, 1) := by decide +kernel
theorem dL_law_28 : decode cL_law 28 = .ok (.iaload, 1) := by decide +kernel
theorem dL_law_29 : decode cL_law 29 = .ok (.bipush 15, 2) := by decide +kernel
theorem dL_law_31 : decode cL_law 31 = .ok (.iand, 1) := by decide +kernel
theorem dL_law_32 : decode cL_law 32 = .ok (.tableswitch 541 0 14 #[76, 109, 142, 165, 188, 221, 264, 307, 350, 373, 396, 419, 442, 475, 508], 76) := by decide +kernel
theorem dL_law_108 : decode cL_law 108 = .ok (.aload_n 1, 1) := by decide +kernel
theorem dL_law_109 : decode cL_law 109 = .ok (.aload_n 0, 1) := by decide +kernel
theorem dL_law_110 : decode cL_law 110 = .ok (.iload_n 3, 1) := by decide +kernel
theorem dL_law_111 : decode cL_law 111 = .ok (.iconst 1, 1) := by decide +kernel
theorem dL_law_112 : decode cL_law 112 = .ok (.iadd, 1) := by decide +kernel
theorem dL_law_113 : decode cL_law 113 = .ok (.iaload, 1) := by decide +kernel
theorem dL_law_114 : decode cL_law 114 = .ok (.aload_n 0, 1) := by decide +kernel
theorem dL_law_115 : decode cL_law 115 = .ok (.iload_n 3, 1) := by decide +kernel
theorem dL_law_116 : decode cL_law 116 = .ok (.iconst 2, 1) := by decide +kernel
theorem dL_law_117 : decode cL_law 117 = .ok (.iadd, 1) := by decide +kernel
theorem dL_law_118 : decode cL_law 118 = .ok (.iaload, 1) := by decide +kernel
theorem dL_law_119 : decode cL_law 119 = .ok (.invokevirtual 13, 3) := by decide +kernel
theorem dL_law_122 : decode cL_law 122 = .ok (.aload_n 2, 1) := by decide +kernel
theorem dL_law_123 : decode cL_law 123 = .ok (.aload_n 0, 1) := by decide +kernel
theorem dL_law_124 : decode cL_law 124 = .ok (.iload_n 3, 1) := by decide +kernel
theorem dL_law_125 : decode cL_law 125 = .ok (.iconst 1, 1) := by decide +kernel
theorem dL_law_126 : decode cL_law 126 = .ok (.iadd, 1) := by decide +kernel
theorem dL_law_127 : decode cL_law 127 = .ok (.iaload, 1) := by decide +kernel
theorem dL_law_128 : decode cL_law 128 = .ok (.aload_n 0, 1) := by decide +kernel
theorem dL_law_129 : decode cL_law 129 = .ok (.iload_n 3, 1) := by decide +kernel
theorem dL_law_130 : decode cL_law 130 = .ok (.iconst 2, 1) := by decide +kernel
theorem dL_law_131 : decode cL_law 131 = .ok (.iadd, 1) := by decide +kernel
theorem dL_law_132 : decode cL_law 132 = .ok (.iaload, 1) := by decide +kernel
theorem dL_law_133 : decode cL_law 133 = .ok (.invokevirtual 17, 3) := by decide +kernel
theorem dL_law_136 : decode cL_law 136 = .ok (.if_icmp .eq 437, 3) := by decide +kernel
theorem dL_law_139 : decode cL_law 139 = .ok (.iconst 0, 1) := by decide +kernel
theorem dL_law_140 : decode cL_law 140 = .ok (.ireturn, 1) := by decide +kernel
theorem dL_law_141 : decode cL_law 141 = .ok (.aload_n 1, 1) := by decide +kernel
theorem dL_law_142 : decode cL_law 142 = .ok (.aload_n 0, 1) := by decide +kernel
theorem dL_law_143 : decode cL_law 143 = .ok (.iload_n 3, 1) := by decide +kernel
theorem dL_law_144 : decode cL_law 144 = .ok (.iconst 1, 1) := by decide +kernel
theorem dL_law_145 : decode cL_law 145 = .ok (.iadd, 1) := by decide +kernel
theorem dL_law_146 : decode cL_law 146 = .ok (.iaload, 1) := by decide +kernel
theorem dL_law_147 : decode cL_law 147 = .ok (.aload_n 0, 1) := by decide +kernel
theorem dL_law_148 : decode cL_law 148 = .ok (.iload_n 3, 1) := by decide +kernel
theorem dL_law_149 : decode cL_law 149 = .ok (.iconst 2, 1) := by decide +kernel
theorem dL_law_150 : decode cL_law 150 = .ok (.iadd, 1) := by decide +kernel
theorem dL_law_151 : decode cL_law 151 = .ok (.iaload, 1) := by decide +kernel
theorem dL_law_152 : decode cL_law 152 = .ok (.invokevirtual 18, 3) := by decide +kernel
theorem dL_law_155 : decode cL_law 155 = .ok (.aload_n 2, 1) := by decide +kernel
theorem dL_law_156 : decode cL_law 156 = .ok (.aload_n 0, 1) := by decide +kernel
theorem dL_law_157 : decode cL_law 157 = .ok (.iload_n 3, 1) := by decide +kernel
theorem dL_law_158 : decode cL_law 158 = .ok (.iconst 1, 1) := by decide +kernel
theorem dL_law_159 : decode cL_law 159 = .ok (.iadd, 1) := by decide +kernel
theorem dL_law_160 : decode cL_law 160 = .ok (.iaload, 1) := by decide +kernel
theorem dL_law_161 : decode cL_law 161 = .ok (.aload_n 0, 1) := by decide +kernel
theorem dL_law_162 : decode cL_law 162 = .ok (.iload_n 3, 1) := by decide +kernel
theorem dL_law_163 : decode cL_law 163 = .ok (.iconst 2, 1) := by decide +kernel
theorem dL_law_164 : decode cL_law 164 = .ok (.iadd, 1) := by decide +kernel
theorem dL_law_165 : decode cL_law 165 = .ok (.iaload, 1) := by decide +kernel
theorem dL_law_166 : decode cL_law 166 = .ok (.invokevirtual 21, 3) := by decide +kernel
theorem dL_law_169 : decode cL_law 169 = .ok (.if_icmp .eq 404, 3) := by decide +kernel
theorem dL_law_172 : decode cL_law 172 = .ok (.iconst 0, 1) := by decide +kernel
theorem dL_law_173 : decode cL_law 173 = .ok (.ireturn, 1) := by decide +kernel
theorem dL_law_174 : decode cL_law 174 = .ok (.aload_n 1, 1) := by decide +kernel
theorem dL_law_175 : decode cL_law 175 = .ok (.aload_n 0, 1) := by decide +kernel
theorem dL_law_176 : decode cL_law 176 = .ok (.iload_n 3, 1) := by decide +kernel
theorem dL_law_177 : decode cL_law 177 = .ok (.iconst 1, 1) := by decide +kernel
theorem dL_law_178 : decode cL_law 178 = .ok (.iadd, 1) := by decide +kernel
theorem dL_law_179 : decode cL_law 179 = .ok (.iaload, 1) := by decide +kernel
theorem dL_law_180 : decode cL_law 180 = .ok (.invokevirtual 22, 3) := by decide +kernel
theorem dL_law_183 : decode cL_law 183 = .ok (.aload_n 2, 1) := by decide +kernel
theorem dL_law_184 : decode cL_law 184 = .ok (.aload_n 0, 1) := by decide +kernel
theorem dL_law_185 : decode cL_law 185 = .ok (.iload_n 3, 1) := by decide +kernel
theorem dL_law_186 : decode cL_law 186 = .ok (.iconst 1, 1) := by decide +kernel
theorem dL_law_187 : decode cL_law 187 = .ok (.iadd, 1) := by decide +kernel
theorem dL_law_188 : decode cL_law 188 = .ok (.iaload, 1) := by decide +kernel
theorem dL_law_189 : decode cL_law 189 = .ok (.invokevirtual 26, 3) := by decide +kernel
theorem dL_law_192 : decode cL_law 192 = .ok (.if_icmp .eq 381, 3) := by decide +kernel
theorem dL_law_195 : decode cL_law 195 = .ok (.iconst 0, 1) := by decide +kernel
theorem dL_law_196 : decode cL_law 196 = .ok (.ireturn, 1) := by decide +kernel
theorem dL_law_197 : decode cL_law 197 = .ok (.aload_n 1, 1) := by decide +kernel
theorem dL_law_198 : decode cL_law 198 = .ok (.aload_n 0, 1) := by decide +kernel
theorem dL_law_199 : decode cL_law 199 = .ok (.iload_n 3, 1) := by decide +kernel
theorem dL_law_200 : decode cL_law 200 = .ok (.iconst 1, 1) := by decide +kernel
theorem dL_law_201 : decode cL_law 201 = .ok (.iadd, 1) := by decide +kernel
theorem dL_law_202 : decode cL_law 202 = .ok (.iaload, 1) := by decide +kernel
theorem dL_law_203 : decode cL_law 203 = .ok (.invokevirtual 27, 3) := by decide +kernel
theorem dL_law_206 : decode cL_law 206 = .ok (.aload_n 2, 1) := by decide +kernel
end
section
/-! the law's instructions -/
set_option maxRecDepth 100000
theorem dL_law_207 : decode cL_law 207 = .ok (.aload_n 0, 1) := by decide +kernel
theorem dL_law_208 : decode cL_law 208 = .ok (.iload_n 3, 1) := by decide +kernel
theorem dL_law_209 : decode cL_law 209 = .ok (.iconst 1, 1) := by decide +kernel
theorem dL_law_210 : decode cL_law 210 = .ok (.iadd, 1) := by decide +kernel
theorem dL_law_211 : decode cL_law 211 = .ok (.iaload, 1) := by decide +kernel
theorem dL_law_212 : decode cL_law 212 = .ok (.invokevirtual 31, 3) := by decide +kernel
theorem dL_law_215 : decode cL_law 215 = .ok (.if_icmp .eq 358, 3) := by decide +kernel
theorem dL_law_218 : decode cL_law 218 = .ok (.iconst 0, 1) := by decide +kernel
theorem dL_law_219 : decode cL_law 219 = .ok (.ireturn, 1) := by decide +kernel
theorem dL_law_220 : decode cL_law 220 = .ok (.aload_n 1, 1) := by decide +kernel
theorem dL_law_221 : decode cL_law 221 = .ok (.aload_n 0, 1) := by decide +kernel
theorem dL_law_222 : decode cL_law 222 = .ok (.iload_n 3, 1) := by decide +kernel
theorem dL_law_223 : decode cL_law 223 = .ok (.iconst 1, 1) := by decide +kernel
theorem dL_law_224 : decode cL_law 224 = .ok (.iadd, 1) := by decide +kernel
theorem dL_law_225 : decode cL_law 225 = .ok (.iaload, 1) := by decide +kernel
theorem dL_law_226 : decode cL_law 226 = .ok (.aload_n 0, 1) := by decide +kernel
theorem dL_law_227 : decode cL_law 227 = .ok (.iload_n 3, 1) := by decide +kernel
theorem dL_law_228 : decode cL_law 228 = .ok (.iconst 2, 1) := by decide +kernel
theorem dL_law_229 : decode cL_law 229 = .ok (.iadd, 1) := by decide +kernel
theorem dL_law_230 : decode cL_law 230 = .ok (.iaload, 1) := by decide +kernel
theorem dL_law_231 : decode cL_law 231 = .ok (.invokevirtual 32, 3) := by decide +kernel
theorem dL_law_234 : decode cL_law 234 = .ok (.aload_n 2, 1) := by decide +kernel
theorem dL_law_235 : decode cL_law 235 = .ok (.aload_n 0, 1) := by decide +kernel
theorem dL_law_236 : decode cL_law 236 = .ok (.iload_n 3, 1) := by decide +kernel
theorem dL_law_237 : decode cL_law 237 = .ok (.iconst 1, 1) := by decide +kernel
theorem dL_law_238 : decode cL_law 238 = .ok (.iadd, 1) := by decide +kernel
theorem dL_law_239 : decode cL_law 239 = .ok (.iaload, 1) := by decide +kernel
theorem dL_law_240 : decode cL_law 240 = .ok (.aload_n 0, 1) := by decide +kernel
theorem dL_law_241 : decode cL_law 241 = .ok (.iload_n 3, 1) := by decide +kernel
theorem dL_law_242 : decode cL_law 242 = .ok (.iconst 2, 1) := by decide +kernel
theorem dL_law_243 : decode cL_law 243 = .ok (.iadd, 1) := by decide +kernel
theorem dL_law_244 : decode cL_law 244 = .ok (.iaload, 1) := by decide +kernel
theorem dL_law_245 : decode cL_law 245 = .ok (.invokevirtual 36, 3) := by decide +kernel
theorem dL_law_248 : decode cL_law 248 = .ok (.if_icmp .eq 325, 3) := by decide +kernel
theorem dL_law_251 : decode cL_law 251 = .ok (.iconst 0, 1) := by decide +kernel
theorem dL_law_252 : decode cL_law 252 = .ok (.ireturn, 1) := by decide +kernel
theorem dL_law_253 : decode cL_law 253 = .ok (.aload_n 1, 1) := by decide +kernel
theorem dL_law_254 : decode cL_law 254 = .ok (.aload_n 0, 1) := by decide +kernel
theorem dL_law_255 : decode cL_law 255 = .ok (.iload_n 3, 1) := by decide +kernel
theorem dL_law_256 : decode cL_law 256 = .ok (.iconst 1, 1) := by decide +kernel
theorem dL_law_257 : decode cL_law 257 = .ok (.iadd, 1) := by decide +kernel
theorem dL_law_258 : decode cL_law 258 = .ok (.iaload, 1) := by decide +kernel
theorem dL_law_259 : decode cL_law 259 = .ok (.aload_n 0, 1) := by decide +kernel
theorem dL_law_260 : decode cL_law 260 = .ok (.iload_n 3, 1) := by decide +kernel
theorem dL_law_261 : decode cL_law 261 = .ok (.iconst 2, 1) := by decide +kernel
theorem dL_law_262 : decode cL_law 262 = .ok (.iadd, 1) := by decide +kernel
theorem dL_law_263 : decode cL_law 263 = .ok (.iaload, 1) := by decide +kernel
theorem dL_law_264 : decode cL_law 264 = .ok (.aload_n 0, 1) := by decide +kernel
theorem dL_law_265 : decode cL_law 265 = .ok (.iload_n 3, 1) := by decide +kernel
theorem dL_law_266 : decode cL_law 266 = .ok (.iconst 3, 1) := by decide +kernel
theorem dL_law_267 : decode cL_law 267 = .ok (.iadd, 1) := by decide +kernel
theorem dL_law_268 : decode cL_law 268 = .ok (.iaload, 1) := by decide +kernel
theorem dL_law_269 : decode cL_law 269 = .ok (.invokevirtual 37, 3) := by decide +kernel
theorem dL_law_272 : decode cL_law 272 = .ok (.aload_n 2, 1) := by decide +kernel
theorem dL_law_273 : decode cL_law 273 = .ok (.aload_n 0, 1) := by decide +kernel
theorem dL_law_274 : decode cL_law 274 = .ok (.iload_n 3, 1) := by decide +kernel
theorem dL_law_275 : decode cL_law 275 = .ok (.iconst 1, 1) := by decide +kernel
theorem dL_law_276 : decode cL_law 276 = .ok (.iadd, 1) := by decide +kernel
theorem dL_law_277 : decode cL_law 277 = .ok (.iaload, 1) := by decide +kernel
theorem dL_law_278 : decode cL_law 278 = .ok (.aload_n 0, 1) := by decide +kernel
theorem dL_law_279 : decode cL_law 279 = .ok (.iload_n 3, 1) := by decide +kernel
theorem dL_law_280 : decode cL_law 280 = .ok (.iconst 2, 1) := by decide +kernel
theorem dL_law_281 : decode cL_law 281 = .ok (.iadd, 1) := by decide +kernel
theorem dL_law_282 : decode cL_law 282 = .ok (.iaload, 1) := by decide +kernel
theorem dL_law_283 : decode cL_law 283 = .ok (.aload_n 0, 1) := by decide +kernel
theorem dL_law_284 : decode cL_law 284 = .ok (.iload_n 3, 1) := by decide +kernel
theorem dL_law_285 : decode cL_law 285 = .ok (.iconst 3, 1) := by decide +kernel
theorem dL_law_286 : decode cL_law 286 = .ok (.iadd, 1) := by decide +kernel
theorem dL_law_287 : decode cL_law 287 = .ok (.iaload, 1) := by decide +kernel
theorem dL_law_288 : decode cL_law 288 = .ok (.invokevirtual 41, 3) := by decide +kernel
theorem dL_law_291 : decode cL_law 291 = .ok (.if_icmp .eq 282, 3) := by decide +kernel
theorem dL_law_294 : decode cL_law 294 = .ok (.iconst 0, 1) := by decide +kernel
theorem dL_law_295 : decode cL_law 295 = .ok (.ireturn, 1) := by decide +kernel
theorem dL_law_296 : decode cL_law 296 = .ok (.aload_n 1, 1) := by decide +kernel
theorem dL_law_297 : decode cL_law 297 = .ok (.aload_n 0, 1) := by decide +kernel
theorem dL_law_298 : decode cL_law 298 = .ok (.iload_n 3, 1) := by decide +kernel
theorem dL_law_299 : decode cL_law 299 = .ok (.iconst 1, 1) := by decide +kernel
theorem dL_law_300 : decode cL_law 300 = .ok (.iadd, 1) := by decide +kernel
theorem dL_law_301 : decode cL_law 301 = .ok (.iaload, 1) := by decide +kernel
theorem dL_law_302 : decode cL_law 302 = .ok (.aload_n 0, 1) := by decide +kernel
theorem dL_law_303 : decode cL_law 303 = .ok (.iload_n 3, 1) := by decide +kernel
theorem dL_law_304 : decode cL_law 304 = .ok (.iconst 2, 1) := by decide +kernel
theorem dL_law_305 : decode cL_law 305 = .ok (.iadd, 1) := by decide +kernel
theorem dL_law_306 : decode cL_law 306 = .ok (.iaload, 1) := by decide +kernel
theorem dL_law_307 : decode cL_law 307 = .ok (.aload_n 0, 1) := by decide +kernel
theorem dL_law_308 : decode cL_law 308 = .ok (.iload_n 3, 1) := by decide +kernel
theorem dL_law_309 : decode cL_law 309 = .ok (.iconst 3, 1) := by decide +kernel
theorem dL_law_310 : decode cL_law 310 = .ok (.iadd, 1) := by decide +kernel
theorem dL_law_311 : decode cL_law 311 = .ok (.iaload, 1) := by decide +kernel
theorem dL_law_312 : decode cL_law 312 = .ok (.invokevirtual 42, 3) := by decide +kernel
theorem dL_law_315 : decode cL_law 315 = .ok (.aload_n 2, 1) := by decide +kernel
theorem dL_law_316 : decode cL_law 316 = .ok (.aload_n 0, 1) := by decide +kernel
theorem dL_law_317 : decode cL_law 317 = .ok (.iload_n 3, 1) := by decide +kernel
theorem dL_law_318 : decode cL_law 318 = .ok (.iconst 1, 1) := by decide +kernel
theorem dL_law_319 : decode cL_law 319 = .ok (.iadd, 1) := by decide +kernel
theorem dL_law_320 : decode cL_law 320 = .ok (.iaload, 1) := by decide +kernel
theorem dL_law_321 : decode cL_law 321 = .ok (.aload_n 0, 1) := by decide +kernel
theorem dL_law_322 : decode cL_law 322 = .ok (.iload_n 3, 1) := by decide +kernel
theorem dL_law_323 : decode cL_law 323 = .ok (.iconst 2, 1) := by decide +kernel
theorem dL_law_324 : decode cL_law 324 = .ok (.iadd, 1) := by decide +kernel
theorem dL_law_325 : decode cL_law 325 = .ok (.iaload, 1) := by decide +kernel
end
section
/-! the law's instructions -/
set_option maxRecDepth 100000
theorem dL_law_326 : decode cL_law 326 = .ok (.aload_n 0, 1) := by decide +kernel
theorem dL_law_327 : decode cL_law 327 = .ok (.iload_n 3, 1) := by decide +kernel
theorem dL_law_328 : decode cL_law 328 = .ok (.iconst 3, 1) := by decide +kernel
theorem dL_law_329 : decode cL_law 329 = .ok (.iadd, 1) := by decide +kernel
theorem dL_law_330 : decode cL_law 330 = .ok (.iaload, 1) := by decide +kernel
theorem dL_law_331 : decode cL_law 331 = .ok (.invokevirtual 45, 3) := by decide +kernel
theorem dL_law_334 : decode cL_law 334 = .ok (.if_icmp .eq 239, 3) := by decide +kernel
theorem dL_law_337 : decode cL_law 337 = .ok (.iconst 0, 1) := by decide +kernel
theorem dL_law_338 : decode cL_law 338 = .ok (.ireturn, 1) := by decide +kernel
theorem dL_law_339 : decode cL_law 339 = .ok (.aload_n 1, 1) := by decide +kernel
theorem dL_law_340 : decode cL_law 340 = .ok (.aload_n 0, 1) := by decide +kernel
theorem dL_law_341 : decode cL_law 341 = .ok (.iload_n 3, 1) := by decide +kernel
theorem dL_law_342 : decode cL_law 342 = .ok (.iconst 1, 1) := by decide +kernel
theorem dL_law_343 : decode cL_law 343 = .ok (.iadd, 1) := by decide +kernel
theorem dL_law_344 : decode cL_law 344 = .ok (.iaload, 1) := by decide +kernel
theorem dL_law_345 : decode cL_law 345 = .ok (.aload_n 0, 1) := by decide +kernel
theorem dL_law_346 : decode cL_law 346 = .ok (.iload_n 3, 1) := by decide +kernel
theorem dL_law_347 : decode cL_law 347 = .ok (.iconst 2, 1) := by decide +kernel
theorem dL_law_348 : decode cL_law 348 = .ok (.iadd, 1) := by decide +kernel
theorem dL_law_349 : decode cL_law 349 = .ok (.iaload, 1) := by decide +kernel
theorem dL_law_350 : decode cL_law 350 = .ok (.aload_n 0, 1) := by decide +kernel
theorem dL_law_351 : decode cL_law 351 = .ok (.iload_n 3, 1) := by decide +kernel
theorem dL_law_352 : decode cL_law 352 = .ok (.iconst 3, 1) := by decide +kernel
theorem dL_law_353 : decode cL_law 353 = .ok (.iadd, 1) := by decide +kernel
theorem dL_law_354 : decode cL_law 354 = .ok (.iaload, 1) := by decide +kernel
theorem dL_law_355 : decode cL_law 355 = .ok (.invokevirtual 46, 3) := by decide +kernel
theorem dL_law_358 : decode cL_law 358 = .ok (.aload_n 2, 1) := by decide +kernel
theorem dL_law_359 : decode cL_law 359 = .ok (.aload_n 0, 1) := by decide +kernel
theorem dL_law_360 : decode cL_law 360 = .ok (.iload_n 3, 1) := by decide +kernel
theorem dL_law_361 : decode cL_law 361 = .ok (.iconst 1, 1) := by decide +kernel
theorem dL_law_362 : decode cL_law 362 = .ok (.iadd, 1) := by decide +kernel
theorem dL_law_363 : decode cL_law 363 = .ok (.iaload, 1) := by decide +kernel
theorem dL_law_364 : decode cL_law 364 = .ok (.aload_n 0, 1) := by decide +kernel
theorem dL_law_365 : decode cL_law 365 = .ok (.iload_n 3, 1) := by decide +kernel
theorem dL_law_366 : decode cL_law 366 = .ok (.iconst 2, 1) := by decide +kernel
theorem dL_law_367 : decode cL_law 367 = .ok (.iadd, 1) := by decide +kernel
theorem dL_law_368 : decode cL_law 368 = .ok (.iaload, 1) := by decide +kernel
theorem dL_law_369 : decode cL_law 369 = .ok (.aload_n 0, 1) := by decide +kernel
theorem dL_law_370 : decode cL_law 370 = .ok (.iload_n 3, 1) := by decide +kernel
theorem dL_law_371 : decode cL_law 371 = .ok (.iconst 3, 1) := by decide +kernel
theorem dL_law_372 : decode cL_law 372 = .ok (.iadd, 1) := by decide +kernel
theorem dL_law_373 : decode cL_law 373 = .ok (.iaload, 1) := by decide +kernel
theorem dL_law_374 : decode cL_law 374 = .ok (.invokevirtual 49, 3) := by decide +kernel
theorem dL_law_377 : decode cL_law 377 = .ok (.if_icmp .eq 196, 3) := by decide +kernel
theorem dL_law_380 : decode cL_law 380 = .ok (.iconst 0, 1) := by decide +kernel
theorem dL_law_381 : decode cL_law 381 = .ok (.ireturn, 1) := by decide +kernel
theorem dL_law_382 : decode cL_law 382 = .ok (.aload_n 1, 1) := by decide +kernel
theorem dL_law_383 : decode cL_law 383 = .ok (.aload_n 0, 1) := by decide +kernel
theorem dL_law_384 : decode cL_law 384 = .ok (.iload_n 3, 1) := by decide +kernel
theorem dL_law_385 : decode cL_law 385 = .ok (.iconst 1, 1) := by decide +kernel
theorem dL_law_386 : decode cL_law 386 = .ok (.iadd, 1) := by decide +kernel
theorem dL_law_387 : decode cL_law 387 = .ok (.iaload, 1) := by decide +kernel
theorem dL_law_388 : decode cL_law 388 = .ok (.invokevirtual 50, 3) := by decide +kernel
theorem dL_law_391 : decode cL_law 391 = .ok (.aload_n 2, 1) := by decide +kernel
theorem dL_law_392 : decode cL_law 392 = .ok (.aload_n 0, 1) := by decide +kernel
theorem dL_law_393 : decode cL_law 393 = .ok (.iload_n 3, 1) := by decide +kernel
theorem dL_law_394 : decode cL_law 394 = .ok (.iconst 1, 1) := by decide +kernel
theorem dL_law_395 : decode cL_law 395 = .ok (.iadd, 1) := by decide +kernel
theorem dL_law_396 : decode cL_law 396 = .ok (.iaload, 1) := by decide +kernel
theorem dL_law_397 : decode cL_law 397 = .ok (.invokevirtual 53, 3) := by decide +kernel
theorem dL_law_400 : decode cL_law 400 = .ok (.if_icmp .eq 173, 3) := by decide +kernel
theorem dL_law_403 : decode cL_law 403 = .ok (.iconst 0, 1) := by decide +kernel
theorem dL_law_404 : decode cL_law 404 = .ok (.ireturn, 1) := by decide +kernel
theorem dL_law_405 : decode cL_law 405 = .ok (.aload_n 1, 1) := by decide +kernel
theorem dL_law_406 : decode cL_law 406 = .ok (.aload_n 0, 1) := by decide +kernel
theorem dL_law_407 : decode cL_law 407 = .ok (.iload_n 3, 1) := by decide +kernel
theorem dL_law_408 : decode cL_law 408 = .ok (.iconst 1, 1) := by decide +kernel
theorem dL_law_409 : decode cL_law 409 = .ok (.iadd, 1) := by decide +kernel
theorem dL_law_410 : decode cL_law 410 = .ok (.iaload, 1) := by decide +kernel
theorem dL_law_411 : decode cL_law 411 = .ok (.invokevirtual 54, 3) := by decide +kernel
theorem dL_law_414 : decode cL_law 414 = .ok (.aload_n 2, 1) := by decide +kernel
theorem dL_law_415 : decode cL_law 415 = .ok (.aload_n 0, 1) := by decide +kernel
theorem dL_law_416 : decode cL_law 416 = .ok (.iload_n 3, 1) := by decide +kernel
theorem dL_law_417 : decode cL_law 417 = .ok (.iconst 1, 1) := by decide +kernel
theorem dL_law_418 : decode cL_law 418 = .ok (.iadd, 1) := by decide +kernel
theorem dL_law_419 : decode cL_law 419 = .ok (.iaload, 1) := by decide +kernel
theorem dL_law_420 : decode cL_law 420 = .ok (.invokevirtual 57, 3) := by decide +kernel
theorem dL_law_423 : decode cL_law 423 = .ok (.if_icmp .eq 150, 3) := by decide +kernel
theorem dL_law_426 : decode cL_law 426 = .ok (.iconst 0, 1) := by decide +kernel
theorem dL_law_427 : decode cL_law 427 = .ok (.ireturn, 1) := by decide +kernel
theorem dL_law_428 : decode cL_law 428 = .ok (.aload_n 1, 1) := by decide +kernel
theorem dL_law_429 : decode cL_law 429 = .ok (.aload_n 0, 1) := by decide +kernel
theorem dL_law_430 : decode cL_law 430 = .ok (.iload_n 3, 1) := by decide +kernel
theorem dL_law_431 : decode cL_law 431 = .ok (.iconst 1, 1) := by decide +kernel
theorem dL_law_432 : decode cL_law 432 = .ok (.iadd, 1) := by decide +kernel
theorem dL_law_433 : decode cL_law 433 = .ok (.iaload, 1) := by decide +kernel
theorem dL_law_434 : decode cL_law 434 = .ok (.invokevirtual 58, 3) := by decide +kernel
theorem dL_law_437 : decode cL_law 437 = .ok (.aload_n 2, 1) := by decide +kernel
theorem dL_law_438 : decode cL_law 438 = .ok (.aload_n 0, 1) := by decide +kernel
theorem dL_law_439 : decode cL_law 439 = .ok (.iload_n 3, 1) := by decide +kernel
theorem dL_law_440 : decode cL_law 440 = .ok (.iconst 1, 1) := by decide +kernel
theorem dL_law_441 : decode cL_law 441 = .ok (.iadd, 1) := by decide +kernel
theorem dL_law_442 : decode cL_law 442 = .ok (.iaload, 1) := by decide +kernel
theorem dL_law_443 : decode cL_law 443 = .ok (.invokevirtual 61, 3) := by decide +kernel
theorem dL_law_446 : decode cL_law 446 = .ok (.if_icmp .eq 127, 3) := by decide +kernel
theorem dL_law_449 : decode cL_law 449 = .ok (.iconst 0, 1) := by decide +kernel
theorem dL_law_450 : decode cL_law 450 = .ok (.ireturn, 1) := by decide +kernel
theorem dL_law_451 : decode cL_law 451 = .ok (.aload_n 1, 1) := by decide +kernel
theorem dL_law_452 : decode cL_law 452 = .ok (.aload_n 0, 1) := by decide +kernel
theorem dL_law_453 : decode cL_law 453 = .ok (.iload_n 3, 1) := by decide +kernel
theorem dL_law_454 : decode cL_law 454 = .ok (.iconst 1, 1) := by decide +kernel
end
section
/-! the law's instructions -/
set_option maxRecDepth 100000
theorem dL_law_455 : decode cL_law 455 = .ok (.iadd, 1) := by decide +kernel
theorem dL_law_456 : decode cL_law 456 = .ok (.iaload, 1) := by decide +kernel
theorem dL_law_457 : decode cL_law 457 = .ok (.invokevirtual 62, 3) := by decide +kernel
theorem dL_law_460 : decode cL_law 460 = .ok (.aload_n 2, 1) := by decide +kernel
theorem dL_law_461 : decode cL_law 461 = .ok (.aload_n 0, 1) := by decide +kernel
theorem dL_law_462 : decode cL_law 462 = .ok (.iload_n 3, 1) := by decide +kernel
theorem dL_law_463 : decode cL_law 463 = .ok (.iconst 1, 1) := by decide +kernel
theorem dL_law_464 : decode cL_law 464 = .ok (.iadd, 1) := by decide +kernel
theorem dL_law_465 : decode cL_law 465 = .ok (.iaload, 1) := by decide +kernel
theorem dL_law_466 : decode cL_law 466 = .ok (.invokevirtual 65, 3) := by decide +kernel
theorem dL_law_469 : decode cL_law 469 = .ok (.if_icmp .eq 104, 3) := by decide +kernel
theorem dL_law_472 : decode cL_law 472 = .ok (.iconst 0, 1) := by decide +kernel
theorem dL_law_473 : decode cL_law 473 = .ok (.ireturn, 1) := by decide +kernel
theorem dL_law_474 : decode cL_law 474 = .ok (.aload_n 1, 1) := by decide +kernel
theorem dL_law_475 : decode cL_law 475 = .ok (.aload_n 0, 1) := by decide +kernel
theorem dL_law_476 : decode cL_law 476 = .ok (.iload_n 3, 1) := by decide +kernel
theorem dL_law_477 : decode cL_law 477 = .ok (.iconst 1, 1) := by decide +kernel
theorem dL_law_478 : decode cL_law 478 = .ok (.iadd, 1) := by decide +kernel
theorem dL_law_479 : decode cL_law 479 = .ok (.iaload, 1) := by decide +kernel
theorem dL_law_480 : decode cL_law 480 = .ok (.aload_n 0, 1) := by decide +kernel
theorem dL_law_481 : decode cL_law 481 = .ok (.iload_n 3, 1) := by decide +kernel
theorem dL_law_482 : decode cL_law 482 = .ok (.iconst 2, 1) := by decide +kernel
theorem dL_law_483 : decode cL_law 483 = .ok (.iadd, 1) := by decide +kernel
theorem dL_law_484 : decode cL_law 484 = .ok (.iaload, 1) := by decide +kernel
theorem dL_law_485 : decode cL_law 485 = .ok (.invokevirtual 66, 3) := by decide +kernel
theorem dL_law_488 : decode cL_law 488 = .ok (.aload_n 2, 1) := by decide +kernel
theorem dL_law_489 : decode cL_law 489 = .ok (.aload_n 0, 1) := by decide +kernel
theorem dL_law_490 : decode cL_law 490 = .ok (.iload_n 3, 1) := by decide +kernel
theorem dL_law_491 : decode cL_law 491 = .ok (.iconst 1, 1) := by decide +kernel
theorem dL_law_492 : decode cL_law 492 = .ok (.iadd, 1) := by decide +kernel
theorem dL_law_493 : decode cL_law 493 = .ok (.iaload, 1) := by decide +kernel
theorem dL_law_494 : decode cL_law 494 = .ok (.aload_n 0, 1) := by decide +kernel
theorem dL_law_495 : decode cL_law 495 = .ok (.iload_n 3, 1) := by decide +kernel
theorem dL_law_496 : decode cL_law 496 = .ok (.iconst 2, 1) := by decide +kernel
theorem dL_law_497 : decode cL_law 497 = .ok (.iadd, 1) := by decide +kernel
theorem dL_law_498 : decode cL_law 498 = .ok (.iaload, 1) := by decide +kernel
theorem dL_law_499 : decode cL_law 499 = .ok (.invokevirtual 69, 3) := by decide +kernel
theorem dL_law_502 : decode cL_law 502 = .ok (.if_icmp .eq 71, 3) := by decide +kernel
theorem dL_law_505 : decode cL_law 505 = .ok (.iconst 0, 1) := by decide +kernel
theorem dL_law_506 : decode cL_law 506 = .ok (.ireturn, 1) := by decide +kernel
theorem dL_law_507 : decode cL_law 507 = .ok (.aload_n 1, 1) := by decide +kernel
theorem dL_law_508 : decode cL_law 508 = .ok (.aload_n 0, 1) := by decide +kernel
theorem dL_law_509 : decode cL_law 509 = .ok (.iload_n 3, 1) := by decide +kernel
theorem dL_law_510 : decode cL_law 510 = .ok (.iconst 1, 1) := by decide +kernel
theorem dL_law_511 : decode cL_law 511 = .ok (.iadd, 1) := by decide +kernel
theorem dL_law_512 : decode cL_law 512 = .ok (.iaload, 1) := by decide +kernel
theorem dL_law_513 : decode cL_law 513 = .ok (.aload_n 0, 1) := by decide +kernel
theorem dL_law_514 : decode cL_law 514 = .ok (.iload_n 3, 1) := by decide +kernel
theorem dL_law_515 : decode cL_law 515 = .ok (.iconst 2, 1) := by decide +kernel
theorem dL_law_516 : decode cL_law 516 = .ok (.iadd, 1) := by decide +kernel
theorem dL_law_517 : decode cL_law 517 = .ok (.iaload, 1) := by decide +kernel
theorem dL_law_518 : decode cL_law 518 = .ok (.invokevirtual 70, 3) := by decide +kernel
theorem dL_law_521 : decode cL_law 521 = .ok (.aload_n 2, 1) := by decide +kernel
theorem dL_law_522 : decode cL_law 522 = .ok (.aload_n 0, 1) := by decide +kernel
theorem dL_law_523 : decode cL_law 523 = .ok (.iload_n 3, 1) := by decide +kernel
theorem dL_law_524 : decode cL_law 524 = .ok (.iconst 1, 1) := by decide +kernel
theorem dL_law_525 : decode cL_law 525 = .ok (.iadd, 1) := by decide +kernel
theorem dL_law_526 : decode cL_law 526 = .ok (.iaload, 1) := by decide +kernel
theorem dL_law_527 : decode cL_law 527 = .ok (.aload_n 0, 1) := by decide +kernel
theorem dL_law_528 : decode cL_law 528 = .ok (.iload_n 3, 1) := by decide +kernel
theorem dL_law_529 : decode cL_law 529 = .ok (.iconst 2, 1) := by decide +kernel
theorem dL_law_530 : decode cL_law 530 = .ok (.iadd, 1) := by decide +kernel
theorem dL_law_531 : decode cL_law 531 = .ok (.iaload, 1) := by decide +kernel
theorem dL_law_532 : decode cL_law 532 = .ok (.invokevirtual 73, 3) := by decide +kernel
theorem dL_law_535 : decode cL_law 535 = .ok (.if_icmp .eq 38, 3) := by decide +kernel
theorem dL_law_538 : decode cL_law 538 = .ok (.iconst 0, 1) := by decide +kernel
theorem dL_law_539 : decode cL_law 539 = .ok (.ireturn, 1) := by decide +kernel
theorem dL_law_540 : decode cL_law 540 = .ok (.aload_n 1, 1) := by decide +kernel
theorem dL_law_541 : decode cL_law 541 = .ok (.aload_n 0, 1) := by decide +kernel
theorem dL_law_542 : decode cL_law 542 = .ok (.iload_n 3, 1) := by decide +kernel
theorem dL_law_543 : decode cL_law 543 = .ok (.iconst 1, 1) := by decide +kernel
theorem dL_law_544 : decode cL_law 544 = .ok (.iadd, 1) := by decide +kernel
theorem dL_law_545 : decode cL_law 545 = .ok (.iaload, 1) := by decide +kernel
theorem dL_law_546 : decode cL_law 546 = .ok (.aload_n 0, 1) := by decide +kernel
theorem dL_law_547 : decode cL_law 547 = .ok (.iload_n 3, 1) := by decide +kernel
theorem dL_law_548 : decode cL_law 548 = .ok (.iconst 2, 1) := by decide +kernel
theorem dL_law_549 : decode cL_law 549 = .ok (.iadd, 1) := by decide +kernel
theorem dL_law_550 : decode cL_law 550 = .ok (.iaload, 1) := by decide +kernel
theorem dL_law_551 : decode cL_law 551 = .ok (.invokevirtual 74, 3) := by decide +kernel
theorem dL_law_554 : decode cL_law 554 = .ok (.aload_n 2, 1) := by decide +kernel
theorem dL_law_555 : decode cL_law 555 = .ok (.aload_n 0, 1) := by decide +kernel
theorem dL_law_556 : decode cL_law 556 = .ok (.iload_n 3, 1) := by decide +kernel
theorem dL_law_557 : decode cL_law 557 = .ok (.iconst 1, 1) := by decide +kernel
theorem dL_law_558 : decode cL_law 558 = .ok (.iadd, 1) := by decide +kernel
theorem dL_law_559 : decode cL_law 559 = .ok (.iaload, 1) := by decide +kernel
theorem dL_law_560 : decode cL_law 560 = .ok (.aload_n 0, 1) := by decide +kernel
theorem dL_law_561 : decode cL_law 561 = .ok (.iload_n 3, 1) := by decide +kernel
theorem dL_law_562 : decode cL_law 562 = .ok (.iconst 2, 1) := by decide +kernel
theorem dL_law_563 : decode cL_law 563 = .ok (.iadd, 1) := by decide +kernel
theorem dL_law_564 : decode cL_law 564 = .ok (.iaload, 1) := by decide +kernel
theorem dL_law_565 : decode cL_law 565 = .ok (.invokevirtual 77, 3) := by decide +kernel
theorem dL_law_568 : decode cL_law 568 = .ok (.if_icmp .eq 5, 3) := by decide +kernel
theorem dL_law_571 : decode cL_law 571 = .ok (.iconst 0, 1) := by decide +kernel
theorem dL_law_572 : decode cL_law 572 = .ok (.ireturn, 1) := by decide +kernel
theorem dL_law_573 : decode cL_law 573 = .ok (.iinc 3 4, 3) := by decide +kernel
theorem dL_law_576 : decode cL_law 576 = .ok (.goto (-558), 3) := by decide +kernel
theorem dL_law_579 : decode cL_law 579 = .ok (.iconst 1, 1) := by decide +kernel
theorem dL_law_580 : decode cL_law 580 = .ok (.ireturn, 1) := by decide +kernel
end
section
/-! the law's body -/
set_option maxRecDepth 100000
/-- what is fixed in the law's run: its room, its script -/
def lwF (G : kCx) (A : Nat → Prop) (b L : Nat) (xs : Nat → Int32) : Prop := (kR G = room_1 ∧ kn G = 600000 ∧ kz G = 7290000) ∧ va_X b L xs (ks G) (ks G).heap ∧ b < (ks G).heap.size ∧ ¬ A b ∧ L ≤ 256
abbrev lO : String := "KernelDeskLaw"
abbrev dY (D : va_G) (u : (Nat → Nat) × (Nat → ClassId)) : dL := (D, u)
abbrev lV (G : kCx) (D : va_G) (A : Nat → Prop) (u v : (Nat → Nat) × (Nat → ClassId)) (X : Nat → Nat → Nat) (Z : Nat → Nat → Bool) : Heap → List Loc → Prop := gV G D (dkT (dY D u) ++ mkT (dY D v)) A (dkW (dY D u) X ++ mkW (dY D v) Z)
section LR
variable {cc : ByteArray} {nL : Nat} {own : String} {G : kCx} {pc : Nat} {lv st st0 : List Value} {D : va_G} {A : Nat → Prop} {u v : (Nat → Nat) × (Nat → ClassId)} {X : Nat → Nat → Nat} {Z : Nat → Nat → Bool} {b L i : Nat} {xs : Nat → Int32} {tys : List (ClassId × FieldType)} {ws : va_W}
theorem g_sld (F : lwF G A b L xs) (hi : i < L) (hd : decode cc pc = .ok (.iaload, 1)) (k : J cc nL own G (gV G D tys A ws) (pc + 1) lv (.int (xs i) :: st)) : J cc nL own G (gV G D tys A ws) pc lv (.int (nI i) :: .ref b :: st) := by
  obtain ⟨_, hX, hbl, hbA, hL⟩ := F
  intro Cx H locs ls hV hl
  obtain ⟨hK, hP, hD, hS⟩ := hV
  refine va_sld Cx.1 Cx.2.1 hX hbl hbA hS (vp_in_nI hi (by omega)) hd ?_
  rw [nI_clamp (show i < 2 ^ 31 by omega)]
  exact k Cx H locs ls ⟨hK, hP, hD, hS⟩ hl
theorem g_slen (F : lwF G A b L xs) (hd : decode cc pc = .ok (.arraylength, 1)) (k : J cc nL own G (gV G D tys A ws) (pc + 1) lv (.int (nI L) :: st)) : J cc nL own G (gV G D tys A ws) pc lv (.ref b :: st) := by
  obtain ⟨_, hX, hbl, hbA, hL⟩ := F
  intro Cx H locs ls hV hl
  obtain ⟨hK, hP, hD, hS⟩ := hV
  exact va_slen Cx.1 Cx.2.1 hX hbl hbA hS hd (k Cx H locs ls ⟨hK, hP, hD, hS⟩ hl)
theorem j_tableIn {V : Heap → List Loc → Prop} {dflt lo hi : Int} {offs : Array Int} {len : Nat} {x : Int32} {off : Int} {tgt : Nat} (hd : decode cc pc = .ok (.tableswitch dflt lo hi offs, len)) (h1 : ¬ x.toInt < lo) (h2 : ¬ hi < x.toInt) (ho : offs[(x.toInt - lo).toNat]? = some off) (ht : (pc : Int) + off = (tgt : Int)) (k : J cc nL own G V tgt lv st) : J cc nL own G V pc lv (.int x :: st) :=
  fun C H locs ls hV hl => lv_tableIn C.1 C.2.1 hd h1 h2 ho ht (k C H locs ls hV hl)
theorem j_tableOut {V : Heap → List Loc → Prop} {dflt lo hi : Int} {offs : Array Int} {len : Nat} {x : Int32} {tgt : Nat} (hd : decode cc pc = .ok (.tableswitch dflt lo hi offs, len)) (h : x.toInt < lo ∨ hi < x.toInt) (ht : (pc : Int) + dflt = (tgt : Int)) (k : J cc nL own G V tgt lv st) : J cc nL own G V pc lv (.int x :: st) :=
  fun C H locs ls hV hl => lv_tableOut C.1 C.2.1 hd h ht (k C H locs ls hV hl)
/-- an argument of a call: script[i + j] -/
theorem l_arg {a1 a2 : Nat} {j : Nat} {jz : Int} (hj : Int32.ofInt jz = nI j) (F : lwF G A b L xs) (hi : i + j < L) (d0 : decode cc pc = .ok (.aload_n 0, 1)) (d1 : decode cc (pc + 1) = .ok (.iload_n 3, 1)) (d2 : decode cc (pc + 2) = .ok (.iconst jz, 1)) (d3 : decode cc (pc + 3) = .ok (.iadd, 1)) (d4 : decode cc (pc + 4) = .ok (.iaload, 1)) (k : J cc nL own G (gV G D tys A ws) (pc + 5) [.ref b, .ref a1, .ref a2, .int (nI i)] (.int (xs (i + j)) :: st)) : J cc nL own G (gV G D tys A ws) pc [.ref b, .ref a1, .ref a2, .int (nI i)] st :=
  j_aload_n d0 (i := 0) rfl rfl (j_iload_n d1 (i := 3) rfl rfl (j_iconst d2 hj (n_iadd d3 (g_sld F hi d4 k))))
theorem l_room (F : lwF G A b L xs) {k' maxL : Nat} (hk : k' + 1 ≤ 7 ∧ 8 + (maxL + 11) + 30 * k' ≤ 242) : (k' + 1 ≤ (kR G).frames ∧ 8 + (maxL + 11) + 30 * k' ≤ (kR G).locals) ∧ kn G ≤ (kR G).cells ∧ kz G ≤ (kR G).slots := by
  obtain ⟨⟨h1, h2, h3⟩, _⟩ := F
  rw [h1, h2, h3]
  exact ⟨hk, Nat.le_refl _, Nat.le_refl _⟩
theorem l_callD {y : MethodName} {bytes : ByteArray} {maxL : Nat} {ret : Option FieldType} {k' idx : Nat} {As : List Value} {post : Int32 → (Nat → Nat → Nat) → Prop} (F : lwF G A b L xs) (hM : dMi (kl G) y bytes maxL ret k' (dY D u) As X post) (hk : k' + 1 ≤ 7 ∧ 8 + (maxL + 11) + 30 * k' ≤ 242) (hd : decode cc pc = .ok (.invokevirtual idx, 3)) (hg : cpV own idx RX0 y bytes maxL ret As.length) (hst : (st.map fun v => v.category).sum ≤ 8) (hs0 : st0 = As.reverse ++ .ref (u.1 0) :: st)
    (kk : ∀ (r : Int32) (X' : Nat → Nat → Nat), post r X' → J cc nL own G (lV G D A u v X' Z) (pc + 3) lv (.int r :: st)) : J cc nL own G (lV G D A u v X Z) pc lv st0 :=
  g_callVi (D := D) (tysC := dkT (dY D u)) (w := dkW (dY D u)) (l1 := []) (l2 := mkW (dY D v) Z) (ws' := fun X' => dkW (dY D u) X' ++ mkW (dY D v) Z) hM hd hg.1 hg.2 (l_room F hk).1 (l_room F hk).2 hst hs0 (fun X' => dk_fst (dY D u) X X') rfl (fun X' => rfl) (fun q h => List.mem_append_left _ h) (q0 := 0) (ci := 0) rfl rfl rfl kk
theorem l_callM {y : MethodName} {bytes : ByteArray} {maxL : Nat} {ret : Option FieldType} {k' idx : Nat} {As : List Value} {post : Int32 → (Nat → Nat → Bool) → Prop} (F : lwF G A b L xs) (hM : mMi (kl G) y bytes maxL ret k' (dY D v) As Z post) (hk : k' + 1 ≤ 7 ∧ 8 + (maxL + 11) + 30 * k' ≤ 242) (hd : decode cc pc = .ok (.invokevirtual idx, 3)) (hg : cpV own idx RX1 y bytes maxL ret As.length) (hst : (st.map fun v => v.category).sum ≤ 8) (hs0 : st0 = As.reverse ++ .ref (v.1 0) :: st)
    (kk : ∀ (r : Int32) (Z' : Nat → Nat → Bool), post r Z' → J cc nL own G (lV G D A u v X Z') (pc + 3) lv (.int r :: st)) : J cc nL own G (lV G D A u v X Z) pc lv st0 :=
  g_callVi (D := D) (tysC := mkT (dY D v)) (w := mkW (dY D v)) (l1 := dkW (dY D u) X) (l2 := []) (ws' := fun Z' => dkW (dY D u) X ++ mkW (dY D v) Z') hM hd hg.1 hg.2 (l_room F hk).1 (l_room F hk).2 hst hs0 (fun Z' => mk_fst (dY D v) Z Z') (List.append_nil _).symm (fun Z' => (List.append_nil _).symm) (fun q h => List.mem_append_right _ h) (q0 := 0) (ci := 1) rfl rfl rfl kk
end LR
theorem and15 (x : Int32) : ∃ n, n < 16 ∧ x &&& 15 = nI n := by
  refine ⟨x.toBitVec.toNat &&& 15, Nat.lt_of_le_of_lt Nat.and_le_right (by decide), ?_⟩
  apply Int32.toBitVec_inj.1
  show x.toBitVec &&& 15#32 = BitVec.ofNat 32 (x.toBitVec.toNat &&& 15)
  apply BitVec.eq_of_toNat_eq
  rw [BitVec.toNat_and]
  show x.toBitVec.toNat &&& 15 = (x.toBitVec.toNat &&& 15) % 2 ^ 32
  exact (Nat.mod_eq_of_lt (Nat.lt_of_le_of_lt Nat.and_le_right (by decide))).symm
theorem lw_more {L i : Nat} (hL : L ≤ 256) (hi : i ≤ L) (h : ¬ (nI L - nI 4 < nI i)) : i + 4 ≤ L := by
  rw [Int32.lt_iff_toInt_lt, pk_sub_toInt (by omega) (by omega), nI_toInt (by omega)] at h
  omega
set_option maxHeartbeats 4000000 in
theorem law_put {G : kCx} {D : va_G} {A : Nat → Prop} {u v : (Nat → Nat) × (Nat → ClassId)} {X : Nat → Nat → Nat} {Z : Nat → Nat → Bool} {b L i : Nat} {xs : Nat → Int32} (F : lwF G A b L xs) (hi : i + 4 ≤ L) (h : Rel X Z) (next : ∀ X' Z', Rel X' Z' → J cL_law 4 lO G (lV G D A u v X' Z') 573 [.ref b, .ref (u.1 0), .ref (v.1 0), .int (nI i)] []) : J cL_law 4 lO G (lV G D A u v X Z) 108 [.ref b, .ref (u.1 0), .ref (v.1 0), .int (nI i)] [] := by
  refine j_aload_n (pc := 108) (i := 1) dL_law_108 rfl rfl ?_
  refine l_arg (pc := 109) (j := 1) (by decide) F (by omega) dL_law_109 dL_law_110 dL_law_111 dL_law_112 dL_law_113 ?_
  refine l_arg (pc := 114) (j := 2) (by decide) F (by omega) dL_law_114 dL_law_115 dL_law_116 dL_law_117 dL_law_118 ?_
  refine l_callD (pc := 119) (st := []) F (met_put (kl G) (dY D u) X (xs (i + 1)) (xs (i + 2)) h.1.ok) ⟨by decide, by decide⟩ dL_law_119 cpL_X0_put (Nat.le_of_ble_eq_true rfl) rfl (fun r X' h1 => ?_)
  refine j_aload_n (pc := 122) (i := 2) dL_law_122 rfl rfl ?_
  refine l_arg (pc := 123) (j := 1) (by decide) F (by omega) dL_law_123 dL_law_124 dL_law_125 dL_law_126 dL_law_127 ?_
  refine l_arg (pc := 128) (j := 2) (by decide) F (by omega) dL_law_128 dL_law_129 dL_law_130 dL_law_131 dL_law_132 ?_
  refine l_callM (pc := 133) (st := [.int r]) F (met_mput (kl G) (dY D v) Z (xs (i + 1)) (xs (i + 2)) ) ⟨by decide, by decide⟩ dL_law_133 cpL_X1_put (Nat.le_of_ble_eq_true rfl) rfl (fun r' Z' h2 => ?_)
  obtain ⟨e1, hR⟩ := ag_put h h1 h2
  exact j_icmp_eq (pc := 136) (tgt := 573) dL_law_136 (by decide) (fun _ => next X' Z' hR) (fun z => absurd e1 z)
set_option maxHeartbeats 4000000 in
theorem law_take {G : kCx} {D : va_G} {A : Nat → Prop} {u v : (Nat → Nat) × (Nat → ClassId)} {X : Nat → Nat → Nat} {Z : Nat → Nat → Bool} {b L i : Nat} {xs : Nat → Int32} (F : lwF G A b L xs) (hi : i + 4 ≤ L) (h : Rel X Z) (next : ∀ X' Z', Rel X' Z' → J cL_law 4 lO G (lV G D A u v X' Z') 573 [.ref b, .ref (u.1 0), .ref (v.1 0), .int (nI i)] []) : J cL_law 4 lO G (lV G D A u v X Z) 141 [.ref b, .ref (u.1 0), .ref (v.1 0), .int (nI i)] [] := by
  refine j_aload_n (pc := 141) (i := 1) dL_law_141 rfl rfl ?_
  refine l_arg (pc := 142) (j := 1) (by decide) F (by omega) dL_law_142 dL_law_143 dL_law_144 dL_law_145 dL_law_146 ?_
  refine l_arg (pc := 147) (j := 2) (by decide) F (by omega) dL_law_147 dL_law_148 dL_law_149 dL_law_150 dL_law_151 ?_
  refine l_callD (pc := 152) (st := []) F (met_take (kl G) (dY D u) X (xs (i + 1)) (xs (i + 2)) h.1.ok) ⟨by decide, by decide⟩ dL_law_152 cpL_X0_take (Nat.le_of_ble_eq_true rfl) rfl (fun r X' h1 => ?_)
  refine j_aload_n (pc := 155) (i := 2) dL_law_155 rfl rfl ?_
  refine l_arg (pc := 156) (j := 1) (by decide) F (by omega) dL_law_156 dL_law_157 dL_law_158 dL_law_159 dL_law_160 ?_
  refine l_arg (pc := 161) (j := 2) (by decide) F (by omega) dL_law_161 dL_law_162 dL_law_163 dL_law_164 dL_law_165 ?_
  refine l_callM (pc := 166) (st := [.int r]) F (met_mtake (kl G) (dY D v) Z (xs (i + 1)) (xs (i + 2)) ) ⟨by decide, by decide⟩ dL_law_166 cpL_X1_take (Nat.le_of_ble_eq_true rfl) rfl (fun r' Z' h2 => ?_)
  obtain ⟨e1, hR⟩ := ag_take h h1 h2
  exact j_icmp_eq (pc := 169) (tgt := 573) dL_law_169 (by decide) (fun _ => next X' Z' hR) (fun z => absurd e1 z)
set_option maxHeartbeats 4000000 in
theorem law_clear {G : kCx} {D : va_G} {A : Nat → Prop} {u v : (Nat → Nat) × (Nat → ClassId)} {X : Nat → Nat → Nat} {Z : Nat → Nat → Bool} {b L i : Nat} {xs : Nat → Int32} (F : lwF G A b L xs) (hi : i + 4 ≤ L) (h : Rel X Z) (next : ∀ X' Z', Rel X' Z' → J cL_law 4 lO G (lV G D A u v X' Z') 573 [.ref b, .ref (u.1 0), .ref (v.1 0), .int (nI i)] []) : J cL_law 4 lO G (lV G D A u v X Z) 174 [.ref b, .ref (u.1 0), .ref (v.1 0), .int (nI i)] [] := by
  refine j_aload_n (pc := 174) (i := 1) dL_law_174 rfl rfl ?_
  refine l_arg (pc := 175) (j := 1) (by decide) F (by omega) dL_law_175 dL_law_176 dL_law_177 dL_law_178 dL_law_179 ?_
  refine l_callD (pc := 180) (st := []) F (met_clear (kl G) (dY D u) X (xs (i + 1)) ) ⟨by decide, by decide⟩ dL_law_180 cpL_X0_clear (Nat.le_of_ble_eq_true rfl) rfl (fun r X' h1 => ?_)
  refine j_aload_n (pc := 183) (i := 2) dL_law_183 rfl rfl ?_
  refine l_arg (pc := 184) (j := 1) (by decide) F (by omega) dL_law_184 dL_law_185 dL_law_186 dL_law_187 dL_law_188 ?_
  refine l_callM (pc := 189) (st := [.int r]) F (met_mclear (kl G) (dY D v) Z (xs (i + 1)) ) ⟨by decide, by decide⟩ dL_law_189 cpL_X1_clear (Nat.le_of_ble_eq_true rfl) rfl (fun r' Z' h2 => ?_)
  obtain ⟨e1, hR⟩ := ag_clear h h1 h2
  exact j_icmp_eq (pc := 192) (tgt := 573) dL_law_192 (by decide) (fun _ => next X' Z' hR) (fun z => absurd e1 z)
set_option maxHeartbeats 4000000 in
theorem law_size {G : kCx} {D : va_G} {A : Nat → Prop} {u v : (Nat → Nat) × (Nat → ClassId)} {X : Nat → Nat → Nat} {Z : Nat → Nat → Bool} {b L i : Nat} {xs : Nat → Int32} (F : lwF G A b L xs) (hi : i + 4 ≤ L) (h : Rel X Z) (next : ∀ X' Z', Rel X' Z' → J cL_law 4 lO G (lV G D A u v X' Z') 573 [.ref b, .ref (u.1 0), .ref (v.1 0), .int (nI i)] []) : J cL_law 4 lO G (lV G D A u v X Z) 197 [.ref b, .ref (u.1 0), .ref (v.1 0), .int (nI i)] [] := by
  refine j_aload_n (pc := 197) (i := 1) dL_law_197 rfl rfl ?_
  refine l_arg (pc := 198) (j := 1) (by decide) F (by omega) dL_law_198 dL_law_199 dL_law_200 dL_law_201 dL_law_202 ?_
  refine l_callD (pc := 203) (st := []) F (met_size (kl G) (dY D u) X (xs (i + 1)) ) ⟨by decide, by decide⟩ dL_law_203 cpL_X0_size (Nat.le_of_ble_eq_true rfl) rfl (fun r X' h1 => ?_)
  refine j_aload_n (pc := 206) (i := 2) dL_law_206 rfl rfl ?_
  refine l_arg (pc := 207) (j := 1) (by decide) F (by omega) dL_law_207 dL_law_208 dL_law_209 dL_law_210 dL_law_211 ?_
  refine l_callM (pc := 212) (st := [.int r]) F (met_msize (kl G) (dY D v) Z (xs (i + 1)) ) ⟨by decide, by decide⟩ dL_law_212 cpL_X1_size (Nat.le_of_ble_eq_true rfl) rfl (fun r' Z' h2 => ?_)
  obtain ⟨e1, hR⟩ := ag_size h h1 h2
  exact j_icmp_eq (pc := 215) (tgt := 573) dL_law_215 (by decide) (fun _ => next X' Z' hR) (fun z => absurd e1 z)
set_option maxHeartbeats 4000000 in
theorem law_cube {G : kCx} {D : va_G} {A : Nat → Prop} {u v : (Nat → Nat) × (Nat → ClassId)} {X : Nat → Nat → Nat} {Z : Nat → Nat → Bool} {b L i : Nat} {xs : Nat → Int32} (F : lwF G A b L xs) (hi : i + 4 ≤ L) (h : Rel X Z) (next : ∀ X' Z', Rel X' Z' → J cL_law 4 lO G (lV G D A u v X' Z') 573 [.ref b, .ref (u.1 0), .ref (v.1 0), .int (nI i)] []) : J cL_law 4 lO G (lV G D A u v X Z) 220 [.ref b, .ref (u.1 0), .ref (v.1 0), .int (nI i)] [] := by
  refine j_aload_n (pc := 220) (i := 1) dL_law_220 rfl rfl ?_
  refine l_arg (pc := 221) (j := 1) (by decide) F (by omega) dL_law_221 dL_law_222 dL_law_223 dL_law_224 dL_law_225 ?_
  refine l_arg (pc := 226) (j := 2) (by decide) F (by omega) dL_law_226 dL_law_227 dL_law_228 dL_law_229 dL_law_230 ?_
  refine l_callD (pc := 231) (st := []) F (met_cube (kl G) (dY D u) X (xs (i + 1)) (xs (i + 2)) h.1.ok) ⟨by decide, by decide⟩ dL_law_231 cpL_X0_cube (Nat.le_of_ble_eq_true rfl) rfl (fun r X' h1 => ?_)
  refine j_aload_n (pc := 234) (i := 2) dL_law_234 rfl rfl ?_
  refine l_arg (pc := 235) (j := 1) (by decide) F (by omega) dL_law_235 dL_law_236 dL_law_237 dL_law_238 dL_law_239 ?_
  refine l_arg (pc := 240) (j := 2) (by decide) F (by omega) dL_law_240 dL_law_241 dL_law_242 dL_law_243 dL_law_244 ?_
  refine l_callM (pc := 245) (st := [.int r]) F (met_mcube (kl G) (dY D v) Z (xs (i + 1)) (xs (i + 2)) ) ⟨by decide, by decide⟩ dL_law_245 cpL_X1_cube (Nat.le_of_ble_eq_true rfl) rfl (fun r' Z' h2 => ?_)
  obtain ⟨e1, hR⟩ := ag_cube h h1 h2
  exact j_icmp_eq (pc := 248) (tgt := 573) dL_law_248 (by decide) (fun _ => next X' Z' hR) (fun z => absurd e1 z)
set_option maxHeartbeats 4000000 in
theorem law_divideBy {G : kCx} {D : va_G} {A : Nat → Prop} {u v : (Nat → Nat) × (Nat → ClassId)} {X : Nat → Nat → Nat} {Z : Nat → Nat → Bool} {b L i : Nat} {xs : Nat → Int32} (F : lwF G A b L xs) (hi : i + 4 ≤ L) (h : Rel X Z) (next : ∀ X' Z', Rel X' Z' → J cL_law 4 lO G (lV G D A u v X' Z') 573 [.ref b, .ref (u.1 0), .ref (v.1 0), .int (nI i)] []) : J cL_law 4 lO G (lV G D A u v X Z) 253 [.ref b, .ref (u.1 0), .ref (v.1 0), .int (nI i)] [] := by
  refine j_aload_n (pc := 253) (i := 1) dL_law_253 rfl rfl ?_
  refine l_arg (pc := 254) (j := 1) (by decide) F (by omega) dL_law_254 dL_law_255 dL_law_256 dL_law_257 dL_law_258 ?_
  refine l_arg (pc := 259) (j := 2) (by decide) F (by omega) dL_law_259 dL_law_260 dL_law_261 dL_law_262 dL_law_263 ?_
  refine l_arg (pc := 264) (j := 3) (by decide) F (by omega) dL_law_264 dL_law_265 dL_law_266 dL_law_267 dL_law_268 ?_
  refine l_callD (pc := 269) (st := []) F (met_divideBy (kl G) (dY D u) X (xs (i + 1)) (xs (i + 2)) (xs (i + 3)) h.1) ⟨by decide, by decide⟩ dL_law_269 cpL_X0_divideBy (Nat.le_of_ble_eq_true rfl) rfl (fun r X' h1 => ?_)
  refine j_aload_n (pc := 272) (i := 2) dL_law_272 rfl rfl ?_
  refine l_arg (pc := 273) (j := 1) (by decide) F (by omega) dL_law_273 dL_law_274 dL_law_275 dL_law_276 dL_law_277 ?_
  refine l_arg (pc := 278) (j := 2) (by decide) F (by omega) dL_law_278 dL_law_279 dL_law_280 dL_law_281 dL_law_282 ?_
  refine l_arg (pc := 283) (j := 3) (by decide) F (by omega) dL_law_283 dL_law_284 dL_law_285 dL_law_286 dL_law_287 ?_
  refine l_callM (pc := 288) (st := [.int r]) F (met_mdivideBy (kl G) (dY D v) Z (xs (i + 1)) (xs (i + 2)) (xs (i + 3)) ) ⟨by decide, by decide⟩ dL_law_288 cpL_X1_divideBy (Nat.le_of_ble_eq_true rfl) rfl (fun r' Z' h2 => ?_)
  obtain ⟨e1, hR⟩ := ag_divideBy h h1 h2
  exact j_icmp_eq (pc := 291) (tgt := 573) dL_law_291 (by decide) (fun _ => next X' Z' hR) (fun z => absurd e1 z)
set_option maxHeartbeats 4000000 in
theorem law_divide {G : kCx} {D : va_G} {A : Nat → Prop} {u v : (Nat → Nat) × (Nat → ClassId)} {X : Nat → Nat → Nat} {Z : Nat → Nat → Bool} {b L i : Nat} {xs : Nat → Int32} (F : lwF G A b L xs) (hi : i + 4 ≤ L) (h : Rel X Z) (next : ∀ X' Z', Rel X' Z' → J cL_law 4 lO G (lV G D A u v X' Z') 573 [.ref b, .ref (u.1 0), .ref (v.1 0), .int (nI i)] []) : J cL_law 4 lO G (lV G D A u v X Z) 296 [.ref b, .ref (u.1 0), .ref (v.1 0), .int (nI i)] [] := by
  refine j_aload_n (pc := 296) (i := 1) dL_law_296 rfl rfl ?_
  refine l_arg (pc := 297) (j := 1) (by decide) F (by omega) dL_law_297 dL_law_298 dL_law_299 dL_law_300 dL_law_301 ?_
  refine l_arg (pc := 302) (j := 2) (by decide) F (by omega) dL_law_302 dL_law_303 dL_law_304 dL_law_305 dL_law_306 ?_
  refine l_arg (pc := 307) (j := 3) (by decide) F (by omega) dL_law_307 dL_law_308 dL_law_309 dL_law_310 dL_law_311 ?_
  refine l_callD (pc := 312) (st := []) F (met_divide (kl G) (dY D u) X (xs (i + 1)) (xs (i + 2)) (xs (i + 3)) h.1) ⟨by decide, by decide⟩ dL_law_312 cpL_X0_divide (Nat.le_of_ble_eq_true rfl) rfl (fun r X' h1 => ?_)
  refine j_aload_n (pc := 315) (i := 2) dL_law_315 rfl rfl ?_
  refine l_arg (pc := 316) (j := 1) (by decide) F (by omega) dL_law_316 dL_law_317 dL_law_318 dL_law_319 dL_law_320 ?_
  refine l_arg (pc := 321) (j := 2) (by decide) F (by omega) dL_law_321 dL_law_322 dL_law_323 dL_law_324 dL_law_325 ?_
  refine l_arg (pc := 326) (j := 3) (by decide) F (by omega) dL_law_326 dL_law_327 dL_law_328 dL_law_329 dL_law_330 ?_
  refine l_callM (pc := 331) (st := [.int r]) F (met_mdivide (kl G) (dY D v) Z (xs (i + 1)) (xs (i + 2)) (xs (i + 3)) ) ⟨by decide, by decide⟩ dL_law_331 cpL_X1_divide (Nat.le_of_ble_eq_true rfl) rfl (fun r' Z' h2 => ?_)
  obtain ⟨e1, hR⟩ := ag_div (L := qlist X) (q := wq Z) h (fun f g hf hg h0 x hx => wq_iff h hf hg h0 hx) h1 h2
  exact j_icmp_eq (pc := 334) (tgt := 573) dL_law_334 (by decide) (fun _ => next X' Z' hR) (fun z => absurd e1 z)
set_option maxHeartbeats 4000000 in
theorem law_rest {G : kCx} {D : va_G} {A : Nat → Prop} {u v : (Nat → Nat) × (Nat → ClassId)} {X : Nat → Nat → Nat} {Z : Nat → Nat → Bool} {b L i : Nat} {xs : Nat → Int32} (F : lwF G A b L xs) (hi : i + 4 ≤ L) (h : Rel X Z) (next : ∀ X' Z', Rel X' Z' → J cL_law 4 lO G (lV G D A u v X' Z') 573 [.ref b, .ref (u.1 0), .ref (v.1 0), .int (nI i)] []) : J cL_law 4 lO G (lV G D A u v X Z) 339 [.ref b, .ref (u.1 0), .ref (v.1 0), .int (nI i)] [] := by
  refine j_aload_n (pc := 339) (i := 1) dL_law_339 rfl rfl ?_
  refine l_arg (pc := 340) (j := 1) (by decide) F (by omega) dL_law_340 dL_law_341 dL_law_342 dL_law_343 dL_law_344 ?_
  refine l_arg (pc := 345) (j := 2) (by decide) F (by omega) dL_law_345 dL_law_346 dL_law_347 dL_law_348 dL_law_349 ?_
  refine l_arg (pc := 350) (j := 3) (by decide) F (by omega) dL_law_350 dL_law_351 dL_law_352 dL_law_353 dL_law_354 ?_
  refine l_callD (pc := 355) (st := []) F (met_rest (kl G) (dY D u) X (xs (i + 1)) (xs (i + 2)) (xs (i + 3)) h.1) ⟨by decide, by decide⟩ dL_law_355 cpL_X0_rest (Nat.le_of_ble_eq_true rfl) rfl (fun r X' h1 => ?_)
  refine j_aload_n (pc := 358) (i := 2) dL_law_358 rfl rfl ?_
  refine l_arg (pc := 359) (j := 1) (by decide) F (by omega) dL_law_359 dL_law_360 dL_law_361 dL_law_362 dL_law_363 ?_
  refine l_arg (pc := 364) (j := 2) (by decide) F (by omega) dL_law_364 dL_law_365 dL_law_366 dL_law_367 dL_law_368 ?_
  refine l_arg (pc := 369) (j := 3) (by decide) F (by omega) dL_law_369 dL_law_370 dL_law_371 dL_law_372 dL_law_373 ?_
  refine l_callM (pc := 374) (st := [.int r]) F (met_mrest (kl G) (dY D v) Z (xs (i + 1)) (xs (i + 2)) (xs (i + 3)) ) ⟨by decide, by decide⟩ dL_law_374 cpL_X1_rest (Nat.le_of_ble_eq_true rfl) rfl (fun r' Z' h2 => ?_)
  obtain ⟨e1, hR⟩ := ag_div (L := rlist X) (q := wl Z) h (fun f g hf hg h0 x hx => wl_iff h hf hg h0 hx) h1 h2
  exact j_icmp_eq (pc := 377) (tgt := 573) dL_law_377 (by decide) (fun _ => next X' Z' hR) (fun z => absurd e1 z)
set_option maxHeartbeats 4000000 in
theorem law_common {G : kCx} {D : va_G} {A : Nat → Prop} {u v : (Nat → Nat) × (Nat → ClassId)} {X : Nat → Nat → Nat} {Z : Nat → Nat → Bool} {b L i : Nat} {xs : Nat → Int32} (F : lwF G A b L xs) (hi : i + 4 ≤ L) (h : Rel X Z) (next : ∀ X' Z', Rel X' Z' → J cL_law 4 lO G (lV G D A u v X' Z') 573 [.ref b, .ref (u.1 0), .ref (v.1 0), .int (nI i)] []) : J cL_law 4 lO G (lV G D A u v X Z) 382 [.ref b, .ref (u.1 0), .ref (v.1 0), .int (nI i)] [] := by
  refine j_aload_n (pc := 382) (i := 1) dL_law_382 rfl rfl ?_
  refine l_arg (pc := 383) (j := 1) (by decide) F (by omega) dL_law_383 dL_law_384 dL_law_385 dL_law_386 dL_law_387 ?_
  refine l_callD (pc := 388) (st := []) F (met_common (kl G) (dY D u) X (xs (i + 1)) h.1) ⟨by decide, by decide⟩ dL_law_388 cpL_X0_common (Nat.le_of_ble_eq_true rfl) rfl (fun r X' h1 => ?_)
  refine j_aload_n (pc := 391) (i := 2) dL_law_391 rfl rfl ?_
  refine l_arg (pc := 392) (j := 1) (by decide) F (by omega) dL_law_392 dL_law_393 dL_law_394 dL_law_395 dL_law_396 ?_
  refine l_callM (pc := 397) (st := [.int r]) F (met_mcommon (kl G) (dY D v) Z (xs (i + 1)) ) ⟨by decide, by decide⟩ dL_law_397 cpL_X1_common (Nat.le_of_ble_eq_true rfl) rfl (fun r' Z' h2 => ?_)
  obtain ⟨e1, hR⟩ := ag_common h h1 h2
  exact j_icmp_eq (pc := 400) (tgt := 573) dL_law_400 (by decide) (fun _ => next X' Z' hR) (fun z => absurd e1 z)
set_option maxHeartbeats 4000000 in
theorem law_free {G : kCx} {D : va_G} {A : Nat → Prop} {u v : (Nat → Nat) × (Nat → ClassId)} {X : Nat → Nat → Nat} {Z : Nat → Nat → Bool} {b L i : Nat} {xs : Nat → Int32} (F : lwF G A b L xs) (hi : i + 4 ≤ L) (h : Rel X Z) (next : ∀ X' Z', Rel X' Z' → J cL_law 4 lO G (lV G D A u v X' Z') 573 [.ref b, .ref (u.1 0), .ref (v.1 0), .int (nI i)] []) : J cL_law 4 lO G (lV G D A u v X Z) 405 [.ref b, .ref (u.1 0), .ref (v.1 0), .int (nI i)] [] := by
  refine j_aload_n (pc := 405) (i := 1) dL_law_405 rfl rfl ?_
  refine l_arg (pc := 406) (j := 1) (by decide) F (by omega) dL_law_406 dL_law_407 dL_law_408 dL_law_409 dL_law_410 ?_
  refine l_callD (pc := 411) (st := []) F (met_free (kl G) (dY D u) X (xs (i + 1)) h.1) ⟨by decide, by decide⟩ dL_law_411 cpL_X0_free (Nat.le_of_ble_eq_true rfl) rfl (fun r X' h1 => ?_)
  refine j_aload_n (pc := 414) (i := 2) dL_law_414 rfl rfl ?_
  refine l_arg (pc := 415) (j := 1) (by decide) F (by omega) dL_law_415 dL_law_416 dL_law_417 dL_law_418 dL_law_419 ?_
  refine l_callM (pc := 420) (st := [.int r]) F (met_mfree (kl G) (dY D v) Z (xs (i + 1)) ) ⟨by decide, by decide⟩ dL_law_420 cpL_X1_free (Nat.le_of_ble_eq_true rfl) rfl (fun r' Z' h2 => ?_)
  obtain ⟨e1, hR⟩ := ag_free h h1 h2
  exact j_icmp_eq (pc := 423) (tgt := 573) dL_law_423 (by decide) (fun _ => next X' Z' hR) (fun z => absurd e1 z)
set_option maxHeartbeats 4000000 in
theorem law_kernels {G : kCx} {D : va_G} {A : Nat → Prop} {u v : (Nat → Nat) × (Nat → ClassId)} {X : Nat → Nat → Nat} {Z : Nat → Nat → Bool} {b L i : Nat} {xs : Nat → Int32} (F : lwF G A b L xs) (hi : i + 4 ≤ L) (h : Rel X Z) (next : ∀ X' Z', Rel X' Z' → J cL_law 4 lO G (lV G D A u v X' Z') 573 [.ref b, .ref (u.1 0), .ref (v.1 0), .int (nI i)] []) : J cL_law 4 lO G (lV G D A u v X Z) 428 [.ref b, .ref (u.1 0), .ref (v.1 0), .int (nI i)] [] := by
  refine j_aload_n (pc := 428) (i := 1) dL_law_428 rfl rfl ?_
  refine l_arg (pc := 429) (j := 1) (by decide) F (by omega) dL_law_429 dL_law_430 dL_law_431 dL_law_432 dL_law_433 ?_
  refine l_callD (pc := 434) (st := []) F (met_kernels (kl G) (dY D u) X (xs (i + 1)) h.1) ⟨by decide, by decide⟩ dL_law_434 cpL_X0_kernels (Nat.le_of_ble_eq_true rfl) rfl (fun r X' h1 => ?_)
  refine j_aload_n (pc := 437) (i := 2) dL_law_437 rfl rfl ?_
  refine l_arg (pc := 438) (j := 1) (by decide) F (by omega) dL_law_438 dL_law_439 dL_law_440 dL_law_441 dL_law_442 ?_
  refine l_callM (pc := 443) (st := [.int r]) F (met_mkernels (kl G) (dY D v) Z (xs (i + 1)) ) ⟨by decide, by decide⟩ dL_law_443 cpL_X1_kernels (Nat.le_of_ble_eq_true rfl) rfl (fun r' Z' h2 => ?_)
  obtain ⟨e1, hR⟩ := ag_cokernels (p := fun e c => Al (gr X e) (X 1 e) c ∧ ∀ d, d < c → Al (gr X e) (X 1 e) d → ¬ SK (gr X e) (X 1 e) c d) (q := kf Z) h (fun e c he hc => kf_iff h he hc) h1 h2
  exact j_icmp_eq (pc := 446) (tgt := 573) dL_law_446 (by decide) (fun _ => next X' Z' hR) (fun z => absurd e1 z)
set_option maxHeartbeats 4000000 in
theorem law_cokernels {G : kCx} {D : va_G} {A : Nat → Prop} {u v : (Nat → Nat) × (Nat → ClassId)} {X : Nat → Nat → Nat} {Z : Nat → Nat → Bool} {b L i : Nat} {xs : Nat → Int32} (F : lwF G A b L xs) (hi : i + 4 ≤ L) (h : Rel X Z) (next : ∀ X' Z', Rel X' Z' → J cL_law 4 lO G (lV G D A u v X' Z') 573 [.ref b, .ref (u.1 0), .ref (v.1 0), .int (nI i)] []) : J cL_law 4 lO G (lV G D A u v X Z) 451 [.ref b, .ref (u.1 0), .ref (v.1 0), .int (nI i)] [] := by
  refine j_aload_n (pc := 451) (i := 1) dL_law_451 rfl rfl ?_
  refine l_arg (pc := 452) (j := 1) (by decide) F (by omega) dL_law_452 dL_law_453 dL_law_454 dL_law_455 dL_law_456 ?_
  refine l_callD (pc := 457) (st := []) F (met_cokernels (kl G) (dY D u) X (xs (i + 1)) h.1) ⟨by decide, by decide⟩ dL_law_457 cpL_X0_cokernels (Nat.le_of_ble_eq_true rfl) rfl (fun r X' h1 => ?_)
  refine j_aload_n (pc := 460) (i := 2) dL_law_460 rfl rfl ?_
  refine l_arg (pc := 461) (j := 1) (by decide) F (by omega) dL_law_461 dL_law_462 dL_law_463 dL_law_464 dL_law_465 ?_
  refine l_callM (pc := 466) (st := [.int r]) F (met_mcokernels (kl G) (dY D v) Z (xs (i + 1)) ) ⟨by decide, by decide⟩ dL_law_466 cpL_X1_cokernels (Nat.le_of_ble_eq_true rfl) rfl (fun r' Z' h2 => ?_)
  obtain ⟨e1, hR⟩ := ag_cokernels (p := fun e c => Al (gr X e) (X 1 e) c) (q := fb Z) h (fun e c he hc => fb_iff h he hc) h1 h2
  exact j_icmp_eq (pc := 469) (tgt := 573) dL_law_469 (by decide) (fun _ => next X' Z' hR) (fun z => absurd e1 z)
set_option maxHeartbeats 4000000 in
theorem law_nextCokernel {G : kCx} {D : va_G} {A : Nat → Prop} {u v : (Nat → Nat) × (Nat → ClassId)} {X : Nat → Nat → Nat} {Z : Nat → Nat → Bool} {b L i : Nat} {xs : Nat → Int32} (F : lwF G A b L xs) (hi : i + 4 ≤ L) (h : Rel X Z) (next : ∀ X' Z', Rel X' Z' → J cL_law 4 lO G (lV G D A u v X' Z') 573 [.ref b, .ref (u.1 0), .ref (v.1 0), .int (nI i)] []) : J cL_law 4 lO G (lV G D A u v X Z) 474 [.ref b, .ref (u.1 0), .ref (v.1 0), .int (nI i)] [] := by
  refine j_aload_n (pc := 474) (i := 1) dL_law_474 rfl rfl ?_
  refine l_arg (pc := 475) (j := 1) (by decide) F (by omega) dL_law_475 dL_law_476 dL_law_477 dL_law_478 dL_law_479 ?_
  refine l_arg (pc := 480) (j := 2) (by decide) F (by omega) dL_law_480 dL_law_481 dL_law_482 dL_law_483 dL_law_484 ?_
  refine l_callD (pc := 485) (st := []) F (met_nextCokernel (kl G) (dY D u) X (xs (i + 1)) (xs (i + 2)) h.1) ⟨by decide, by decide⟩ dL_law_485 cpL_X0_nextCokernel (Nat.le_of_ble_eq_true rfl) rfl (fun r X' h1 => ?_)
  refine j_aload_n (pc := 488) (i := 2) dL_law_488 rfl rfl ?_
  refine l_arg (pc := 489) (j := 1) (by decide) F (by omega) dL_law_489 dL_law_490 dL_law_491 dL_law_492 dL_law_493 ?_
  refine l_arg (pc := 494) (j := 2) (by decide) F (by omega) dL_law_494 dL_law_495 dL_law_496 dL_law_497 dL_law_498 ?_
  refine l_callM (pc := 499) (st := [.int r]) F (met_mnextCokernel (kl G) (dY D v) Z (xs (i + 1)) (xs (i + 2)) ) ⟨by decide, by decide⟩ dL_law_499 cpL_X1_nextCokernel (Nat.le_of_ble_eq_true rfl) rfl (fun r' Z' h2 => ?_)
  obtain ⟨e1, hR⟩ := ag_next h h1 h2
  exact j_icmp_eq (pc := 502) (tgt := 573) dL_law_502 (by decide) (fun _ => next X' Z' hR) (fun z => absurd e1 z)
set_option maxHeartbeats 4000000 in
theorem law_holding {G : kCx} {D : va_G} {A : Nat → Prop} {u v : (Nat → Nat) × (Nat → ClassId)} {X : Nat → Nat → Nat} {Z : Nat → Nat → Bool} {b L i : Nat} {xs : Nat → Int32} (F : lwF G A b L xs) (hi : i + 4 ≤ L) (h : Rel X Z) (next : ∀ X' Z', Rel X' Z' → J cL_law 4 lO G (lV G D A u v X' Z') 573 [.ref b, .ref (u.1 0), .ref (v.1 0), .int (nI i)] []) : J cL_law 4 lO G (lV G D A u v X Z) 507 [.ref b, .ref (u.1 0), .ref (v.1 0), .int (nI i)] [] := by
  refine j_aload_n (pc := 507) (i := 1) dL_law_507 rfl rfl ?_
  refine l_arg (pc := 508) (j := 1) (by decide) F (by omega) dL_law_508 dL_law_509 dL_law_510 dL_law_511 dL_law_512 ?_
  refine l_arg (pc := 513) (j := 2) (by decide) F (by omega) dL_law_513 dL_law_514 dL_law_515 dL_law_516 dL_law_517 ?_
  refine l_callD (pc := 518) (st := []) F (met_holding (kl G) (dY D u) X (xs (i + 1)) (xs (i + 2)) h.1) ⟨by decide, by decide⟩ dL_law_518 cpL_X0_holding (Nat.le_of_ble_eq_true rfl) rfl (fun r X' h1 => ?_)
  refine j_aload_n (pc := 521) (i := 2) dL_law_521 rfl rfl ?_
  refine l_arg (pc := 522) (j := 1) (by decide) F (by omega) dL_law_522 dL_law_523 dL_law_524 dL_law_525 dL_law_526 ?_
  refine l_arg (pc := 527) (j := 2) (by decide) F (by omega) dL_law_527 dL_law_528 dL_law_529 dL_law_530 dL_law_531 ?_
  refine l_callM (pc := 532) (st := [.int r]) F (met_mholding (kl G) (dY D v) Z (xs (i + 1)) (xs (i + 2)) (fun e he => by rw [h.cnt he]; exact (h.1 e he).1)) ⟨by decide, by decide⟩ dL_law_532 cpL_X1_holding (Nat.le_of_ble_eq_true rfl) rfl (fun r' Z' h2 => ?_)
  obtain ⟨e1, hR⟩ := ag_holding h h1 h2
  exact j_icmp_eq (pc := 535) (tgt := 573) dL_law_535 (by decide) (fun _ => next X' Z' hR) (fun z => absurd e1 z)
set_option maxHeartbeats 4000000 in
theorem law_saving {G : kCx} {D : va_G} {A : Nat → Prop} {u v : (Nat → Nat) × (Nat → ClassId)} {X : Nat → Nat → Nat} {Z : Nat → Nat → Bool} {b L i : Nat} {xs : Nat → Int32} (F : lwF G A b L xs) (hi : i + 4 ≤ L) (h : Rel X Z) (next : ∀ X' Z', Rel X' Z' → J cL_law 4 lO G (lV G D A u v X' Z') 573 [.ref b, .ref (u.1 0), .ref (v.1 0), .int (nI i)] []) : J cL_law 4 lO G (lV G D A u v X Z) 540 [.ref b, .ref (u.1 0), .ref (v.1 0), .int (nI i)] [] := by
  refine j_aload_n (pc := 540) (i := 1) dL_law_540 rfl rfl ?_
  refine l_arg (pc := 541) (j := 1) (by decide) F (by omega) dL_law_541 dL_law_542 dL_law_543 dL_law_544 dL_law_545 ?_
  refine l_arg (pc := 546) (j := 2) (by decide) F (by omega) dL_law_546 dL_law_547 dL_law_548 dL_law_549 dL_law_550 ?_
  refine l_callD (pc := 551) (st := []) F (met_saving (kl G) (dY D u) X (xs (i + 1)) (xs (i + 2)) h.1) ⟨by decide, by decide⟩ dL_law_551 cpL_X0_saving (Nat.le_of_ble_eq_true rfl) rfl (fun r X' h1 => ?_)
  refine j_aload_n (pc := 554) (i := 2) dL_law_554 rfl rfl ?_
  refine l_arg (pc := 555) (j := 1) (by decide) F (by omega) dL_law_555 dL_law_556 dL_law_557 dL_law_558 dL_law_559 ?_
  refine l_arg (pc := 560) (j := 2) (by decide) F (by omega) dL_law_560 dL_law_561 dL_law_562 dL_law_563 dL_law_564 ?_
  refine l_callM (pc := 565) (st := [.int r]) F (met_msaving (kl G) (dY D v) Z (xs (i + 1)) (xs (i + 2)) ) ⟨by decide, by decide⟩ dL_law_565 cpL_X1_saving (Nat.le_of_ble_eq_true rfl) rfl (fun r' Z' h2 => ?_)
  obtain ⟨e1, hR⟩ := ag_saving h h1 h2
  exact j_icmp_eq (pc := 568) (tgt := 573) dL_law_568 (by decide) (fun _ => next X' Z' hR) (fun z => absurd e1 z)
set_option maxHeartbeats 4000000 in
/-- the law's loop at its head: i ints read -/
theorem law_loop {G : kCx} {D : va_G} {A : Nat → Prop} {u v : (Nat → Nat) × (Nat → ClassId)} {b L : Nat} {xs : Nat → Int32} (F : lwF G A b L xs) (fin : ∀ X Z lv, J cL_law 4 lO G (lV G D A u v X Z) 580 lv [.int 1]) : ∀ (n i : Nat) (X : Nat → Nat → Nat) (Z : Nat → Nat → Bool), i ≤ L → L + 1 ≤ i + n → Rel X Z → J cL_law 4 lO G (lV G D A u v X Z) 18 [.ref b, .ref (u.1 0), .ref (v.1 0), .int (nI i)] [] := by
  have hL : L ≤ 256 := F.2.2.2.2
  intro n
  induction n with
  | zero =>
    intro i X Z h1 h2
    exact absurd h2 (by omega)
  | succ n ih =>
    intro i X Z hi hn h
    refine j_iload_n (pc := 18) (i := 3) dL_law_18 rfl rfl ?_
    refine j_aload_n (pc := 19) (i := 0) dL_law_19 rfl rfl ?_
    refine g_slen (pc := 20) F dL_law_20 ?_
    refine j_iconst (pc := 21) (v := nI 4) dL_law_21 (by decide) ?_
    refine j_isub (pc := 22) dL_law_22 ?_
    refine j_icmp_gt (pc := 23) (tgt := 579) dL_law_23 (by decide) (fun _ => ?_) (fun hc => ?_)
    · exact j_iconst (pc := 579) (v := 1) dL_law_579 (by decide) (fin X Z _)
    · have hm := lw_more hL hi hc
      have next : ∀ X' Z', Rel X' Z' → J cL_law 4 lO G (lV G D A u v X' Z') 573 [.ref b, .ref (u.1 0), .ref (v.1 0), .int (nI i)] [] := by
        intro X' Z' hR
        refine n_iinc (pc := 573) (i := 3) (n := 4) (lv' := [.ref b, .ref (u.1 0), .ref (v.1 0), .int (nI (i + 4))]) dL_law_573 rfl rfl (by decide) ?_
        refine j_goto (pc := 576) (tgt := 18) dL_law_576 (by decide) ?_
        exact ih (i + 4) X' Z' (by omega) (by omega) hR
      refine j_aload_n (pc := 26) (i := 0) dL_law_26 rfl rfl ?_
      refine j_iload_n (pc := 27) (i := 3) dL_law_27 rfl rfl ?_
      refine g_sld (pc := 28) F (show i < L by omega) dL_law_28 ?_
      refine j_bipush (pc := 29) (v := 15) dL_law_29 (by decide) ?_
      refine j_iand (pc := 31) dL_law_31 ?_
      obtain ⟨k, hk, ek⟩ := and15 (xs i)
      refine j_top ek ?_
      clear ek
      match k, hk with
      | 0, _ => exact j_tableIn (pc := 32) (tgt := 108) (off := 76) dL_law_32 (by decide +kernel) (by decide +kernel) (by decide +kernel) (by decide) (law_put F hm h next)
      | 1, _ => exact j_tableIn (pc := 32) (tgt := 141) (off := 109) dL_law_32 (by decide +kernel) (by decide +kernel) (by decide +kernel) (by decide) (law_take F hm h next)
      | 2, _ => exact j_tableIn (pc := 32) (tgt := 174) (off := 142) dL_law_32 (by decide +kernel) (by decide +kernel) (by decide +kernel) (by decide) (law_clear F hm h next)
      | 3, _ => exact j_tableIn (pc := 32) (tgt := 197) (off := 165) dL_law_32 (by decide +kernel) (by decide +kernel) (by decide +kernel) (by decide) (law_size F hm h next)
      | 4, _ => exact j_tableIn (pc := 32) (tgt := 220) (off := 188) dL_law_32 (by decide +kernel) (by decide +kernel) (by decide +kernel) (by decide) (law_cube F hm h next)
      | 5, _ => exact j_tableIn (pc := 32) (tgt := 253) (off := 221) dL_law_32 (by decide +kernel) (by decide +kernel) (by decide +kernel) (by decide) (law_divideBy F hm h next)
      | 6, _ => exact j_tableIn (pc := 32) (tgt := 296) (off := 264) dL_law_32 (by decide +kernel) (by decide +kernel) (by decide +kernel) (by decide) (law_divide F hm h next)
      | 7, _ => exact j_tableIn (pc := 32) (tgt := 339) (off := 307) dL_law_32 (by decide +kernel) (by decide +kernel) (by decide +kernel) (by decide) (law_rest F hm h next)
      | 8, _ => exact j_tableIn (pc := 32) (tgt := 382) (off := 350) dL_law_32 (by decide +kernel) (by decide +kernel) (by decide +kernel) (by decide) (law_common F hm h next)
      | 9, _ => exact j_tableIn (pc := 32) (tgt := 405) (off := 373) dL_law_32 (by decide +kernel) (by decide +kernel) (by decide +kernel) (by decide) (law_free F hm h next)
      | 10, _ => exact j_tableIn (pc := 32) (tgt := 428) (off := 396) dL_law_32 (by decide +kernel) (by decide +kernel) (by decide +kernel) (by decide) (law_kernels F hm h next)
      | 11, _ => exact j_tableIn (pc := 32) (tgt := 451) (off := 419) dL_law_32 (by decide +kernel) (by decide +kernel) (by decide +kernel) (by decide) (law_cokernels F hm h next)
      | 12, _ => exact j_tableIn (pc := 32) (tgt := 474) (off := 442) dL_law_32 (by decide +kernel) (by decide +kernel) (by decide +kernel) (by decide) (law_nextCokernel F hm h next)
      | 13, _ => exact j_tableIn (pc := 32) (tgt := 507) (off := 475) dL_law_32 (by decide +kernel) (by decide +kernel) (by decide +kernel) (by decide) (law_holding F hm h next)
      | 14, _ => exact j_tableIn (pc := 32) (tgt := 540) (off := 508) dL_law_32 (by decide +kernel) (by decide +kernel) (by decide +kernel) (by decide) (law_saving F hm h next)
      | 15, _ => exact j_tableOut (pc := 32) (tgt := 573) dL_law_32 (by decide +kernel) (by decide) (next X Z h)
      | k + 16, hk => exact absurd hk (by omega)
end
section
/-! the law from its entry (its first rows are of the skeleton: a starting text) -/
def R_law : String := "KernelDeskLaw"
def lw_P (b : Addr) (xs : List Int32) (args : Array Value) (s : State) : Prop := args = #[.ref b] ∧ s.IntsAt b xs ∧ xs.length ≤ 256 ∧ (Jvm.Cond.and given_1 narrow_1).before args s = true
def lw_Q (_ : Array Value) (s : State) (o : Outcome) (t : State) : Prop := o = .returned (some (.int 1)) ∧ Framed s o t [] 600000 7290000
def lw_Z (below : List Frame) (a : Array Value) (s : State) : State → Prop := fun t => ∃ o, t.status = .running ∧ Ended t below o ∧ lw_Q a s o t
/-- the law's own end, with 1 on the stack, nothing written that was there before, its room as the claim has it -/
theorem lw_ret {p : Program} {l : Launch} {e : Env} {s : State} {m : MethodId} {below : List Frame} {meth : Method} {c : Code} {b : Nat} (hx : p.tables.exec = Jvm.exec) (hb : c.code = code) (hr : meth.sig.returnType = ret) (hlocks : meth.locks = false) {pc : Nat} {H : Heap} {ls : Array Slot} (hdg : decode code pc = .ok (.ireturn, 1)) : W p l e room_1 s m #[Value.ref b] below meth c H [] 600000 7290000 (lw_Z below #[Value.ref b] s) (F0 m pc ls [.int 1]) := by
  intro T hT X
  obtain ⟨fs, hret, hrun, hended, hW, hframe⟩ := X.leave (v := some (.int 1)) (hlocks := hlocks) (fun h => by rw [hr] at h; cases h)
  have hmeth' : T.vm.method? m = some meth := X.method'
  refine ⟨T.setFrames fs, ?_, .returned (some (.int 1)), hrun, hended, rfl, ⟨_, rfl⟩, hW, hframe⟩
  jvm_step X.here [X.here.top, hx, hb, hdg, hmeth', hr, ret, narrow_b1]
  (try refine ⟨rfl, ?_⟩); (try refine ⟨rfl, ?_⟩)
  first | (intro acts; rw [hret _ acts rfl rfl rfl]) | rw [hret _ _ rfl rfl rfl]
  exact Steps.refl _
/-- what holds at the law's entry: the machine, the code, the tables' words (any of lw_tbl by 'hts w (by decide +kernel)'), the script of L ints xs at the cell b, what the Statement gives of the start (any of its parts by flat_of_before) -/
def lw_At (p : Program) (s : State) (m : MethodId) (meth : Method) (c : Code) (b L : Nat) (xs : Nat → Int32) : Prop :=
  p.tables.exec = Jvm.exec ∧ c.code = code ∧ meth.sig.returnType = ret ∧ c.maxLocals = 4 ∧ s.vm.findClass R_law = some m.cls ∧ (∀ w ∈ lw_tbl, w.before #[Value.ref b] s = true) ∧ va_X b L xs s s.heap ∧ b < s.heap.size ∧ meth.locks = false ∧ (Jvm.Cond.and given_1 narrow_1).before #[Value.ref b] s = true
set_option maxHeartbeats 4000000 in
set_option maxRecDepth 100000 in
theorem rel_0 : Rel (fun _ _ => 0) (fun _ _ => false) := by
  refine ⟨fun e he => ⟨Nat.zero_le _, fun i hi => absurd hi (Nat.not_lt_zero i), fun i j _ hj => absurd hj (Nat.not_lt_zero j)⟩, fun e he c hc => ⟨fun z => Bool.noConfusion z, fun z => ?_⟩⟩
  obtain ⟨i, hi, _⟩ := z
  exact absurd hi (Nat.not_lt_zero i)
set_option maxHeartbeats 4000000 in
set_option maxRecDepth 100000 in
/-- from the entry, for every script of at most 256 ints, the law comes to its end with true -/
theorem whole_start {p : Program} {e : Env} {s : State} {m : MethodId} {below : List Frame} {meth : Method} {c : Code} (l : Launch) {b L : Nat} {xs : Nat → Int32} (hL : L ≤ 256) (C0 : lw_At p s m meth c b L xs) : W p l e room_1 s m #[Value.ref b] below meth c s.heap [] 0 0 (lw_Z below #[Value.ref b] s) (entryFrame m ([Value.ref b] : List Value).toArray 4) := by
  obtain ⟨hx, hb, hr, hml, hown, hts0, hX, hbl, hlocks, hgv⟩ := id C0
  have hts : ∀ w ∈ lw_all, w.before #[Value.ref b] s = true := fun w h => hts0 w (lw_all_tbl h)
  have hown : s.vm.findClass lO = some m.cls := hown
  have hA : ∀ q : Nat, s.heap.size ≤ q → (fun q : Nat => s.heap.size ≤ q) q := fun _ h => h
  have hbA : ¬ (fun q : Nat => s.heap.size ≤ q) b := Nat.not_le.mpr hbl
  obtain ⟨c0_, iS0, hKn0⟩ := u_known (C := RX0) (T := TX0) (N := 9) (n := 9) hts in_X0 (hts _ q31)
  obtain ⟨c1_, iS1, hKn1⟩ := u_known (C := RX1) (T := TX1) (N := 3) (n := 3) hts in_X1 (hts _ q211)
  obtain ⟨D, hKc⟩ : ∃ (D : va_G), ∀ (k : Nat) (q : vw_C), vwCl[k]? = some q → u_Kn s q.1 q.2.1 q.2.2 (D.1 k) (D.2 k) := by
    refine ⟨(fun k => if k = 0 then c0_ else c1_, fun k => if k = 0 then iS0 else iS1), ?_⟩
    intro k q hq
    match k, hq with
    | 0, hq => cases hq; exact hKn0
    | 1, hq => cases hq; exact hKn1
    | k + 2, hq => simp [vwCl] at hq
  have hS : va_S (fun q : Nat => s.heap.size ≤ q) s.heap s.heap [] := va_S.rf
  have hK : va_K D vwCl [] s := ⟨hKc, fun k q h => by simp at h⟩
  have hP : va_P D vwCl [] s.heap := fun k q h => by simp at h
  have hD : va_D (fun q : Nat => s.heap.size ≤ q) [] := ⟨fun i j p q h => by simp at h, fun k q h => by simp at h⟩
  have hl := lv_entry ([.ref b]) (n := 4) (Nat.le_of_ble_eq_true rfl)
  rw [lg_entry_eq]
  generalize (lg_sl ([.ref b]) ++ List.replicate (4 - (lg_sl ([.ref b])).length) Slot.unset).toArray = ls at hl ⊢
  have hl : lv_has ls 4 [(0, .ref b)] := hl
  refine va_new (ci := 0) (fs := [.null, .null, .int (nI 0), .null, .null, .null, .int (nI 0), .null, .null]) (C := RX0) (T := TX0) (N := 9) hx hb hts in_X0 tyX0 tyX0_ok hown (hts _ q30) (hts _ q31) (hts _ q28) hK hP hD hS hA rfl (fun j hj => by rcases (show j = 0 ∨ j = 1 ∨ j = 2 ∨ j = 3 ∨ j = 4 ∨ j = 5 ∨ j = 6 ∨ j = 7 ∨ j = 8 by omega) with rfl | rfl | rfl | rfl | rfl | rfl | rfl | rfl | rfl <;> first | rfl | exact congrArg Value.int nI_0.symm) (Nat.le_of_ble_eq_true rfl) (Nat.le_of_ble_eq_true rfl) dL_law_0 (fun qD H hP hD hS => ?_)
  have hP : va_P D vwCl [(qD, .inr (0, [.null, .null, .int (nI 0), .null, .null, .null, .int (nI 0), .null, .null]))] H := hP
  have hD : va_D (fun q : Nat => s.heap.size ≤ q) [(qD, .inr (0, [.null, .null, .int (nI 0), .null, .null, .null, .int (nI 0), .null, .null]))] := hD
  refine W.widen (k := 1) (n := 9) (Nat.le_of_ble_eq_true rfl) (Nat.le_of_ble_eq_true rfl) ?_
  refine lv_dup hx hb dL_law_3 rfl ?_
  have hPc := hP.sub (ws' := [(qD, .inr (0, [.null, .null, .int (nI 0), .null, .null, .null, .int (nI 0), .null, .null]))]) [0] rfl
  have hDc := hD.sub (ws' := [(qD, .inr (0, [.null, .null, .int (nI 0), .null, .null, .null, .int (nI 0), .null, .null]))]) [0] (by decide) rfl
  have hKc := hK.sub (tys' := []) [] rfl
  have hFc := va_free (wc := [(qD, .inr (0, [.null, .null, .int (nI 0), .null, .null, .null, .int (nI 0), .null, .null]))]) hD hS hA [0] rfl
  refine va_callv (va_runI (As := []) (rest := [.ref qD]) ⟨hx, hb, hml, hown, hts⟩ (met_init l D qD H.size) (cwI 0 hts (lw_meth q34) rfl rfl rfl (hts _ q28) (hts _ q32) (hts _ q33) rfl (by decide +kernel) ⟨Nat.le_of_ble_eq_true rfl, Nat.le_of_ble_eq_true rfl⟩) ⟨fun a U g mk q => by obtain ⟨q0, q1, qP, qK, qD⟩ := q; exact ⟨q0, q1, qP, va_K.moved (u := U) (U := U.calling g mk a) (Vm.Alike.refl U.vm) qK, qD⟩, fun U hU hW => ⟨rfl, by rw [hU], by rw [hU]; exact hPc, va_K.moved hW.alike hKc, hDc.weaken (fun _ _ _ _ => trivial)⟩⟩ rfl rfl hl.1 rfl (lv_room (Nat.le_of_ble_eq_true rfl)) dL_law_4 ⟨Nat.le_of_ble_eq_true rfl, Nat.le_of_ble_eq_true rfl⟩) hS (fun q _ h => hFc q h) hFc (fun u t H1 locs ht hvm hw hB hz1 hk1 hS => ?_)
  obtain ⟨hP1, hK1, hD1⟩ := hB
  rw [ht] at hP1
  have hK1 := va_K.moved hvm.symm hK1
  obtain ⟨hP, hD⟩ := va_join (wr := []) (w1 := dkW (dY D u) (fun _ _ => 0)) hP hD [0] [] rfl rfl (by decide) (by decide) hk1 hFc hP1 hD1
  have hK := (hK.sub (tys' := []) [] rfl).app hK1
  generalize H1 = H at hP hS ⊢
  have hP : va_P D vwCl (dkW (dY D u) (fun _ _ => 0)) H := hP
  have hD : va_D (fun q : Nat => s.heap.size ≤ q) (dkW (dY D u) (fun _ _ => 0)) := hD
  have hK : va_K D vwCl (dkT (dY D u)) s := hK
  have hw : u.1 0 = qD := hw
  clear hPc hDc hFc hP1 hK1 hD1 hk1 hz1
  rw [← hw]
  refine W.widen (k := 8) (n := 565) (Nat.le_of_ble_eq_true rfl) (Nat.le_of_ble_eq_true rfl) ?_
  refine lv_astore_n (lv' := [(1, .ref (u.1 0)), (0, .ref b)]) hx hb dL_law_7 rfl hl (by decide) rfl (fun ls hl => ?_)
  refine va_new (ci := 1) (fs := [.null, .null, .null]) (C := RX1) (T := TX1) (N := 3) hx hb hts in_X1 tyX1 tyX1_ok hown (hts _ q210) (hts _ q211) (hts _ q29) hK hP hD hS hA rfl (fun j hj => by rcases (show j = 0 ∨ j = 1 ∨ j = 2 by omega) with rfl | rfl | rfl <;> rfl) (Nat.le_of_ble_eq_true rfl) (Nat.le_of_ble_eq_true rfl) dL_law_8 (fun qM H hP hD hS => ?_)
  have hP : va_P D vwCl (dkW (dY D u) (fun _ _ => 0) ++ [(qM, .inr (1, [.null, .null, .null]))]) H := hP
  have hD : va_D (fun q : Nat => s.heap.size ≤ q) (dkW (dY D u) (fun _ _ => 0) ++ [(qM, .inr (1, [.null, .null, .null]))]) := hD
  refine W.widen (k := 9) (n := 568) (Nat.le_of_ble_eq_true rfl) (Nat.le_of_ble_eq_true rfl) ?_
  refine lv_dup hx hb dL_law_11 rfl ?_
  have hPc := hP.sub (ws' := [(qM, .inr (1, [.null, .null, .null]))]) [8] rfl
  have hDc := hD.sub (ws' := [(qM, .inr (1, [.null, .null, .null]))]) [8] (by decide) rfl
  have hKc := hK.sub (tys' := []) [] rfl
  have hFc := va_free (wc := [(qM, .inr (1, [.null, .null, .null]))]) hD hS hA [8] rfl
  refine va_callv (va_runI (As := []) (rest := [.ref qM]) ⟨hx, hb, hml, hown, hts⟩ (met_minit l D qM H.size) (cwI 0 hts (lw_meth q214) rfl rfl rfl (hts _ q29) (hts _ q212) (hts _ q213) rfl (by decide +kernel) ⟨Nat.le_of_ble_eq_true rfl, Nat.le_of_ble_eq_true rfl⟩) ⟨fun a U g mk q => by obtain ⟨q0, q1, qP, qK, qD⟩ := q; exact ⟨q0, q1, qP, va_K.moved (u := U) (U := U.calling g mk a) (Vm.Alike.refl U.vm) qK, qD⟩, fun U hU hW => ⟨rfl, by rw [hU], by rw [hU]; exact hPc, va_K.moved hW.alike hKc, hDc.weaken (fun _ _ _ _ => trivial)⟩⟩ rfl rfl hl.1 rfl (lv_room (Nat.le_of_ble_eq_true rfl)) dL_law_12 ⟨Nat.le_of_ble_eq_true rfl, Nat.le_of_ble_eq_true rfl⟩) hS (fun q _ h => hFc q h) hFc (fun v t H1 locs ht hvm hw2 hB hz1 hk1 hS => ?_)
  obtain ⟨hP1, hK1, hD1⟩ := hB
  rw [ht] at hP1
  have hK1 := va_K.moved hvm.symm hK1
  obtain ⟨hP, hD⟩ := va_join (wr := dkW (dY D u) (fun _ _ => 0)) (w1 := mkW (dY D v) (fun _ _ => false)) hP hD [8] [0, 1, 2, 3, 4, 5, 6, 7] rfl rfl (by decide) (by decide) hk1 hFc hP1 hD1
  have hK := hK.app hK1
  generalize H1 = H at hP hS ⊢
  have hw2 : v.1 0 = qM := hw2
  clear hPc hDc hFc hP1 hK1 hD1 hk1 hz1
  rw [← hw2]
  refine W.widen (k := 600000) (n := 7290000) (Nat.le_of_ble_eq_true rfl) (Nat.le_of_ble_eq_true rfl) ?_
  refine lv_astore_n (lv' := [(2, .ref (v.1 0)), (1, .ref (u.1 0)), (0, .ref b)]) hx hb dL_law_15 rfl hl (by decide) rfl (fun ls hl => ?_)
  refine lv_iconst (v := nI 0) hx hb dL_law_16 (by decide) ?_
  refine lv_istore_n (lv' := [(3, .int (nI 0)), (2, .ref (v.1 0)), (1, .ref (u.1 0)), (0, .ref b)]) hx hb dL_law_17 rfl hl (by decide) rfl (fun ls hl => ?_)
  have hl : lh ls 4 [.ref b, .ref (u.1 0), .ref (v.1 0), .int (nI 0)] := ⟨lv_sub hl [3, 2, 1, 0] rfl, by simp [lcat, Value.category]⟩
  refine law_loop (G := (p, l, e, room_1, s, m, #[Value.ref b], below, meth, c, lw_Z below #[Value.ref b] s, 600000, 7290000)) (D := D) (A := fun q : Nat => s.heap.size ≤ q) (u := u) (v := v) (b := b) (L := L) (xs := xs) ⟨⟨rfl, rfl, rfl⟩, hX, hbl, hbA, hL⟩ ?_ (L + 1) 0 (fun _ _ => 0) (fun _ _ => false) (Nat.zero_le _) (by omega) rel_0 ⟨hx, hb, hml, hown, hts⟩ H locs ls ⟨hK, hP, hD, hS⟩ hl
  intro X Z lv _ H locs ls hV _
  obtain ⟨_, _, _, hS⟩ := hV
  exact va_forget hS.2.2 (lw_ret hx hb hr hlocks dL_law_580)
end
section
/-! the skeleton's end (a starting text) -/
set_option maxHeartbeats 4000000 in
theorem lw_walk (l : Launch) (b : Addr) (xs : List Int32) : MetFree l x (headSpec (Jvm.Cond.code x code maxLocals ret :: tables_1) room_1) (lw_P b xs) (fun _ _ _ _ _ => True) lw_Q := by
  refine MetFree.of_bodyS (code := code) (maxLocals := maxLocals) (ret := ret) (by decide) ?_ ?_
  · intro args s m h hn
    obtain ⟨meth, c, h1, h2, h3, h4, h5, h6, -, -⟩ := Cond.code_spec hn (atoms_spec (ws := Jvm.Cond.code x code maxLocals ret :: tables_1) h _ List.mem_cons_self)
    exact ⟨meth, c, h1, h2, h3, h4, h5, h6⟩
  · intro p e s m args below meth c s₁ B hml0 hP _
    obtain ⟨rfl, hx, hbd, hgv⟩ := hP
    obtain ⟨scr, harrAt, hlist, hof, hsmall⟩ := hx
    obtain ⟨hcb, hkn, -, -⟩ := State.arrayAt?_spec harrAt
    have hown : s.vm.findClass R_law = some m.cls := findClass_of_methodNamed B.named
    have hts0 : ∀ c ∈ (Jvm.Cond.code x code maxLocals ret :: tables_1), c.before #[Value.ref b] s = true := atoms_spec (ws := Jvm.Cond.code x code maxLocals ret :: tables_1) B.pre
    have hts : ∀ w ∈ lw_tbl, w.before #[Value.ref b] s = true := k2_hts_sels lw_privs (fun w hw => hts0 w (List.mem_cons_of_mem _ hw)) lw_privs_ok
    have hml : c.maxLocals = 4 := B.maxLocals_eq (hts0 _ List.mem_cons_self)
    have X₀ : Stand p l e room_1 s m #[Value.ref b] below meth c s₁ [] 0 0 := Stand.of_body B
    have hh0 : s₁.heap = s.heap := by rw [B.state]; rfl
    have hsz : scr.slots.size = xs.length := by rw [← Array.length_toList, hlist, List.length_map]
    have hval : ∀ j : Nat, j < xs.length → scr.slots[j]? = some (.int (xs.getD j 0)) := fun j hj => by
      rw [← Array.getElem?_toList, hlist]
      simp [hj]
    have hbl : b < s.heap.size := (Array.getElem?_eq_some_iff.mp hcb).1
    have hX : va_X b xs.length (fun j => xs.getD j 0) s s.heap := ⟨scr, hcb, hof, hkn, hsz, hval⟩
    have K : W p l e room_1 s m #[Value.ref b] below meth c s₁.heap [] 0 0 (lw_Z below #[Value.ref b] s) (entryFrame m ([Value.ref b] : List Value).toArray 4) := by
      rw [hh0]
      exact whole_start l hbd ⟨B.exec, B.bytes, B.returns, hml, hown, hts, hX, hbl, B.notSynchronized, hgv⟩
    obtain ⟨t, a1, o, b1, b2, b3⟩ := K s₁ rfl X₀
    exact ⟨t, o, a1, b1, b2, b3⟩
theorem lw_pre_spec {args : Array Value} {s : State} (h : (Jvm.Cond.and given_1 narrow_1).before args s = true) (hr : rest_1_c.before args s = true) : ∃ (b : Addr) (xs : List Int32), lw_P b xs args s := by
  have hs := flat_of_before _ h
  have hq := flat_of_before _ hr
  have hc : (Cond.count 1).before args s = true := hs _ (by decide +kernel)
  have harr : (Cond.arrayOf (.arg 0) .int).before args s = true := hs _ (by decide +kernel)
  have hle : (Cond.le (.length (.arg 0)) (.int 256)).before args s = true := hs _ (by decide +kernel)
  have hlen : (Cond.isInt (.length (.arg 0))).before args s = true := hq _ (by decide +kernel)
  have hall : (Cond.all (.arg 0) (.isInt (.elem (.arg 0) (.index 0)))).before args s = true := hq _ (by decide +kernel)
  obtain ⟨b, xs, hb, hx⟩ := State.ints_of_pre rfl harr hlen hall
  have hsm : xs.length < 2 ^ 31 := hx.choose_spec.2.2.2
  have hev : (Term.length (.arg 0)).eval args s none [] s = some (.int xs.length.toInt32) := hx.length_eval hb
  have hv := Cond.le_ints hev (show (Term.int 256).eval args s none [] s = some (.int 256) from rfl)
  have hd : xs.length.toInt32 ≤ 256 := by
    simpa [Cond.before, Cond.holds, hv] using hle
  have hN : xs.length ≤ 256 := (Int32.ofNat_le_ofNat hsm (by decide)).mp (show Int32.ofNat xs.length ≤ Int32.ofNat 256 from hd)
  exact ⟨b, xs, Cond.one_arg hc (show args[0]? = some (.ref b) from hb), hx, hN, h⟩
theorem lw_comes (l : Launch) : Comes l x (Jvm.Cond.code x code maxLocals ret :: tables_1) room_1 (fun tb e args s => Calls_1 tb e args s ∧ rest_1 tb e args s ∧ Pre_1 tb e args s)
    (fun _ _ args s o t => lw_Q args s o t) := by
  intro p e ha hc hk s m args below hf hfit hheap happ hpre
  obtain ⟨b, xs, hP⟩ := lw_pre_spec hpre.2.2 hpre.2.1
  obtain ⟨k, o, h1, h2, h3, hQ⟩ := lw_walk l b xs p e ha hc hk s m args below hf ((Spec.applies_iff_loose hf).mp happ).1 hP trivial
  exact ⟨k, o, h1, h2, h3, hQ⟩
theorem lw_frame {s t : State} {o : Outcome} {args : Array Value} (h : Framed s o t [] 600000 7290000) :
    Framed s o t (fieldLocs frame_1_writes args s ++ arrayLocs frame_1_arrays args s ++ staticLocs frame_1_statics s) 600000 7290000 := h
theorem lw_limb (L : Cond) (hL : ∀ (args : Array Value) (s t : State), L.after args s (.returned (some (.int 1))) t = true) :
    ArmFor flags0 classFile x code maxLocals ret World_1 tables_1 room_1 Calls_1 rest_1 Pre_1
      (fun tb e a s o t => postC L tb e a s o t ∧ Framed s o t (fieldLocs frame_1_writes a s ++ arrayLocs frame_1_arrays a s ++ staticLocs frame_1_statics s) 600000 7290000) := by
  intro l _ _ _ p e ha hc hk s m args below hf hfit hheap happ hpre
  obtain ⟨k, o, h1, h2, h3, rfl, hF⟩ := lw_comes l p e ha hc hk s m args below hf hfit hheap happ hpre
  exact ⟨k, _, h1, h2, h3, hL args s _, lw_frame hF⟩
theorem i_vc : Claimed_1_1 ∧ Claimed_1_2 := ⟨lw_limb limb_1_1 (fun args s t => by simp [limb_1_1, Cond.after, Cond.holds, Cond.value]), lw_limb limb_1_2 (fun args s t => Cond.after_iff.mpr (by
  first | (rw [show limb_1_2 = Cond.eq .result (.int 1) from rfl, Cond.eq_ints (x := 1) (y := 1) rfl rfl]; simp; done) | (simp [limb_1_2, Cond.value, Term.eval]; done)))⟩
end
