section
-- ===== PART A: goes FIRST, ahead of the names: the tables' words, and 'selects' of the private methods out of them =====
/-- a private method of a class that the tables say can be made, by its rows of tables_1 -/
def lw_okq (q : MethodName × Nat) : Prop := (q.1.cls ≠ "java/lang/invoke/MethodHandle" ∧ q.1.cls ≠ "java/lang/invoke/VarHandle") ∧ Cond.instantiable q.1.cls q.2 ∈ tables_1 ∧ Cond.privateMethod q.1 ∈ tables_1 ∧ Cond.instanceMethod q.1 ∈ tables_1
set_option maxRecDepth 100000
theorem lw_t1 {w : Cond} (h : w ∈ tables_1_1) : w ∈ tables_1 := List.mem_append_left _ h
theorem lw_t2 {w : Cond} (h : w ∈ tables_1_2) : w ∈ tables_1 := List.mem_append_right _ h
theorem lw_p0 : lw_okq (⟨"RegisterLab", "isSymbol", "(I)Z"⟩, 16) := ⟨⟨by decide +kernel, by decide +kernel⟩, lw_t1 (List.mem_of_getElem? (i := 4) rfl), lw_t1 (List.mem_of_getElem? (i := 70) rfl), lw_t1 (List.mem_of_getElem? (i := 71) rfl)⟩
theorem lw_p1 : lw_okq (⟨"RegisterLab", "take", "(II)V"⟩, 16) := ⟨⟨by decide +kernel, by decide +kernel⟩, lw_t1 (List.mem_of_getElem? (i := 4) rfl), lw_t1 (List.mem_of_getElem? (i := 98) rfl), lw_t1 (List.mem_of_getElem? (i := 99) rfl)⟩
theorem lw_p2 : lw_okq (⟨"RegisterLab", "shortest", "()I"⟩, 16) := ⟨⟨by decide +kernel, by decide +kernel⟩, lw_t1 (List.mem_of_getElem? (i := 4) rfl), lw_t1 (List.mem_of_getElem? (i := 102) rfl), lw_t1 (List.mem_of_getElem? (i := 103) rfl)⟩
theorem lw_p3 : lw_okq (⟨"RegisterLab", "discrepancy", "(II)I"⟩, 16) := ⟨⟨by decide +kernel, by decide +kernel⟩, lw_t1 (List.mem_of_getElem? (i := 4) rfl), lw_t1 (List.mem_of_getElem? (i := 106) rfl), lw_t1 (List.mem_of_getElem? (i := 107) rfl)⟩
theorem lw_p4 : lw_okq (⟨"RegisterLab", "keepCopy", "()V"⟩, 16) := ⟨⟨by decide +kernel, by decide +kernel⟩, lw_t1 (List.mem_of_getElem? (i := 4) rfl), lw_t1 (List.mem_of_getElem? (i := 110) rfl), lw_t1 (List.mem_of_getElem? (i := 111) rfl)⟩
theorem lw_p5 : lw_okq (⟨"RegisterLab", "mend", "(III)V"⟩, 16) := ⟨⟨by decide +kernel, by decide +kernel⟩, lw_t1 (List.mem_of_getElem? (i := 4) rfl), lw_t1 (List.mem_of_getElem? (i := 114) rfl), lw_t1 (List.mem_of_getElem? (i := 115) rfl)⟩
theorem lw_p6 : lw_okq (⟨"RegisterLab", "inverse", "(I)I"⟩, 16) := ⟨⟨by decide +kernel, by decide +kernel⟩, lw_t1 (List.mem_of_getElem? (i := 4) rfl), lw_t1 (List.mem_of_getElem? (i := 118) rfl), lw_t1 (List.mem_of_getElem? (i := 119) rfl)⟩
theorem lw_p7 : lw_okq (⟨"RegisterLab", "wrap", "(I)I"⟩, 16) := ⟨⟨by decide +kernel, by decide +kernel⟩, lw_t1 (List.mem_of_getElem? (i := 4) rfl), lw_t1 (List.mem_of_getElem? (i := 122) rfl), lw_t1 (List.mem_of_getElem? (i := 123) rfl)⟩
theorem lw_p8 : lw_okq (⟨"RegisterLab", "useCopy", "()V"⟩, 16) := ⟨⟨by decide +kernel, by decide +kernel⟩, lw_t1 (List.mem_of_getElem? (i := 4) rfl), lw_t1 (List.mem_of_getElem? (i := 126) rfl), lw_t1 (List.mem_of_getElem? (i := 127) rfl)⟩
theorem lw_p9 : lw_okq (⟨"RegisterLab", "findRegister", "(I)V"⟩, 16) := ⟨⟨by decide +kernel, by decide +kernel⟩, lw_t1 (List.mem_of_getElem? (i := 4) rfl), lw_t1 (List.mem_of_getElem? (i := 134) rfl), lw_t1 (List.mem_of_getElem? (i := 135) rfl)⟩
theorem lw_p10 : lw_okq (⟨"RegisterLab", "eliminate", "()V"⟩, 16) := ⟨⟨by decide +kernel, by decide +kernel⟩, lw_t1 (List.mem_of_getElem? (i := 4) rfl), lw_t1 (List.mem_of_getElem? (i := 138) rfl), lw_t1 (List.mem_of_getElem? (i := 139) rfl)⟩
theorem lw_p11 : lw_okq (⟨"RegisterLab", "rowWith", "(I)I"⟩, 16) := ⟨⟨by decide +kernel, by decide +kernel⟩, lw_t1 (List.mem_of_getElem? (i := 4) rfl), lw_t1 (List.mem_of_getElem? (i := 142) rfl), lw_t1 (List.mem_of_getElem? (i := 143) rfl)⟩
theorem lw_p12 : lw_okq (⟨"RegisterLab", "swap", "(II)V"⟩, 16) := ⟨⟨by decide +kernel, by decide +kernel⟩, lw_t1 (List.mem_of_getElem? (i := 4) rfl), lw_t1 (List.mem_of_getElem? (i := 146) rfl), lw_t1 (List.mem_of_getElem? (i := 147) rfl)⟩
theorem lw_p13 : lw_okq (⟨"RegisterLab", "scale", "(II)V"⟩, 16) := ⟨⟨by decide +kernel, by decide +kernel⟩, lw_t1 (List.mem_of_getElem? (i := 4) rfl), lw_t1 (List.mem_of_getElem? (i := 150) rfl), lw_t1 (List.mem_of_getElem? (i := 151) rfl)⟩
theorem lw_p14 : lw_okq (⟨"RegisterLab", "clearColumn", "(II)V"⟩, 16) := ⟨⟨by decide +kernel, by decide +kernel⟩, lw_t1 (List.mem_of_getElem? (i := 4) rfl), lw_t1 (List.mem_of_getElem? (i := 154) rfl), lw_t1 (List.mem_of_getElem? (i := 155) rfl)⟩
theorem lw_p15 : lw_okq (⟨"RegisterLab", "subtract", "(III)V"⟩, 16) := ⟨⟨by decide +kernel, by decide +kernel⟩, lw_t1 (List.mem_of_getElem? (i := 4) rfl), lw_t1 (List.mem_of_getElem? (i := 158) rfl), lw_t1 (List.mem_of_getElem? (i := 159) rfl)⟩
def lw_privs_1 : List (MethodName × Nat) := [(⟨"RegisterLab", "isSymbol", "(I)Z"⟩, 16), (⟨"RegisterLab", "take", "(II)V"⟩, 16), (⟨"RegisterLab", "shortest", "()I"⟩, 16), (⟨"RegisterLab", "discrepancy", "(II)I"⟩, 16), (⟨"RegisterLab", "keepCopy", "()V"⟩, 16), (⟨"RegisterLab", "mend", "(III)V"⟩, 16), (⟨"RegisterLab", "inverse", "(I)I"⟩, 16), (⟨"RegisterLab", "wrap", "(I)I"⟩, 16), (⟨"RegisterLab", "useCopy", "()V"⟩, 16), (⟨"RegisterLab", "findRegister", "(I)V"⟩, 16), (⟨"RegisterLab", "eliminate", "()V"⟩, 16), (⟨"RegisterLab", "rowWith", "(I)I"⟩, 16), (⟨"RegisterLab", "swap", "(II)V"⟩, 16), (⟨"RegisterLab", "scale", "(II)V"⟩, 16), (⟨"RegisterLab", "clearColumn", "(II)V"⟩, 16), (⟨"RegisterLab", "subtract", "(III)V"⟩, 16)]
theorem lw_r1 : ∀ q ∈ lw_privs_1, lw_okq q := List.forall_mem_cons.mpr ⟨lw_p0, List.forall_mem_cons.mpr ⟨lw_p1, List.forall_mem_cons.mpr ⟨lw_p2, List.forall_mem_cons.mpr ⟨lw_p3, List.forall_mem_cons.mpr ⟨lw_p4, List.forall_mem_cons.mpr ⟨lw_p5, List.forall_mem_cons.mpr ⟨lw_p6, List.forall_mem_cons.mpr ⟨lw_p7, List.forall_mem_cons.mpr ⟨lw_p8, List.forall_mem_cons.mpr ⟨lw_p9, List.forall_mem_cons.mpr ⟨lw_p10, List.forall_mem_cons.mpr ⟨lw_p11, List.forall_mem_cons.mpr ⟨lw_p12, List.forall_mem_cons.mpr ⟨lw_p13, List.forall_mem_cons.mpr ⟨lw_p14, List.forall_mem_cons.mpr ⟨lw_p15, fun _ h => absurd h List.not_mem_nil⟩⟩⟩⟩⟩⟩⟩⟩⟩⟩⟩⟩⟩⟩⟩⟩
theorem lw_p16 : lw_okq (⟨"RegisterLab", "step", "()V"⟩, 16) := ⟨⟨by decide +kernel, by decide +kernel⟩, lw_t1 (List.mem_of_getElem? (i := 4) rfl), lw_t1 (List.mem_of_getElem? (i := 170) rfl), lw_t1 (List.mem_of_getElem? (i := 171) rfl)⟩
theorem lw_p17 : lw_okq (⟨"RegisterLabModel", "least", "(I)I"⟩, 6) := ⟨⟨by decide +kernel, by decide +kernel⟩, lw_t1 (List.mem_of_getElem? (i := 189) rfl), lw_t2 (List.mem_of_getElem? (i := 7) rfl), lw_t2 (List.mem_of_getElem? (i := 8) rfl)⟩
theorem lw_p18 : lw_okq (⟨"RegisterLabModel", "power", "(I)I"⟩, 6) := ⟨⟨by decide +kernel, by decide +kernel⟩, lw_t1 (List.mem_of_getElem? (i := 189) rfl), lw_t2 (List.mem_of_getElem? (i := 11) rfl), lw_t2 (List.mem_of_getElem? (i := 12) rfl)⟩
theorem lw_p19 : lw_okq (⟨"RegisterLabModel", "spell", "(II)V"⟩, 6) := ⟨⟨by decide +kernel, by decide +kernel⟩, lw_t1 (List.mem_of_getElem? (i := 189) rfl), lw_t2 (List.mem_of_getElem? (i := 15) rfl), lw_t2 (List.mem_of_getElem? (i := 16) rfl)⟩
theorem lw_p20 : lw_okq (⟨"RegisterLabModel", "rest", "(I)I"⟩, 6) := ⟨⟨by decide +kernel, by decide +kernel⟩, lw_t1 (List.mem_of_getElem? (i := 189) rfl), lw_t2 (List.mem_of_getElem? (i := 19) rfl), lw_t2 (List.mem_of_getElem? (i := 20) rfl)⟩
theorem lw_p21 : lw_okq (⟨"RegisterLabModel", "part", "(I)I"⟩, 6) := ⟨⟨by decide +kernel, by decide +kernel⟩, lw_t1 (List.mem_of_getElem? (i := 189) rfl), lw_t2 (List.mem_of_getElem? (i := 23) rfl), lw_t2 (List.mem_of_getElem? (i := 24) rfl)⟩
theorem lw_p22 : lw_okq (⟨"RegisterLabModel", "generates", "(II)Z"⟩, 6) := ⟨⟨by decide +kernel, by decide +kernel⟩, lw_t1 (List.mem_of_getElem? (i := 189) rfl), lw_t2 (List.mem_of_getElem? (i := 27) rfl), lw_t2 (List.mem_of_getElem? (i := 28) rfl)⟩
theorem lw_p23 : lw_okq (⟨"RegisterLabModel", "sum", "(II)I"⟩, 6) := ⟨⟨by decide +kernel, by decide +kernel⟩, lw_t1 (List.mem_of_getElem? (i := 189) rfl), lw_t2 (List.mem_of_getElem? (i := 31) rfl), lw_t2 (List.mem_of_getElem? (i := 32) rfl)⟩
theorem lw_p24 : lw_okq (⟨"RegisterLabModel", "whole", "()V"⟩, 6) := ⟨⟨by decide +kernel, by decide +kernel⟩, lw_t1 (List.mem_of_getElem? (i := 189) rfl), lw_t2 (List.mem_of_getElem? (i := 39) rfl), lw_t2 (List.mem_of_getElem? (i := 40) rfl)⟩
def lw_privs_2 : List (MethodName × Nat) := [(⟨"RegisterLab", "step", "()V"⟩, 16), (⟨"RegisterLabModel", "least", "(I)I"⟩, 6), (⟨"RegisterLabModel", "power", "(I)I"⟩, 6), (⟨"RegisterLabModel", "spell", "(II)V"⟩, 6), (⟨"RegisterLabModel", "rest", "(I)I"⟩, 6), (⟨"RegisterLabModel", "part", "(I)I"⟩, 6), (⟨"RegisterLabModel", "generates", "(II)Z"⟩, 6), (⟨"RegisterLabModel", "sum", "(II)I"⟩, 6), (⟨"RegisterLabModel", "whole", "()V"⟩, 6)]
theorem lw_r2 : ∀ q ∈ lw_privs_2, lw_okq q := List.forall_mem_cons.mpr ⟨lw_p16, List.forall_mem_cons.mpr ⟨lw_p17, List.forall_mem_cons.mpr ⟨lw_p18, List.forall_mem_cons.mpr ⟨lw_p19, List.forall_mem_cons.mpr ⟨lw_p20, List.forall_mem_cons.mpr ⟨lw_p21, List.forall_mem_cons.mpr ⟨lw_p22, List.forall_mem_cons.mpr ⟨lw_p23, List.forall_mem_cons.mpr ⟨lw_p24, fun _ h => absurd h List.not_mem_nil⟩⟩⟩⟩⟩⟩⟩⟩⟩
def lw_privs : List (MethodName × Nat) := lw_privs_1 ++ (lw_privs_2)
def lw_tbl : List Cond := k2_sels lw_privs ++ tables_1
theorem lw_privs_ok : ∀ q ∈ lw_privs, lw_okq q := by
  show ∀ q ∈ lw_privs_1 ++ (lw_privs_2), lw_okq q
  exact List.forall_mem_append.mpr ⟨lw_r1, lw_r2⟩
-- ===== ONE list of words for every method: the tables' words that hold all through a run =====
def lw_all : List Cond := lw_tbl.filter goodWord
/-- a word of the tables by its place: claim/WORDS.tsv -/
theorem lw_w {w : Cond} (i : Nat) (h : lw_tbl[i]? = some w) (g : goodWord w = true) : w ∈ lw_all := List.mem_filter.mpr ⟨List.mem_of_getElem? h, g⟩
theorem lw_all_tbl {w : Cond} (h : w ∈ lw_all) : w ∈ lw_tbl := (List.mem_filter.mp h).1
theorem lw_self : GoodIn lw_all lw_all := fun w h => ⟨h, good_of_word (List.mem_filter.mp h).2⟩
/-- a class's field words, by their places -/
theorem lw_in (ws : List Cond) (ps : List Nat) (hp : ws = ps.filterMap (fun i => lw_tbl[i]?)) (hg : ws.all goodWord = true) : ∀ w ∈ ws, w ∈ lw_all := by
  intro w h
  have h1 := List.all_eq_true.mp hg w h
  rw [hp] at h
  obtain ⟨i, -, hi⟩ := List.mem_filterMap.mp h
  exact lw_w i hi h1
/-- the words of a contract for the method y with code b, L locals, answer r -/
abbrev ws_ (y : MethodName) (b : ByteArray) (L : Nat) (r : Option FieldType) : List Cond := Cond.code y b L r :: lw_all
theorem lw_meth {y : MethodName} {b : ByteArray} {L : Nat} {r : Option FieldType} (h : Cond.code y b L r ∈ lw_all) : GoodIn lw_all (ws_ y b L r) := by
  intro w hw
  rcases List.mem_cons.mp hw with e | e
  · rw [e]
    exact lw_self _ h
  · exact lw_self _ e
theorem lw_app {a c : List Cond} (ha : ∀ w ∈ a, w ∈ lw_all) (hc : GoodIn lw_all c) : GoodIn lw_all (a ++ c) := by
  intro w hw
  rcases List.mem_append.mp hw with e | e
  · exact lw_self w (ha w e)
  · exact hc w e
/-- what a call through an object asks: cwV n hts (lw_V ..) -/
theorem lw_V {own : String} {idx : Nat} {C : String} {y : MethodName} {b : ByteArray} {L : Nat} {r : Option FieldType} (h1 : Cond.methodLink own idx y ∈ lw_all) (h2 : Cond.instanceMethod y ∈ lw_all) (h3 : Cond.selects C y y ∈ lw_all) (h4 : Cond.initialized C ∈ lw_all) (h5 : Cond.code y b L r ∈ lw_all) : GoodIn lw_all (wsV own idx C y (ws_ y b L r)) := by
  refine lw_app ?_ (lw_meth h5)
  intro w hw
  simp only [List.mem_cons, List.not_mem_nil, or_false] at hw
  rcases hw with e | e | e | e
  · rw [e]; exact h1
  · rw [e]; exact h2
  · rw [e]; exact h3
  · rw [e]; exact h4
/-- what a static call asks: va_cwS n hts (lw_S ..) -/
theorem lw_S {own : String} {idx : Nat} {y : MethodName} {b : ByteArray} {L : Nat} {r : Option FieldType} (h1 : Cond.methodLink own idx y ∈ lw_all) (h2 : Cond.static y ∈ lw_all) (h3 : Cond.initialized y.cls ∈ lw_all) (h4 : Cond.code y b L r ∈ lw_all) : GoodIn lw_all (va_wsS own idx y (ws_ y b L r)) := by
  refine lw_app ?_ (lw_meth h4)
  intro w hw
  simp only [List.mem_cons, List.not_mem_nil, or_false] at hw
  rcases hw with e | e | e
  · rw [e]; exact h1
  · rw [e]; exact h2
  · rw [e]; exact h3
/-- the words of a contract for a method WITH HANDLERS (hh: its table) -/
abbrev wsW_ (y : MethodName) (b : ByteArray) (L : Nat) (r : Option FieldType) (hh : List (Nat × Nat × Nat × Nat)) : List Cond := Cond.codeWith y b L r hh :: lw_all
theorem lw_methW {y : MethodName} {b : ByteArray} {L : Nat} {r : Option FieldType} {hh : List (Nat × Nat × Nat × Nat)} (h : Cond.codeWith y b L r hh ∈ lw_all) : GoodIn lw_all (wsW_ y b L r hh) := by
  intro w hw
  rcases List.mem_cons.mp hw with e | e
  · rw [e]
    exact lw_self _ h
  · exact lw_self _ e
/-- any list of words by their places (lw_in), good -/
theorem lw_good {ws : List Cond} (h : ∀ w ∈ ws, w ∈ lw_all) : GoodIn lw_all ws := fun w hw => lw_self w (h w hw)
/-- what a call of a method with handlers asks: vx_cwVW n hts (lw_VW ..), vx_cwSW n hts (lw_SW ..) -/
theorem lw_VW {own : String} {idx : Nat} {C : String} {y : MethodName} {b : ByteArray} {L : Nat} {r : Option FieldType} {hh : List (Nat × Nat × Nat × Nat)} (h1 : Cond.methodLink own idx y ∈ lw_all) (h2 : Cond.instanceMethod y ∈ lw_all) (h3 : Cond.selects C y y ∈ lw_all) (h4 : Cond.initialized C ∈ lw_all) (h5 : Cond.codeWith y b L r hh ∈ lw_all) : GoodIn lw_all (wsV own idx C y (wsW_ y b L r hh)) := by
  refine lw_app ?_ (lw_methW h5)
  intro w hw
  simp only [List.mem_cons, List.not_mem_nil, or_false] at hw
  rcases hw with e | e | e | e
  · rw [e]; exact h1
  · rw [e]; exact h2
  · rw [e]; exact h3
  · rw [e]; exact h4
theorem lw_SW {own : String} {idx : Nat} {y : MethodName} {b : ByteArray} {L : Nat} {r : Option FieldType} {hh : List (Nat × Nat × Nat × Nat)} (h1 : Cond.methodLink own idx y ∈ lw_all) (h2 : Cond.static y ∈ lw_all) (h3 : Cond.initialized y.cls ∈ lw_all) (h4 : Cond.codeWith y b L r hh ∈ lw_all) : GoodIn lw_all (va_wsS own idx y (wsW_ y b L r hh)) := by
  refine lw_app ?_ (lw_methW h4)
  intro w hw
  simp only [List.mem_cons, List.not_mem_nil, or_false] at hw
  rcases hw with e | e | e
  · rw [e]; exact h1
  · rw [e]; exact h2
  · rw [e]; exact h3
/-- a word by its place in its run of the tables -/
theorem lw_at {r : List Cond} (hr : ∀ w ∈ r, w ∈ lw_tbl) {w : Cond} (i : Nat) (h : r[i]? = some w) : w ∈ lw_tbl := hr w (List.mem_of_getElem? h)
theorem lw_g {w : Cond} (h : w ∈ lw_tbl) (g : goodWord w = true) : w ∈ lw_all := List.mem_filter.mpr ⟨h, g⟩
theorem lw_ms : ∀ w ∈ k2_sels lw_privs, w ∈ lw_tbl := fun w h => show w ∈ k2_sels lw_privs ++ tables_1 from List.mem_append_left _ h
theorem lw_m1 : ∀ w ∈ tables_1_1, w ∈ lw_tbl := fun w h => show w ∈ k2_sels lw_privs ++ tables_1 from List.mem_append_right (k2_sels lw_privs) (show w ∈ tables_1 from List.mem_append_left _ h)
theorem lw_m2 : ∀ w ∈ tables_1_2, w ∈ lw_tbl := fun w h => show w ∈ k2_sels lw_privs ++ tables_1 from List.mem_append_right (k2_sels lw_privs) (show w ∈ tables_1 from List.mem_append_right _ h)
theorem qs0 : (Cond.selects "RegisterLab" ⟨"RegisterLab", "isSymbol", "(I)Z"⟩ ⟨"RegisterLab", "isSymbol", "(I)Z"⟩) ∈ lw_all := lw_g (lw_at lw_ms 0 rfl) rfl
theorem qs1 : (Cond.selects "RegisterLab" ⟨"RegisterLab", "take", "(II)V"⟩ ⟨"RegisterLab", "take", "(II)V"⟩) ∈ lw_all := lw_g (lw_at lw_ms 1 rfl) rfl
theorem qs2 : (Cond.selects "RegisterLab" ⟨"RegisterLab", "shortest", "()I"⟩ ⟨"RegisterLab", "shortest", "()I"⟩) ∈ lw_all := lw_g (lw_at lw_ms 2 rfl) rfl
theorem qs3 : (Cond.selects "RegisterLab" ⟨"RegisterLab", "discrepancy", "(II)I"⟩ ⟨"RegisterLab", "discrepancy", "(II)I"⟩) ∈ lw_all := lw_g (lw_at lw_ms 3 rfl) rfl
theorem qs4 : (Cond.selects "RegisterLab" ⟨"RegisterLab", "keepCopy", "()V"⟩ ⟨"RegisterLab", "keepCopy", "()V"⟩) ∈ lw_all := lw_g (lw_at lw_ms 4 rfl) rfl
theorem qs5 : (Cond.selects "RegisterLab" ⟨"RegisterLab", "mend", "(III)V"⟩ ⟨"RegisterLab", "mend", "(III)V"⟩) ∈ lw_all := lw_g (lw_at lw_ms 5 rfl) rfl
theorem qs6 : (Cond.selects "RegisterLab" ⟨"RegisterLab", "inverse", "(I)I"⟩ ⟨"RegisterLab", "inverse", "(I)I"⟩) ∈ lw_all := lw_g (lw_at lw_ms 6 rfl) rfl
theorem qs7 : (Cond.selects "RegisterLab" ⟨"RegisterLab", "wrap", "(I)I"⟩ ⟨"RegisterLab", "wrap", "(I)I"⟩) ∈ lw_all := lw_g (lw_at lw_ms 7 rfl) rfl
theorem qs8 : (Cond.selects "RegisterLab" ⟨"RegisterLab", "useCopy", "()V"⟩ ⟨"RegisterLab", "useCopy", "()V"⟩) ∈ lw_all := lw_g (lw_at lw_ms 8 rfl) rfl
theorem qs9 : (Cond.selects "RegisterLab" ⟨"RegisterLab", "findRegister", "(I)V"⟩ ⟨"RegisterLab", "findRegister", "(I)V"⟩) ∈ lw_all := lw_g (lw_at lw_ms 9 rfl) rfl
theorem qs10 : (Cond.selects "RegisterLab" ⟨"RegisterLab", "eliminate", "()V"⟩ ⟨"RegisterLab", "eliminate", "()V"⟩) ∈ lw_all := lw_g (lw_at lw_ms 10 rfl) rfl
theorem qs11 : (Cond.selects "RegisterLab" ⟨"RegisterLab", "rowWith", "(I)I"⟩ ⟨"RegisterLab", "rowWith", "(I)I"⟩) ∈ lw_all := lw_g (lw_at lw_ms 11 rfl) rfl
theorem qs12 : (Cond.selects "RegisterLab" ⟨"RegisterLab", "swap", "(II)V"⟩ ⟨"RegisterLab", "swap", "(II)V"⟩) ∈ lw_all := lw_g (lw_at lw_ms 12 rfl) rfl
theorem qs13 : (Cond.selects "RegisterLab" ⟨"RegisterLab", "scale", "(II)V"⟩ ⟨"RegisterLab", "scale", "(II)V"⟩) ∈ lw_all := lw_g (lw_at lw_ms 13 rfl) rfl
theorem qs14 : (Cond.selects "RegisterLab" ⟨"RegisterLab", "clearColumn", "(II)V"⟩ ⟨"RegisterLab", "clearColumn", "(II)V"⟩) ∈ lw_all := lw_g (lw_at lw_ms 14 rfl) rfl
theorem qs15 : (Cond.selects "RegisterLab" ⟨"RegisterLab", "subtract", "(III)V"⟩ ⟨"RegisterLab", "subtract", "(III)V"⟩) ∈ lw_all := lw_g (lw_at lw_ms 15 rfl) rfl
theorem qs16 : (Cond.selects "RegisterLab" ⟨"RegisterLab", "step", "()V"⟩ ⟨"RegisterLab", "step", "()V"⟩) ∈ lw_all := lw_g (lw_at lw_ms 16 rfl) rfl
theorem qs17 : (Cond.selects "RegisterLabModel" ⟨"RegisterLabModel", "least", "(I)I"⟩ ⟨"RegisterLabModel", "least", "(I)I"⟩) ∈ lw_all := lw_g (lw_at lw_ms 17 rfl) rfl
theorem qs18 : (Cond.selects "RegisterLabModel" ⟨"RegisterLabModel", "power", "(I)I"⟩ ⟨"RegisterLabModel", "power", "(I)I"⟩) ∈ lw_all := lw_g (lw_at lw_ms 18 rfl) rfl
theorem qs19 : (Cond.selects "RegisterLabModel" ⟨"RegisterLabModel", "spell", "(II)V"⟩ ⟨"RegisterLabModel", "spell", "(II)V"⟩) ∈ lw_all := lw_g (lw_at lw_ms 19 rfl) rfl
theorem qs20 : (Cond.selects "RegisterLabModel" ⟨"RegisterLabModel", "rest", "(I)I"⟩ ⟨"RegisterLabModel", "rest", "(I)I"⟩) ∈ lw_all := lw_g (lw_at lw_ms 20 rfl) rfl
theorem qs21 : (Cond.selects "RegisterLabModel" ⟨"RegisterLabModel", "part", "(I)I"⟩ ⟨"RegisterLabModel", "part", "(I)I"⟩) ∈ lw_all := lw_g (lw_at lw_ms 21 rfl) rfl
theorem qs22 : (Cond.selects "RegisterLabModel" ⟨"RegisterLabModel", "generates", "(II)Z"⟩ ⟨"RegisterLabModel", "generates", "(II)Z"⟩) ∈ lw_all := lw_g (lw_at lw_ms 22 rfl) rfl
theorem qs23 : (Cond.selects "RegisterLabModel" ⟨"RegisterLabModel", "sum", "(II)I"⟩ ⟨"RegisterLabModel", "sum", "(II)I"⟩) ∈ lw_all := lw_g (lw_at lw_ms 23 rfl) rfl
theorem qs24 : (Cond.selects "RegisterLabModel" ⟨"RegisterLabModel", "whole", "()V"⟩ ⟨"RegisterLabModel", "whole", "()V"⟩) ∈ lw_all := lw_g (lw_at lw_ms 24 rfl) rfl
end
section
/-! RegisterLab -/
set_option maxRecDepth 100000
def RX1 : String := "RegisterLab"
def TX1 : u_T := fun k => match k with
  | 0 => ("RegisterLab", "q", "I", true)
  | 1 => ("RegisterLab", "limit", "I", true)
  | 2 => ("RegisterLab", "symbols", "[B", true)
  | 3 => ("RegisterLab", "size", "I", false)
  | 4 => ("RegisterLab", "work", "[B", true)
  | 5 => ("RegisterLab", "workSize", "I", false)
  | 6 => ("RegisterLab", "poly", "[B", true)
  | 7 => ("RegisterLab", "old", "[B", true)
  | 8 => ("RegisterLab", "copy", "[B", true)
  | 9 => ("RegisterLab", "cells", "[B", true)
  | 10 => ("RegisterLab", "rows", "I", false)
  | 11 => ("RegisterLab", "columns", "I", false)
  | 12 => ("RegisterLab", "rank", "I", false)
  | 13 => ("RegisterLab", "pivotRow", "[B", true)
  | 14 => ("RegisterLab", "registerLength", "I", false)
  | _ => ("RegisterLab", "register", "[B", true)
def tyX1 : Nat → FieldType := fun k => match k with
  | 0 => .int
  | 1 => .int
  | 2 => .array .byte
  | 3 => .int
  | 4 => .array .byte
  | 5 => .int
  | 6 => .array .byte
  | 7 => .array .byte
  | 8 => .array .byte
  | 9 => .array .byte
  | 10 => .int
  | 11 => .int
  | 12 => .int
  | 13 => .array .byte
  | 14 => .int
  | _ => .array .byte
abbrev wsX10 : List Cond := u_ws RX1 TX1 16
set_option maxRecDepth 100000 in
theorem nmX1 : ∀ a, a < 16 → ∀ b, b < 16 → a ≠ b → (TX1 a).2.1 ≠ (TX1 b).2.1 := by decide +kernel
set_option maxRecDepth 100000 in
theorem tyX1_ok : ∀ k, k < 16 → parseFieldDescriptor (TX1 k).2.2.1 = some (tyX1 k) := by decide +kernel
abbrev cX1_init : ByteArray := prog_1_method_1_code
def yX1_init : MethodName := ⟨RX1, "<init>", "(I)V"⟩
theorem dX1_init_0 : decode cX1_init 0 = .ok (.aload_n 0, 1) := by decide +kernel
theorem dX1_init_1 : decode cX1_init 1 = .ok (.invokespecial 1, 3) := by decide +kernel
theorem dX1_init_4 : decode cX1_init 4 = .ok (.aload_n 0, 1) := by decide +kernel
theorem dX1_init_5 : decode cX1_init 5 = .ok (.bipush 12, 2) := by decide +kernel
theorem dX1_init_7 : decode cX1_init 7 = .ok (.newarray .byte, 2) := by decide +kernel
theorem dX1_init_9 : decode cX1_init 9 = .ok (.putfield 7, 3) := by decide +kernel
theorem dX1_init_12 : decode cX1_init 12 = .ok (.aload_n 0, 1) := by decide +kernel
theorem dX1_init_13 : decode cX1_init 13 = .ok (.bipush 64, 2) := by decide +kernel
theorem dX1_init_15 : decode cX1_init 15 = .ok (.newarray .byte, 2) := by decide +kernel
theorem dX1_init_17 : decode cX1_init 17 = .ok (.putfield 13, 3) := by decide +kernel
theorem dX1_init_20 : decode cX1_init 20 = .ok (.aload_n 0, 1) := by decide +kernel
theorem dX1_init_21 : decode cX1_init 21 = .ok (.bipush 32, 2) := by decide +kernel
theorem dX1_init_23 : decode cX1_init 23 = .ok (.newarray .byte, 2) := by decide +kernel
theorem dX1_init_25 : decode cX1_init 25 = .ok (.putfield 16, 3) := by decide +kernel
theorem dX1_init_28 : decode cX1_init 28 = .ok (.aload_n 0, 1) := by decide +kernel
theorem dX1_init_29 : decode cX1_init 29 = .ok (.bipush 32, 2) := by decide +kernel
theorem dX1_init_31 : decode cX1_init 31 = .ok (.newarray .byte, 2) := by decide +kernel
theorem dX1_init_33 : decode cX1_init 33 = .ok (.putfield 19, 3) := by decide +kernel
theorem dX1_init_36 : decode cX1_init 36 = .ok (.aload_n 0, 1) := by decide +kernel
theorem dX1_init_37 : decode cX1_init 37 = .ok (.bipush 32, 2) := by decide +kernel
theorem dX1_init_39 : decode cX1_init 39 = .ok (.newarray .byte, 2) := by decide +kernel
theorem dX1_init_41 : decode cX1_init 41 = .ok (.putfield 22, 3) := by decide +kernel
theorem dX1_init_44 : decode cX1_init 44 = .ok (.aload_n 0, 1) := by decide +kernel
theorem dX1_init_45 : decode cX1_init 45 = .ok (.sipush 196, 3) := by decide +kernel
theorem dX1_init_48 : decode cX1_init 48 = .ok (.newarray .byte, 2) := by decide +kernel
theorem dX1_init_50 : decode cX1_init 50 = .ok (.putfield 25, 3) := by decide +kernel
theorem dX1_init_53 : decode cX1_init 53 = .ok (.aload_n 0, 1) := by decide +kernel
theorem dX1_init_54 : decode cX1_init 54 = .ok (.bipush 14, 2) := by decide +kernel
theorem dX1_init_56 : decode cX1_init 56 = .ok (.newarray .byte, 2) := by decide +kernel
theorem dX1_init_58 : decode cX1_init 58 = .ok (.putfield 28, 3) := by decide +kernel
theorem dX1_init_61 : decode cX1_init 61 = .ok (.aload_n 0, 1) := by decide +kernel
theorem dX1_init_62 : decode cX1_init 62 = .ok (.bipush 14, 2) := by decide +kernel
theorem dX1_init_64 : decode cX1_init 64 = .ok (.newarray .byte, 2) := by decide +kernel
theorem dX1_init_66 : decode cX1_init 66 = .ok (.putfield 31, 3) := by decide +kernel
theorem dX1_init_69 : decode cX1_init 69 = .ok (.iload_n 1, 1) := by decide +kernel
theorem dX1_init_70 : decode cX1_init 70 = .ok (.ifCond .gt 17, 3) := by decide +kernel
theorem dX1_init_73 : decode cX1_init 73 = .ok (.aload_n 0, 1) := by decide +kernel
theorem dX1_init_74 : decode cX1_init 74 = .ok (.iconst 2, 1) := by decide +kernel
theorem dX1_init_75 : decode cX1_init 75 = .ok (.putfield 34, 3) := by decide +kernel
theorem dX1_init_78 : decode cX1_init 78 = .ok (.aload_n 0, 1) := by decide +kernel
theorem dX1_init_79 : decode cX1_init 79 = .ok (.bipush 12, 2) := by decide +kernel
theorem dX1_init_81 : decode cX1_init 81 = .ok (.putfield 38, 3) := by decide +kernel
theorem dX1_init_84 : decode cX1_init 84 = .ok (.goto 32, 3) := by decide +kernel
theorem dX1_init_87 : decode cX1_init 87 = .ok (.iload_n 1, 1) := by decide +kernel
theorem dX1_init_88 : decode cX1_init 88 = .ok (.iconst 1, 1) := by decide +kernel
theorem dX1_init_89 : decode cX1_init 89 = .ok (.if_icmp .ne 17, 3) := by decide +kernel
theorem dX1_init_92 : decode cX1_init 92 = .ok (.aload_n 0, 1) := by decide +kernel
theorem dX1_init_93 : decode cX1_init 93 = .ok (.iconst 3, 1) := by decide +kernel
theorem dX1_init_94 : decode cX1_init 94 = .ok (.putfield 34, 3) := by decide +kernel
theorem dX1_init_97 : decode cX1_init 97 = .ok (.aload_n 0, 1) := by decide +kernel
theorem dX1_init_98 : decode cX1_init 98 = .ok (.bipush 7, 2) := by decide +kernel
theorem dX1_init_100 : decode cX1_init 100 = .ok (.putfield 38, 3) := by decide +kernel
theorem dX1_init_103 : decode cX1_init 103 = .ok (.goto 13, 3) := by decide +kernel
theorem dX1_init_106 : decode cX1_init 106 = .ok (.aload_n 0, 1) := by decide +kernel
theorem dX1_init_107 : decode cX1_init 107 = .ok (.iconst 5, 1) := by decide +kernel
theorem dX1_init_108 : decode cX1_init 108 = .ok (.putfield 34, 3) := by decide +kernel
theorem dX1_init_111 : decode cX1_init 111 = .ok (.aload_n 0, 1) := by decide +kernel
theorem dX1_init_112 : decode cX1_init 112 = .ok (.iconst 5, 1) := by decide +kernel
theorem dX1_init_113 : decode cX1_init 113 = .ok (.putfield 38, 3) := by decide +kernel
theorem dX1_init_116 : decode cX1_init 116 = .ok (.return_, 1) := by decide +kernel
abbrev cX1_modulus : ByteArray := prog_1_method_2_code
def yX1_modulus : MethodName := ⟨RX1, "modulus", "()I"⟩
theorem dX1_modulus_0 : decode cX1_modulus 0 = .ok (.aload_n 0, 1) := by decide +kernel
theorem dX1_modulus_1 : decode cX1_modulus 1 = .ok (.getfield 34, 3) := by decide +kernel
theorem dX1_modulus_4 : decode cX1_modulus 4 = .ok (.ireturn, 1) := by decide +kernel
abbrev cX1_append : ByteArray := prog_1_method_4_code
def yX1_append : MethodName := ⟨RX1, "append", "(I)Z"⟩
theorem dX1_append_0 : decode cX1_append 0 = .ok (.aload_n 0, 1) := by decide +kernel
theorem dX1_append_1 : decode cX1_append 1 = .ok (.iload_n 1, 1) := by decide +kernel
theorem dX1_append_2 : decode cX1_append 2 = .ok (.invokevirtual 41, 3) := by decide +kernel
theorem dX1_append_5 : decode cX1_append 5 = .ok (.ifCond .eq 14, 3) := by decide +kernel
theorem dX1_append_8 : decode cX1_append 8 = .ok (.aload_n 0, 1) := by decide +kernel
theorem dX1_append_9 : decode cX1_append 9 = .ok (.getfield 45, 3) := by decide +kernel
theorem dX1_append_12 : decode cX1_append 12 = .ok (.aload_n 0, 1) := by decide +kernel
theorem dX1_append_13 : decode cX1_append 13 = .ok (.getfield 38, 3) := by decide +kernel
theorem dX1_append_16 : decode cX1_append 16 = .ok (.if_icmp .lt 5, 3) := by decide +kernel
theorem dX1_append_19 : decode cX1_append 19 = .ok (.iconst 0, 1) := by decide +kernel
theorem dX1_append_20 : decode cX1_append 20 = .ok (.ireturn, 1) := by decide +kernel
theorem dX1_append_21 : decode cX1_append 21 = .ok (.aload_n 0, 1) := by decide +kernel
theorem dX1_append_22 : decode cX1_append 22 = .ok (.getfield 7, 3) := by decide +kernel
theorem dX1_append_25 : decode cX1_append 25 = .ok (.aload_n 0, 1) := by decide +kernel
theorem dX1_append_26 : decode cX1_append 26 = .ok (.getfield 45, 3) := by decide +kernel
theorem dX1_append_29 : decode cX1_append 29 = .ok (.iload_n 1, 1) := by decide +kernel
theorem dX1_append_30 : decode cX1_append 30 = .ok (.i2b, 1) := by decide +kernel
theorem dX1_append_31 : decode cX1_append 31 = .ok (.bastore, 1) := by decide +kernel
theorem dX1_append_32 : decode cX1_append 32 = .ok (.aload_n 0, 1) := by decide +kernel
theorem dX1_append_33 : decode cX1_append 33 = .ok (.dup, 1) := by decide +kernel
theorem dX1_append_34 : decode cX1_append 34 = .ok (.getfield 45, 3) := by decide +kernel
theorem dX1_append_37 : decode cX1_append 37 = .ok (.iconst 1, 1) := by decide +kernel
theorem dX1_append_38 : decode cX1_append 38 = .ok (.iadd, 1) := by decide +kernel
theorem dX1_append_39 : decode cX1_append 39 = .ok (.putfield 45, 3) := by decide +kernel
theorem dX1_append_42 : decode cX1_append 42 = .ok (.iconst 1, 1) := by decide +kernel
theorem dX1_append_43 : decode cX1_append 43 = .ok (.ireturn, 1) := by decide +kernel
abbrev cX1_isSymbol : ByteArray := prog_1_method_3_code
def yX1_isSymbol : MethodName := ⟨RX1, "isSymbol", "(I)Z"⟩
theorem dX1_isSymbol_0 : decode cX1_isSymbol 0 = .ok (.iload_n 1, 1) := by decide +kernel
theorem dX1_isSymbol_1 : decode cX1_isSymbol 1 = .ok (.ifCond .lt 15, 3) := by decide +kernel
theorem dX1_isSymbol_4 : decode cX1_isSymbol 4 = .ok (.iload_n 1, 1) := by decide +kernel
theorem dX1_isSymbol_5 : decode cX1_isSymbol 5 = .ok (.aload_n 0, 1) := by decide +kernel
theorem dX1_isSymbol_6 : decode cX1_isSymbol 6 = .ok (.getfield 34, 3) := by decide +kernel
theorem dX1_isSymbol_9 : decode cX1_isSymbol 9 = .ok (.if_icmp .ge 7, 3) := by decide +kernel
theorem dX1_isSymbol_12 : decode cX1_isSymbol 12 = .ok (.iconst 1, 1) := by decide +kernel
theorem dX1_isSymbol_13 : decode cX1_isSymbol 13 = .ok (.goto 4, 3) := by decide +kernel
theorem dX1_isSymbol_16 : decode cX1_isSymbol 16 = .ok (.iconst 0, 1) := by decide +kernel
theorem dX1_isSymbol_17 : decode cX1_isSymbol 17 = .ok (.ireturn, 1) := by decide +kernel
abbrev cX1_drop : ByteArray := prog_1_method_5_code
def yX1_drop : MethodName := ⟨RX1, "drop", "()I"⟩
theorem dX1_drop_0 : decode cX1_drop 0 = .ok (.aload_n 0, 1) := by decide +kernel
theorem dX1_drop_1 : decode cX1_drop 1 = .ok (.getfield 45, 3) := by decide +kernel
theorem dX1_drop_4 : decode cX1_drop 4 = .ok (.ifCond .ne 5, 3) := by decide +kernel
theorem dX1_drop_7 : decode cX1_drop 7 = .ok (.iconst (-1), 1) := by decide +kernel
theorem dX1_drop_8 : decode cX1_drop 8 = .ok (.ireturn, 1) := by decide +kernel
theorem dX1_drop_9 : decode cX1_drop 9 = .ok (.aload_n 0, 1) := by decide +kernel
theorem dX1_drop_10 : decode cX1_drop 10 = .ok (.dup, 1) := by decide +kernel
theorem dX1_drop_11 : decode cX1_drop 11 = .ok (.getfield 45, 3) := by decide +kernel
theorem dX1_drop_14 : decode cX1_drop 14 = .ok (.iconst 1, 1) := by decide +kernel
theorem dX1_drop_15 : decode cX1_drop 15 = .ok (.isub, 1) := by decide +kernel
theorem dX1_drop_16 : decode cX1_drop 16 = .ok (.putfield 45, 3) := by decide +kernel
theorem dX1_drop_19 : decode cX1_drop 19 = .ok (.aload_n 0, 1) := by decide +kernel
theorem dX1_drop_20 : decode cX1_drop 20 = .ok (.getfield 7, 3) := by decide +kernel
theorem dX1_drop_23 : decode cX1_drop 23 = .ok (.aload_n 0, 1) := by decide +kernel
theorem dX1_drop_24 : decode cX1_drop 24 = .ok (.getfield 45, 3) := by decide +kernel
theorem dX1_drop_27 : decode cX1_drop 27 = .ok (.baload, 1) := by decide +kernel
theorem dX1_drop_28 : decode cX1_drop 28 = .ok (.ireturn, 1) := by decide +kernel
abbrev cX1_change : ByteArray := prog_1_method_6_code
def yX1_change : MethodName := ⟨RX1, "change", "(II)Z"⟩
theorem dX1_change_0 : decode cX1_change 0 = .ok (.iload_n 1, 1) := by decide +kernel
theorem dX1_change_1 : decode cX1_change 1 = .ok (.ifCond .lt 19, 3) := by decide +kernel
theorem dX1_change_4 : decode cX1_change 4 = .ok (.iload_n 1, 1) := by decide +kernel
theorem dX1_change_5 : decode cX1_change 5 = .ok (.aload_n 0, 1) := by decide +kernel
theorem dX1_change_6 : decode cX1_change 6 = .ok (.getfield 45, 3) := by decide +kernel
theorem dX1_change_9 : decode cX1_change 9 = .ok (.if_icmp .ge 11, 3) := by decide +kernel
theorem dX1_change_12 : decode cX1_change 12 = .ok (.aload_n 0, 1) := by decide +kernel
theorem dX1_change_13 : decode cX1_change 13 = .ok (.iload_n 2, 1) := by decide +kernel
theorem dX1_change_14 : decode cX1_change 14 = .ok (.invokevirtual 41, 3) := by decide +kernel
theorem dX1_change_17 : decode cX1_change 17 = .ok (.ifCond .ne 5, 3) := by decide +kernel
theorem dX1_change_20 : decode cX1_change 20 = .ok (.iconst 0, 1) := by decide +kernel
theorem dX1_change_21 : decode cX1_change 21 = .ok (.ireturn, 1) := by decide +kernel
theorem dX1_change_22 : decode cX1_change 22 = .ok (.aload_n 0, 1) := by decide +kernel
theorem dX1_change_23 : decode cX1_change 23 = .ok (.getfield 7, 3) := by decide +kernel
theorem dX1_change_26 : decode cX1_change 26 = .ok (.iload_n 1, 1) := by decide +kernel
theorem dX1_change_27 : decode cX1_change 27 = .ok (.iload_n 2, 1) := by decide +kernel
theorem dX1_change_28 : decode cX1_change 28 = .ok (.i2b, 1) := by decide +kernel
theorem dX1_change_29 : decode cX1_change 29 = .ok (.bastore, 1) := by decide +kernel
theorem dX1_change_30 : decode cX1_change 30 = .ok (.iconst 1, 1) := by decide +kernel
theorem dX1_change_31 : decode cX1_change 31 = .ok (.ireturn, 1) := by decide +kernel
abbrev cX1_clear : ByteArray := prog_1_method_7_code
def yX1_clear : MethodName := ⟨RX1, "clear", "()V"⟩
theorem dX1_clear_0 : decode cX1_clear 0 = .ok (.aload_n 0, 1) := by decide +kernel
theorem dX1_clear_1 : decode cX1_clear 1 = .ok (.iconst 0, 1) := by decide +kernel
theorem dX1_clear_2 : decode cX1_clear 2 = .ok (.putfield 45, 3) := by decide +kernel
theorem dX1_clear_5 : decode cX1_clear 5 = .ok (.return_, 1) := by decide +kernel
abbrev cX1_length : ByteArray := prog_1_method_8_code
def yX1_length : MethodName := ⟨RX1, "length", "()I"⟩
theorem dX1_length_0 : decode cX1_length 0 = .ok (.aload_n 0, 1) := by decide +kernel
theorem dX1_length_1 : decode cX1_length 1 = .ok (.getfield 45, 3) := by decide +kernel
theorem dX1_length_4 : decode cX1_length 4 = .ok (.ireturn, 1) := by decide +kernel
abbrev cX1_symbol : ByteArray := prog_1_method_9_code
def yX1_symbol : MethodName := ⟨RX1, "symbol", "(I)I"⟩
theorem dX1_symbol_0 : decode cX1_symbol 0 = .ok (.iload_n 1, 1) := by decide +kernel
theorem dX1_symbol_1 : decode cX1_symbol 1 = .ok (.ifCond .lt 11, 3) := by decide +kernel
theorem dX1_symbol_4 : decode cX1_symbol 4 = .ok (.iload_n 1, 1) := by decide +kernel
theorem dX1_symbol_5 : decode cX1_symbol 5 = .ok (.aload_n 0, 1) := by decide +kernel
theorem dX1_symbol_6 : decode cX1_symbol 6 = .ok (.getfield 45, 3) := by decide +kernel
theorem dX1_symbol_9 : decode cX1_symbol 9 = .ok (.if_icmp .lt 7, 3) := by decide +kernel
theorem dX1_symbol_12 : decode cX1_symbol 12 = .ok (.iconst (-1), 1) := by decide +kernel
theorem dX1_symbol_13 : decode cX1_symbol 13 = .ok (.goto 9, 3) := by decide +kernel
theorem dX1_symbol_16 : decode cX1_symbol 16 = .ok (.aload_n 0, 1) := by decide +kernel
theorem dX1_symbol_17 : decode cX1_symbol 17 = .ok (.getfield 7, 3) := by decide +kernel
theorem dX1_symbol_20 : decode cX1_symbol 20 = .ok (.iload_n 1, 1) := by decide +kernel
theorem dX1_symbol_21 : decode cX1_symbol 21 = .ok (.baload, 1) := by decide +kernel
theorem dX1_symbol_22 : decode cX1_symbol 22 = .ok (.ireturn, 1) := by decide +kernel
abbrev cX1_complexity : ByteArray := prog_1_method_13_code
def yX1_complexity : MethodName := ⟨RX1, "complexity", "(II)I"⟩
theorem dX1_complexity_0 : decode cX1_complexity 0 = .ok (.iload_n 1, 1) := by decide +kernel
theorem dX1_complexity_1 : decode cX1_complexity 1 = .ok (.ifCond .lt 16, 3) := by decide +kernel
theorem dX1_complexity_4 : decode cX1_complexity 4 = .ok (.iload_n 2, 1) := by decide +kernel
theorem dX1_complexity_5 : decode cX1_complexity 5 = .ok (.aload_n 0, 1) := by decide +kernel
theorem dX1_complexity_6 : decode cX1_complexity 6 = .ok (.getfield 45, 3) := by decide +kernel
theorem dX1_complexity_9 : decode cX1_complexity 9 = .ok (.if_icmp .gt 8, 3) := by decide +kernel
theorem dX1_complexity_12 : decode cX1_complexity 12 = .ok (.iload_n 1, 1) := by decide +kernel
theorem dX1_complexity_13 : decode cX1_complexity 13 = .ok (.iload_n 2, 1) := by decide +kernel
theorem dX1_complexity_14 : decode cX1_complexity 14 = .ok (.if_icmp .le 5, 3) := by decide +kernel
theorem dX1_complexity_17 : decode cX1_complexity 17 = .ok (.iconst (-1), 1) := by decide +kernel
theorem dX1_complexity_18 : decode cX1_complexity 18 = .ok (.ireturn, 1) := by decide +kernel
theorem dX1_complexity_19 : decode cX1_complexity 19 = .ok (.aload_n 0, 1) := by decide +kernel
theorem dX1_complexity_20 : decode cX1_complexity 20 = .ok (.iload_n 1, 1) := by decide +kernel
theorem dX1_complexity_21 : decode cX1_complexity 21 = .ok (.iload_n 2, 1) := by decide +kernel
theorem dX1_complexity_22 : decode cX1_complexity 22 = .ok (.invokevirtual 51, 3) := by decide +kernel
theorem dX1_complexity_25 : decode cX1_complexity 25 = .ok (.aload_n 0, 1) := by decide +kernel
theorem dX1_complexity_26 : decode cX1_complexity 26 = .ok (.invokevirtual 55, 3) := by decide +kernel
theorem dX1_complexity_29 : decode cX1_complexity 29 = .ok (.ireturn, 1) := by decide +kernel
abbrev cX1_take : ByteArray := prog_1_method_10_code
def yX1_take : MethodName := ⟨RX1, "take", "(II)V"⟩
theorem dX1_take_0 : decode cX1_take 0 = .ok (.aload_n 0, 1) := by decide +kernel
theorem dX1_take_1 : decode cX1_take 1 = .ok (.iconst 0, 1) := by decide +kernel
theorem dX1_take_2 : decode cX1_take 2 = .ok (.putfield 48, 3) := by decide +kernel
theorem dX1_take_5 : decode cX1_take 5 = .ok (.iload_n 1, 1) := by decide +kernel
theorem dX1_take_6 : decode cX1_take 6 = .ok (.istore_n 3, 1) := by decide +kernel
theorem dX1_take_7 : decode cX1_take 7 = .ok (.iload_n 3, 1) := by decide +kernel
theorem dX1_take_8 : decode cX1_take 8 = .ok (.iload_n 2, 1) := by decide +kernel
theorem dX1_take_9 : decode cX1_take 9 = .ok (.if_icmp .ge 34, 3) := by decide +kernel
theorem dX1_take_12 : decode cX1_take 12 = .ok (.aload_n 0, 1) := by decide +kernel
theorem dX1_take_13 : decode cX1_take 13 = .ok (.getfield 13, 3) := by decide +kernel
theorem dX1_take_16 : decode cX1_take 16 = .ok (.aload_n 0, 1) := by decide +kernel
theorem dX1_take_17 : decode cX1_take 17 = .ok (.getfield 48, 3) := by decide +kernel
theorem dX1_take_20 : decode cX1_take 20 = .ok (.aload_n 0, 1) := by decide +kernel
theorem dX1_take_21 : decode cX1_take 21 = .ok (.getfield 7, 3) := by decide +kernel
theorem dX1_take_24 : decode cX1_take 24 = .ok (.iload_n 3, 1) := by decide +kernel
theorem dX1_take_25 : decode cX1_take 25 = .ok (.baload, 1) := by decide +kernel
theorem dX1_take_26 : decode cX1_take 26 = .ok (.bastore, 1) := by decide +kernel
theorem dX1_take_27 : decode cX1_take 27 = .ok (.aload_n 0, 1) := by decide +kernel
theorem dX1_take_28 : decode cX1_take 28 = .ok (.dup, 1) := by decide +kernel
theorem dX1_take_29 : decode cX1_take 29 = .ok (.getfield 48, 3) := by decide +kernel
theorem dX1_take_32 : decode cX1_take 32 = .ok (.iconst 1, 1) := by decide +kernel
theorem dX1_take_33 : decode cX1_take 33 = .ok (.iadd, 1) := by decide +kernel
theorem dX1_take_34 : decode cX1_take 34 = .ok (.putfield 48, 3) := by decide +kernel
theorem dX1_take_37 : decode cX1_take 37 = .ok (.iinc 3 1, 3) := by decide +kernel
theorem dX1_take_40 : decode cX1_take 40 = .ok (.goto (-33), 3) := by decide +kernel
theorem dX1_take_43 : decode cX1_take 43 = .ok (.return_, 1) := by decide +kernel
abbrev cX1_shortest : ByteArray := prog_1_method_16_code
def yX1_shortest : MethodName := ⟨RX1, "shortest", "()I"⟩
theorem dX1_shortest_0 : decode cX1_shortest 0 = .ok (.iconst 0, 1) := by decide +kernel
theorem dX1_shortest_1 : decode cX1_shortest 1 = .ok (.istore_n 1, 1) := by decide +kernel
theorem dX1_shortest_2 : decode cX1_shortest 2 = .ok (.iload_n 1, 1) := by decide +kernel
theorem dX1_shortest_3 : decode cX1_shortest 3 = .ok (.bipush 32, 2) := by decide +kernel
theorem dX1_shortest_5 : decode cX1_shortest 5 = .ok (.if_icmp .ge 23, 3) := by decide +kernel
theorem dX1_shortest_8 : decode cX1_shortest 8 = .ok (.aload_n 0, 1) := by decide +kernel
theorem dX1_shortest_9 : decode cX1_shortest 9 = .ok (.getfield 16, 3) := by decide +kernel
theorem dX1_shortest_12 : decode cX1_shortest 12 = .ok (.iload_n 1, 1) := by decide +kernel
theorem dX1_shortest_13 : decode cX1_shortest 13 = .ok (.iconst 0, 1) := by decide +kernel
theorem dX1_shortest_14 : decode cX1_shortest 14 = .ok (.bastore, 1) := by decide +kernel
theorem dX1_shortest_15 : decode cX1_shortest 15 = .ok (.aload_n 0, 1) := by decide +kernel
theorem dX1_shortest_16 : decode cX1_shortest 16 = .ok (.getfield 19, 3) := by decide +kernel
theorem dX1_shortest_19 : decode cX1_shortest 19 = .ok (.iload_n 1, 1) := by decide +kernel
theorem dX1_shortest_20 : decode cX1_shortest 20 = .ok (.iconst 0, 1) := by decide +kernel
theorem dX1_shortest_21 : decode cX1_shortest 21 = .ok (.bastore, 1) := by decide +kernel
theorem dX1_shortest_22 : decode cX1_shortest 22 = .ok (.iinc 1 1, 3) := by decide +kernel
theorem dX1_shortest_25 : decode cX1_shortest 25 = .ok (.goto (-23), 3) := by decide +kernel
theorem dX1_shortest_28 : decode cX1_shortest 28 = .ok (.aload_n 0, 1) := by decide +kernel
theorem dX1_shortest_29 : decode cX1_shortest 29 = .ok (.getfield 16, 3) := by decide +kernel
theorem dX1_shortest_32 : decode cX1_shortest 32 = .ok (.iconst 0, 1) := by decide +kernel
theorem dX1_shortest_33 : decode cX1_shortest 33 = .ok (.iconst 1, 1) := by decide +kernel
theorem dX1_shortest_34 : decode cX1_shortest 34 = .ok (.bastore, 1) := by decide +kernel
theorem dX1_shortest_35 : decode cX1_shortest 35 = .ok (.aload_n 0, 1) := by decide +kernel
theorem dX1_shortest_36 : decode cX1_shortest 36 = .ok (.getfield 19, 3) := by decide +kernel
theorem dX1_shortest_39 : decode cX1_shortest 39 = .ok (.iconst 0, 1) := by decide +kernel
theorem dX1_shortest_40 : decode cX1_shortest 40 = .ok (.iconst 1, 1) := by decide +kernel
theorem dX1_shortest_41 : decode cX1_shortest 41 = .ok (.bastore, 1) := by decide +kernel
theorem dX1_shortest_42 : decode cX1_shortest 42 = .ok (.iconst 0, 1) := by decide +kernel
theorem dX1_shortest_43 : decode cX1_shortest 43 = .ok (.istore_n 1, 1) := by decide +kernel
theorem dX1_shortest_44 : decode cX1_shortest 44 = .ok (.iconst 1, 1) := by decide +kernel
theorem dX1_shortest_45 : decode cX1_shortest 45 = .ok (.istore_n 2, 1) := by decide +kernel
theorem dX1_shortest_46 : decode cX1_shortest 46 = .ok (.iconst 1, 1) := by decide +kernel
theorem dX1_shortest_47 : decode cX1_shortest 47 = .ok (.istore_n 3, 1) := by decide +kernel
theorem dX1_shortest_48 : decode cX1_shortest 48 = .ok (.iconst 0, 1) := by decide +kernel
theorem dX1_shortest_49 : decode cX1_shortest 49 = .ok (.istore 4, 2) := by decide +kernel
theorem dX1_shortest_51 : decode cX1_shortest 51 = .ok (.iload 4, 2) := by decide +kernel
theorem dX1_shortest_53 : decode cX1_shortest 53 = .ok (.aload_n 0, 1) := by decide +kernel
theorem dX1_shortest_54 : decode cX1_shortest 54 = .ok (.getfield 48, 3) := by decide +kernel
theorem dX1_shortest_57 : decode cX1_shortest 57 = .ok (.if_icmp .ge 79, 3) := by decide +kernel
theorem dX1_shortest_60 : decode cX1_shortest 60 = .ok (.aload_n 0, 1) := by decide +kernel
theorem dX1_shortest_61 : decode cX1_shortest 61 = .ok (.iload 4, 2) := by decide +kernel
theorem dX1_shortest_63 : decode cX1_shortest 63 = .ok (.iload_n 1, 1) := by decide +kernel
theorem dX1_shortest_64 : decode cX1_shortest 64 = .ok (.invokevirtual 72, 3) := by decide +kernel
theorem dX1_shortest_67 : decode cX1_shortest 67 = .ok (.istore 5, 2) := by decide +kernel
theorem dX1_shortest_69 : decode cX1_shortest 69 = .ok (.iload 5, 2) := by decide +kernel
theorem dX1_shortest_71 : decode cX1_shortest 71 = .ok (.ifCond .ne 9, 3) := by decide +kernel
theorem dX1_shortest_74 : decode cX1_shortest 74 = .ok (.iinc 2 1, 3) := by decide +kernel
theorem dX1_shortest_77 : decode cX1_shortest 77 = .ok (.goto 53, 3) := by decide +kernel
theorem dX1_shortest_80 : decode cX1_shortest 80 = .ok (.iconst 2, 1) := by decide +kernel
theorem dX1_shortest_81 : decode cX1_shortest 81 = .ok (.iload_n 1, 1) := by decide +kernel
theorem dX1_shortest_82 : decode cX1_shortest 82 = .ok (.imul, 1) := by decide +kernel
theorem dX1_shortest_83 : decode cX1_shortest 83 = .ok (.iload 4, 2) := by decide +kernel
theorem dX1_shortest_85 : decode cX1_shortest 85 = .ok (.if_icmp .gt 34, 3) := by decide +kernel
theorem dX1_shortest_88 : decode cX1_shortest 88 = .ok (.aload_n 0, 1) := by decide +kernel
theorem dX1_shortest_89 : decode cX1_shortest 89 = .ok (.invokevirtual 76, 3) := by decide +kernel
theorem dX1_shortest_92 : decode cX1_shortest 92 = .ok (.aload_n 0, 1) := by decide +kernel
theorem dX1_shortest_93 : decode cX1_shortest 93 = .ok (.iload 5, 2) := by decide +kernel
theorem dX1_shortest_95 : decode cX1_shortest 95 = .ok (.iload_n 3, 1) := by decide +kernel
theorem dX1_shortest_96 : decode cX1_shortest 96 = .ok (.iload_n 2, 1) := by decide +kernel
theorem dX1_shortest_97 : decode cX1_shortest 97 = .ok (.invokevirtual 79, 3) := by decide +kernel
theorem dX1_shortest_100 : decode cX1_shortest 100 = .ok (.iload 4, 2) := by decide +kernel
theorem dX1_shortest_102 : decode cX1_shortest 102 = .ok (.iconst 1, 1) := by decide +kernel
theorem dX1_shortest_103 : decode cX1_shortest 103 = .ok (.iadd, 1) := by decide +kernel
theorem dX1_shortest_104 : decode cX1_shortest 104 = .ok (.iload_n 1, 1) := by decide +kernel
theorem dX1_shortest_105 : decode cX1_shortest 105 = .ok (.isub, 1) := by decide +kernel
theorem dX1_shortest_106 : decode cX1_shortest 106 = .ok (.istore_n 1, 1) := by decide +kernel
theorem dX1_shortest_107 : decode cX1_shortest 107 = .ok (.aload_n 0, 1) := by decide +kernel
theorem dX1_shortest_108 : decode cX1_shortest 108 = .ok (.invokevirtual 83, 3) := by decide +kernel
theorem dX1_shortest_111 : decode cX1_shortest 111 = .ok (.iload 5, 2) := by decide +kernel
theorem dX1_shortest_113 : decode cX1_shortest 113 = .ok (.istore_n 3, 1) := by decide +kernel
theorem dX1_shortest_114 : decode cX1_shortest 114 = .ok (.iconst 1, 1) := by decide +kernel
theorem dX1_shortest_115 : decode cX1_shortest 115 = .ok (.istore_n 2, 1) := by decide +kernel
theorem dX1_shortest_116 : decode cX1_shortest 116 = .ok (.goto 14, 3) := by decide +kernel
theorem dX1_shortest_119 : decode cX1_shortest 119 = .ok (.aload_n 0, 1) := by decide +kernel
theorem dX1_shortest_120 : decode cX1_shortest 120 = .ok (.iload 5, 2) := by decide +kernel
theorem dX1_shortest_122 : decode cX1_shortest 122 = .ok (.iload_n 3, 1) := by decide +kernel
theorem dX1_shortest_123 : decode cX1_shortest 123 = .ok (.iload_n 2, 1) := by decide +kernel
theorem dX1_shortest_124 : decode cX1_shortest 124 = .ok (.invokevirtual 79, 3) := by decide +kernel
theorem dX1_shortest_127 : decode cX1_shortest 127 = .ok (.iinc 2 1, 3) := by decide +kernel
theorem dX1_shortest_130 : decode cX1_shortest 130 = .ok (.iinc 4 1, 3) := by decide +kernel
theorem dX1_shortest_133 : decode cX1_shortest 133 = .ok (.goto (-82), 3) := by decide +kernel
theorem dX1_shortest_136 : decode cX1_shortest 136 = .ok (.iload_n 1, 1) := by decide +kernel
theorem dX1_shortest_137 : decode cX1_shortest 137 = .ok (.ireturn, 1) := by decide +kernel
abbrev cX1_discrepancy : ByteArray := prog_1_method_17_code
def yX1_discrepancy : MethodName := ⟨RX1, "discrepancy", "(II)I"⟩
theorem dX1_discrepancy_0 : decode cX1_discrepancy 0 = .ok (.iconst 0, 1) := by decide +kernel
theorem dX1_discrepancy_1 : decode cX1_discrepancy 1 = .ok (.istore_n 3, 1) := by decide +kernel
theorem dX1_discrepancy_2 : decode cX1_discrepancy 2 = .ok (.iconst 0, 1) := by decide +kernel
theorem dX1_discrepancy_3 : decode cX1_discrepancy 3 = .ok (.istore 4, 2) := by decide +kernel
theorem dX1_discrepancy_5 : decode cX1_discrepancy 5 = .ok (.iload 4, 2) := by decide +kernel
theorem dX1_discrepancy_7 : decode cX1_discrepancy 7 = .ok (.iload_n 2, 1) := by decide +kernel
theorem dX1_discrepancy_8 : decode cX1_discrepancy 8 = .ok (.if_icmp .gt 35, 3) := by decide +kernel
theorem dX1_discrepancy_11 : decode cX1_discrepancy 11 = .ok (.iload 4, 2) := by decide +kernel
theorem dX1_discrepancy_13 : decode cX1_discrepancy 13 = .ok (.iload_n 1, 1) := by decide +kernel
theorem dX1_discrepancy_14 : decode cX1_discrepancy 14 = .ok (.if_icmp .gt 29, 3) := by decide +kernel
theorem dX1_discrepancy_17 : decode cX1_discrepancy 17 = .ok (.iload_n 3, 1) := by decide +kernel
theorem dX1_discrepancy_18 : decode cX1_discrepancy 18 = .ok (.aload_n 0, 1) := by decide +kernel
theorem dX1_discrepancy_19 : decode cX1_discrepancy 19 = .ok (.getfield 16, 3) := by decide +kernel
theorem dX1_discrepancy_22 : decode cX1_discrepancy 22 = .ok (.iload 4, 2) := by decide +kernel
theorem dX1_discrepancy_24 : decode cX1_discrepancy 24 = .ok (.baload, 1) := by decide +kernel
theorem dX1_discrepancy_25 : decode cX1_discrepancy 25 = .ok (.aload_n 0, 1) := by decide +kernel
theorem dX1_discrepancy_26 : decode cX1_discrepancy 26 = .ok (.getfield 13, 3) := by decide +kernel
theorem dX1_discrepancy_29 : decode cX1_discrepancy 29 = .ok (.iload_n 1, 1) := by decide +kernel
theorem dX1_discrepancy_30 : decode cX1_discrepancy 30 = .ok (.iload 4, 2) := by decide +kernel
theorem dX1_discrepancy_32 : decode cX1_discrepancy 32 = .ok (.isub, 1) := by decide +kernel
theorem dX1_discrepancy_33 : decode cX1_discrepancy 33 = .ok (.baload, 1) := by decide +kernel
theorem dX1_discrepancy_34 : decode cX1_discrepancy 34 = .ok (.imul, 1) := by decide +kernel
theorem dX1_discrepancy_35 : decode cX1_discrepancy 35 = .ok (.iadd, 1) := by decide +kernel
theorem dX1_discrepancy_36 : decode cX1_discrepancy 36 = .ok (.istore_n 3, 1) := by decide +kernel
theorem dX1_discrepancy_37 : decode cX1_discrepancy 37 = .ok (.iinc 4 1, 3) := by decide +kernel
theorem dX1_discrepancy_40 : decode cX1_discrepancy 40 = .ok (.goto (-35), 3) := by decide +kernel
theorem dX1_discrepancy_43 : decode cX1_discrepancy 43 = .ok (.iload_n 3, 1) := by decide +kernel
theorem dX1_discrepancy_44 : decode cX1_discrepancy 44 = .ok (.aload_n 0, 1) := by decide +kernel
theorem dX1_discrepancy_45 : decode cX1_discrepancy 45 = .ok (.getfield 34, 3) := by decide +kernel
theorem dX1_discrepancy_48 : decode cX1_discrepancy 48 = .ok (.irem, 1) := by decide +kernel
theorem dX1_discrepancy_49 : decode cX1_discrepancy 49 = .ok (.ireturn, 1) := by decide +kernel
abbrev cX1_keepCopy : ByteArray := prog_1_method_18_code
def yX1_keepCopy : MethodName := ⟨RX1, "keepCopy", "()V"⟩
theorem dX1_keepCopy_0 : decode cX1_keepCopy 0 = .ok (.iconst 0, 1) := by decide +kernel
theorem dX1_keepCopy_1 : decode cX1_keepCopy 1 = .ok (.istore_n 1, 1) := by decide +kernel
theorem dX1_keepCopy_2 : decode cX1_keepCopy 2 = .ok (.iload_n 1, 1) := by decide +kernel
theorem dX1_keepCopy_3 : decode cX1_keepCopy 3 = .ok (.bipush 32, 2) := by decide +kernel
theorem dX1_keepCopy_5 : decode cX1_keepCopy 5 = .ok (.if_icmp .ge 21, 3) := by decide +kernel
theorem dX1_keepCopy_8 : decode cX1_keepCopy 8 = .ok (.aload_n 0, 1) := by decide +kernel
theorem dX1_keepCopy_9 : decode cX1_keepCopy 9 = .ok (.getfield 22, 3) := by decide +kernel
theorem dX1_keepCopy_12 : decode cX1_keepCopy 12 = .ok (.iload_n 1, 1) := by decide +kernel
theorem dX1_keepCopy_13 : decode cX1_keepCopy 13 = .ok (.aload_n 0, 1) := by decide +kernel
theorem dX1_keepCopy_14 : decode cX1_keepCopy 14 = .ok (.getfield 16, 3) := by decide +kernel
theorem dX1_keepCopy_17 : decode cX1_keepCopy 17 = .ok (.iload_n 1, 1) := by decide +kernel
theorem dX1_keepCopy_18 : decode cX1_keepCopy 18 = .ok (.baload, 1) := by decide +kernel
theorem dX1_keepCopy_19 : decode cX1_keepCopy 19 = .ok (.bastore, 1) := by decide +kernel
theorem dX1_keepCopy_20 : decode cX1_keepCopy 20 = .ok (.iinc 1 1, 3) := by decide +kernel
theorem dX1_keepCopy_23 : decode cX1_keepCopy 23 = .ok (.goto (-21), 3) := by decide +kernel
theorem dX1_keepCopy_26 : decode cX1_keepCopy 26 = .ok (.return_, 1) := by decide +kernel
abbrev cX1_mend : ByteArray := prog_1_method_20_code
def yX1_mend : MethodName := ⟨RX1, "mend", "(III)V"⟩
theorem dX1_mend_0 : decode cX1_mend 0 = .ok (.iload_n 1, 1) := by decide +kernel
theorem dX1_mend_1 : decode cX1_mend 1 = .ok (.aload_n 0, 1) := by decide +kernel
theorem dX1_mend_2 : decode cX1_mend 2 = .ok (.iload_n 2, 1) := by decide +kernel
theorem dX1_mend_3 : decode cX1_mend 3 = .ok (.invokevirtual 86, 3) := by decide +kernel
theorem dX1_mend_6 : decode cX1_mend 6 = .ok (.imul, 1) := by decide +kernel
theorem dX1_mend_7 : decode cX1_mend 7 = .ok (.aload_n 0, 1) := by decide +kernel
theorem dX1_mend_8 : decode cX1_mend 8 = .ok (.getfield 34, 3) := by decide +kernel
theorem dX1_mend_11 : decode cX1_mend 11 = .ok (.irem, 1) := by decide +kernel
theorem dX1_mend_12 : decode cX1_mend 12 = .ok (.istore 4, 2) := by decide +kernel
theorem dX1_mend_14 : decode cX1_mend 14 = .ok (.iload_n 3, 1) := by decide +kernel
theorem dX1_mend_15 : decode cX1_mend 15 = .ok (.istore 5, 2) := by decide +kernel
theorem dX1_mend_17 : decode cX1_mend 17 = .ok (.iload 5, 2) := by decide +kernel
theorem dX1_mend_19 : decode cX1_mend 19 = .ok (.bipush 32, 2) := by decide +kernel
theorem dX1_mend_21 : decode cX1_mend 21 = .ok (.if_icmp .ge 45, 3) := by decide +kernel
theorem dX1_mend_24 : decode cX1_mend 24 = .ok (.aload_n 0, 1) := by decide +kernel
theorem dX1_mend_25 : decode cX1_mend 25 = .ok (.getfield 16, 3) := by decide +kernel
theorem dX1_mend_28 : decode cX1_mend 28 = .ok (.iload 5, 2) := by decide +kernel
theorem dX1_mend_30 : decode cX1_mend 30 = .ok (.baload, 1) := by decide +kernel
theorem dX1_mend_31 : decode cX1_mend 31 = .ok (.iload 4, 2) := by decide +kernel
theorem dX1_mend_33 : decode cX1_mend 33 = .ok (.aload_n 0, 1) := by decide +kernel
theorem dX1_mend_34 : decode cX1_mend 34 = .ok (.getfield 19, 3) := by decide +kernel
theorem dX1_mend_37 : decode cX1_mend 37 = .ok (.iload 5, 2) := by decide +kernel
theorem dX1_mend_39 : decode cX1_mend 39 = .ok (.iload_n 3, 1) := by decide +kernel
theorem dX1_mend_40 : decode cX1_mend 40 = .ok (.isub, 1) := by decide +kernel
theorem dX1_mend_41 : decode cX1_mend 41 = .ok (.baload, 1) := by decide +kernel
theorem dX1_mend_42 : decode cX1_mend 42 = .ok (.imul, 1) := by decide +kernel
theorem dX1_mend_43 : decode cX1_mend 43 = .ok (.isub, 1) := by decide +kernel
theorem dX1_mend_44 : decode cX1_mend 44 = .ok (.istore 6, 2) := by decide +kernel
theorem dX1_mend_46 : decode cX1_mend 46 = .ok (.aload_n 0, 1) := by decide +kernel
theorem dX1_mend_47 : decode cX1_mend 47 = .ok (.getfield 16, 3) := by decide +kernel
theorem dX1_mend_50 : decode cX1_mend 50 = .ok (.iload 5, 2) := by decide +kernel
theorem dX1_mend_52 : decode cX1_mend 52 = .ok (.aload_n 0, 1) := by decide +kernel
theorem dX1_mend_53 : decode cX1_mend 53 = .ok (.iload 6, 2) := by decide +kernel
theorem dX1_mend_55 : decode cX1_mend 55 = .ok (.invokevirtual 90, 3) := by decide +kernel
theorem dX1_mend_58 : decode cX1_mend 58 = .ok (.i2b, 1) := by decide +kernel
theorem dX1_mend_59 : decode cX1_mend 59 = .ok (.bastore, 1) := by decide +kernel
theorem dX1_mend_60 : decode cX1_mend 60 = .ok (.iinc 5 1, 3) := by decide +kernel
theorem dX1_mend_63 : decode cX1_mend 63 = .ok (.goto (-46), 3) := by decide +kernel
theorem dX1_mend_66 : decode cX1_mend 66 = .ok (.return_, 1) := by decide +kernel
abbrev cX1_inverse : ByteArray := prog_1_method_11_code
def yX1_inverse : MethodName := ⟨RX1, "inverse", "(I)I"⟩
theorem dX1_inverse_0 : decode cX1_inverse 0 = .ok (.iconst 1, 1) := by decide +kernel
theorem dX1_inverse_1 : decode cX1_inverse 1 = .ok (.istore_n 2, 1) := by decide +kernel
theorem dX1_inverse_2 : decode cX1_inverse 2 = .ok (.iconst 2, 1) := by decide +kernel
theorem dX1_inverse_3 : decode cX1_inverse 3 = .ok (.istore_n 3, 1) := by decide +kernel
theorem dX1_inverse_4 : decode cX1_inverse 4 = .ok (.iload_n 3, 1) := by decide +kernel
theorem dX1_inverse_5 : decode cX1_inverse 5 = .ok (.aload_n 0, 1) := by decide +kernel
theorem dX1_inverse_6 : decode cX1_inverse 6 = .ok (.getfield 34, 3) := by decide +kernel
theorem dX1_inverse_9 : decode cX1_inverse 9 = .ok (.if_icmp .ge 23, 3) := by decide +kernel
theorem dX1_inverse_12 : decode cX1_inverse 12 = .ok (.iload_n 1, 1) := by decide +kernel
theorem dX1_inverse_13 : decode cX1_inverse 13 = .ok (.iload_n 3, 1) := by decide +kernel
theorem dX1_inverse_14 : decode cX1_inverse 14 = .ok (.imul, 1) := by decide +kernel
theorem dX1_inverse_15 : decode cX1_inverse 15 = .ok (.aload_n 0, 1) := by decide +kernel
theorem dX1_inverse_16 : decode cX1_inverse 16 = .ok (.getfield 34, 3) := by decide +kernel
theorem dX1_inverse_19 : decode cX1_inverse 19 = .ok (.irem, 1) := by decide +kernel
theorem dX1_inverse_20 : decode cX1_inverse 20 = .ok (.iconst 1, 1) := by decide +kernel
theorem dX1_inverse_21 : decode cX1_inverse 21 = .ok (.if_icmp .ne 5, 3) := by decide +kernel
theorem dX1_inverse_24 : decode cX1_inverse 24 = .ok (.iload_n 3, 1) := by decide +kernel
theorem dX1_inverse_25 : decode cX1_inverse 25 = .ok (.istore_n 2, 1) := by decide +kernel
theorem dX1_inverse_26 : decode cX1_inverse 26 = .ok (.iinc 3 1, 3) := by decide +kernel
theorem dX1_inverse_29 : decode cX1_inverse 29 = .ok (.goto (-25), 3) := by decide +kernel
theorem dX1_inverse_32 : decode cX1_inverse 32 = .ok (.iload_n 2, 1) := by decide +kernel
theorem dX1_inverse_33 : decode cX1_inverse 33 = .ok (.ireturn, 1) := by decide +kernel
abbrev cX1_wrap : ByteArray := prog_1_method_12_code
def yX1_wrap : MethodName := ⟨RX1, "wrap", "(I)I"⟩
theorem dX1_wrap_0 : decode cX1_wrap 0 = .ok (.iload_n 1, 1) := by decide +kernel
theorem dX1_wrap_1 : decode cX1_wrap 1 = .ok (.aload_n 0, 1) := by decide +kernel
theorem dX1_wrap_2 : decode cX1_wrap 2 = .ok (.getfield 34, 3) := by decide +kernel
theorem dX1_wrap_5 : decode cX1_wrap 5 = .ok (.aload_n 0, 1) := by decide +kernel
theorem dX1_wrap_6 : decode cX1_wrap 6 = .ok (.getfield 34, 3) := by decide +kernel
theorem dX1_wrap_9 : decode cX1_wrap 9 = .ok (.imul, 1) := by decide +kernel
theorem dX1_wrap_10 : decode cX1_wrap 10 = .ok (.iadd, 1) := by decide +kernel
theorem dX1_wrap_11 : decode cX1_wrap 11 = .ok (.aload_n 0, 1) := by decide +kernel
theorem dX1_wrap_12 : decode cX1_wrap 12 = .ok (.getfield 34, 3) := by decide +kernel
theorem dX1_wrap_15 : decode cX1_wrap 15 = .ok (.irem, 1) := by decide +kernel
theorem dX1_wrap_16 : decode cX1_wrap 16 = .ok (.ireturn, 1) := by decide +kernel
abbrev cX1_useCopy : ByteArray := prog_1_method_19_code
def yX1_useCopy : MethodName := ⟨RX1, "useCopy", "()V"⟩
theorem dX1_useCopy_0 : decode cX1_useCopy 0 = .ok (.iconst 0, 1) := by decide +kernel
theorem dX1_useCopy_1 : decode cX1_useCopy 1 = .ok (.istore_n 1, 1) := by decide +kernel
theorem dX1_useCopy_2 : decode cX1_useCopy 2 = .ok (.iload_n 1, 1) := by decide +kernel
theorem dX1_useCopy_3 : decode cX1_useCopy 3 = .ok (.bipush 32, 2) := by decide +kernel
theorem dX1_useCopy_5 : decode cX1_useCopy 5 = .ok (.if_icmp .ge 21, 3) := by decide +kernel
theorem dX1_useCopy_8 : decode cX1_useCopy 8 = .ok (.aload_n 0, 1) := by decide +kernel
theorem dX1_useCopy_9 : decode cX1_useCopy 9 = .ok (.getfield 19, 3) := by decide +kernel
theorem dX1_useCopy_12 : decode cX1_useCopy 12 = .ok (.iload_n 1, 1) := by decide +kernel
theorem dX1_useCopy_13 : decode cX1_useCopy 13 = .ok (.aload_n 0, 1) := by decide +kernel
theorem dX1_useCopy_14 : decode cX1_useCopy 14 = .ok (.getfield 22, 3) := by decide +kernel
theorem dX1_useCopy_17 : decode cX1_useCopy 17 = .ok (.iload_n 1, 1) := by decide +kernel
theorem dX1_useCopy_18 : decode cX1_useCopy 18 = .ok (.baload, 1) := by decide +kernel
theorem dX1_useCopy_19 : decode cX1_useCopy 19 = .ok (.bastore, 1) := by decide +kernel
theorem dX1_useCopy_20 : decode cX1_useCopy 20 = .ok (.iinc 1 1, 3) := by decide +kernel
theorem dX1_useCopy_23 : decode cX1_useCopy 23 = .ok (.goto (-21), 3) := by decide +kernel
theorem dX1_useCopy_26 : decode cX1_useCopy 26 = .ok (.return_, 1) := by decide +kernel
abbrev cX1_registers : ByteArray := prog_1_method_14_code
def yX1_registers : MethodName := ⟨RX1, "registers", "()I"⟩
theorem dX1_registers_0 : decode cX1_registers 0 = .ok (.aload_n 0, 1) := by decide +kernel
theorem dX1_registers_1 : decode cX1_registers 1 = .ok (.aload_n 0, 1) := by decide +kernel
theorem dX1_registers_2 : decode cX1_registers 2 = .ok (.getfield 45, 3) := by decide +kernel
theorem dX1_registers_5 : decode cX1_registers 5 = .ok (.invokevirtual 59, 3) := by decide +kernel
theorem dX1_registers_8 : decode cX1_registers 8 = .ok (.iconst 1, 1) := by decide +kernel
theorem dX1_registers_9 : decode cX1_registers 9 = .ok (.istore_n 1, 1) := by decide +kernel
theorem dX1_registers_10 : decode cX1_registers 10 = .ok (.aload_n 0, 1) := by decide +kernel
theorem dX1_registers_11 : decode cX1_registers 11 = .ok (.getfield 63, 3) := by decide +kernel
theorem dX1_registers_14 : decode cX1_registers 14 = .ok (.istore_n 2, 1) := by decide +kernel
theorem dX1_registers_15 : decode cX1_registers 15 = .ok (.iload_n 2, 1) := by decide +kernel
theorem dX1_registers_16 : decode cX1_registers 16 = .ok (.aload_n 0, 1) := by decide +kernel
theorem dX1_registers_17 : decode cX1_registers 17 = .ok (.getfield 66, 3) := by decide +kernel
theorem dX1_registers_20 : decode cX1_registers 20 = .ok (.if_icmp .ge 16, 3) := by decide +kernel
theorem dX1_registers_23 : decode cX1_registers 23 = .ok (.iload_n 1, 1) := by decide +kernel
theorem dX1_registers_24 : decode cX1_registers 24 = .ok (.aload_n 0, 1) := by decide +kernel
theorem dX1_registers_25 : decode cX1_registers 25 = .ok (.getfield 34, 3) := by decide +kernel
theorem dX1_registers_28 : decode cX1_registers 28 = .ok (.imul, 1) := by decide +kernel
theorem dX1_registers_29 : decode cX1_registers 29 = .ok (.istore_n 1, 1) := by decide +kernel
theorem dX1_registers_30 : decode cX1_registers 30 = .ok (.iinc 2 1, 3) := by decide +kernel
theorem dX1_registers_33 : decode cX1_registers 33 = .ok (.goto (-18), 3) := by decide +kernel
theorem dX1_registers_36 : decode cX1_registers 36 = .ok (.iload_n 1, 1) := by decide +kernel
theorem dX1_registers_37 : decode cX1_registers 37 = .ok (.ireturn, 1) := by decide +kernel
end
section
set_option maxRecDepth 100000
abbrev cX1_findRegister : ByteArray := prog_1_method_21_code
def yX1_findRegister : MethodName := ⟨RX1, "findRegister", "(I)V"⟩
theorem dX1_findRegister_0 : decode cX1_findRegister 0 = .ok (.aload_n 0, 1) := by decide +kernel
theorem dX1_findRegister_1 : decode cX1_findRegister 1 = .ok (.iconst 0, 1) := by decide +kernel
theorem dX1_findRegister_2 : decode cX1_findRegister 2 = .ok (.iload_n 1, 1) := by decide +kernel
theorem dX1_findRegister_3 : decode cX1_findRegister 3 = .ok (.invokevirtual 51, 3) := by decide +kernel
theorem dX1_findRegister_6 : decode cX1_findRegister 6 = .ok (.aload_n 0, 1) := by decide +kernel
theorem dX1_findRegister_7 : decode cX1_findRegister 7 = .ok (.aload_n 0, 1) := by decide +kernel
theorem dX1_findRegister_8 : decode cX1_findRegister 8 = .ok (.invokevirtual 55, 3) := by decide +kernel
theorem dX1_findRegister_11 : decode cX1_findRegister 11 = .ok (.putfield 69, 3) := by decide +kernel
theorem dX1_findRegister_14 : decode cX1_findRegister 14 = .ok (.aload_n 0, 1) := by decide +kernel
theorem dX1_findRegister_15 : decode cX1_findRegister 15 = .ok (.aload_n 0, 1) := by decide +kernel
theorem dX1_findRegister_16 : decode cX1_findRegister 16 = .ok (.getfield 69, 3) := by decide +kernel
theorem dX1_findRegister_19 : decode cX1_findRegister 19 = .ok (.putfield 66, 3) := by decide +kernel
theorem dX1_findRegister_22 : decode cX1_findRegister 22 = .ok (.aload_n 0, 1) := by decide +kernel
theorem dX1_findRegister_23 : decode cX1_findRegister 23 = .ok (.aload_n 0, 1) := by decide +kernel
theorem dX1_findRegister_24 : decode cX1_findRegister 24 = .ok (.getfield 48, 3) := by decide +kernel
theorem dX1_findRegister_27 : decode cX1_findRegister 27 = .ok (.aload_n 0, 1) := by decide +kernel
theorem dX1_findRegister_28 : decode cX1_findRegister 28 = .ok (.getfield 69, 3) := by decide +kernel
theorem dX1_findRegister_31 : decode cX1_findRegister 31 = .ok (.isub, 1) := by decide +kernel
theorem dX1_findRegister_32 : decode cX1_findRegister 32 = .ok (.putfield 93, 3) := by decide +kernel
theorem dX1_findRegister_35 : decode cX1_findRegister 35 = .ok (.iconst 0, 1) := by decide +kernel
theorem dX1_findRegister_36 : decode cX1_findRegister 36 = .ok (.istore_n 2, 1) := by decide +kernel
theorem dX1_findRegister_37 : decode cX1_findRegister 37 = .ok (.iload_n 2, 1) := by decide +kernel
theorem dX1_findRegister_38 : decode cX1_findRegister 38 = .ok (.aload_n 0, 1) := by decide +kernel
theorem dX1_findRegister_39 : decode cX1_findRegister 39 = .ok (.getfield 93, 3) := by decide +kernel
theorem dX1_findRegister_42 : decode cX1_findRegister 42 = .ok (.if_icmp .ge 76, 3) := by decide +kernel
theorem dX1_findRegister_45 : decode cX1_findRegister 45 = .ok (.iconst 1, 1) := by decide +kernel
theorem dX1_findRegister_46 : decode cX1_findRegister 46 = .ok (.istore_n 3, 1) := by decide +kernel
theorem dX1_findRegister_47 : decode cX1_findRegister 47 = .ok (.iload_n 3, 1) := by decide +kernel
theorem dX1_findRegister_48 : decode cX1_findRegister 48 = .ok (.aload_n 0, 1) := by decide +kernel
theorem dX1_findRegister_49 : decode cX1_findRegister 49 = .ok (.getfield 66, 3) := by decide +kernel
theorem dX1_findRegister_52 : decode cX1_findRegister 52 = .ok (.if_icmp .gt 35, 3) := by decide +kernel
theorem dX1_findRegister_55 : decode cX1_findRegister 55 = .ok (.aload_n 0, 1) := by decide +kernel
theorem dX1_findRegister_56 : decode cX1_findRegister 56 = .ok (.getfield 25, 3) := by decide +kernel
theorem dX1_findRegister_59 : decode cX1_findRegister 59 = .ok (.iload_n 2, 1) := by decide +kernel
theorem dX1_findRegister_60 : decode cX1_findRegister 60 = .ok (.bipush 14, 2) := by decide +kernel
theorem dX1_findRegister_62 : decode cX1_findRegister 62 = .ok (.imul, 1) := by decide +kernel
theorem dX1_findRegister_63 : decode cX1_findRegister 63 = .ok (.iload_n 3, 1) := by decide +kernel
theorem dX1_findRegister_64 : decode cX1_findRegister 64 = .ok (.iadd, 1) := by decide +kernel
theorem dX1_findRegister_65 : decode cX1_findRegister 65 = .ok (.iconst 1, 1) := by decide +kernel
theorem dX1_findRegister_66 : decode cX1_findRegister 66 = .ok (.isub, 1) := by decide +kernel
theorem dX1_findRegister_67 : decode cX1_findRegister 67 = .ok (.aload_n 0, 1) := by decide +kernel
theorem dX1_findRegister_68 : decode cX1_findRegister 68 = .ok (.getfield 13, 3) := by decide +kernel
theorem dX1_findRegister_71 : decode cX1_findRegister 71 = .ok (.aload_n 0, 1) := by decide +kernel
theorem dX1_findRegister_72 : decode cX1_findRegister 72 = .ok (.getfield 69, 3) := by decide +kernel
theorem dX1_findRegister_75 : decode cX1_findRegister 75 = .ok (.iload_n 2, 1) := by decide +kernel
theorem dX1_findRegister_76 : decode cX1_findRegister 76 = .ok (.iadd, 1) := by decide +kernel
theorem dX1_findRegister_77 : decode cX1_findRegister 77 = .ok (.iload_n 3, 1) := by decide +kernel
theorem dX1_findRegister_78 : decode cX1_findRegister 78 = .ok (.isub, 1) := by decide +kernel
theorem dX1_findRegister_79 : decode cX1_findRegister 79 = .ok (.baload, 1) := by decide +kernel
theorem dX1_findRegister_80 : decode cX1_findRegister 80 = .ok (.bastore, 1) := by decide +kernel
theorem dX1_findRegister_81 : decode cX1_findRegister 81 = .ok (.iinc 3 1, 3) := by decide +kernel
theorem dX1_findRegister_84 : decode cX1_findRegister 84 = .ok (.goto (-37), 3) := by decide +kernel
theorem dX1_findRegister_87 : decode cX1_findRegister 87 = .ok (.aload_n 0, 1) := by decide +kernel
theorem dX1_findRegister_88 : decode cX1_findRegister 88 = .ok (.getfield 25, 3) := by decide +kernel
theorem dX1_findRegister_91 : decode cX1_findRegister 91 = .ok (.iload_n 2, 1) := by decide +kernel
theorem dX1_findRegister_92 : decode cX1_findRegister 92 = .ok (.bipush 14, 2) := by decide +kernel
theorem dX1_findRegister_94 : decode cX1_findRegister 94 = .ok (.imul, 1) := by decide +kernel
theorem dX1_findRegister_95 : decode cX1_findRegister 95 = .ok (.aload_n 0, 1) := by decide +kernel
theorem dX1_findRegister_96 : decode cX1_findRegister 96 = .ok (.getfield 66, 3) := by decide +kernel
theorem dX1_findRegister_99 : decode cX1_findRegister 99 = .ok (.iadd, 1) := by decide +kernel
theorem dX1_findRegister_100 : decode cX1_findRegister 100 = .ok (.aload_n 0, 1) := by decide +kernel
theorem dX1_findRegister_101 : decode cX1_findRegister 101 = .ok (.getfield 13, 3) := by decide +kernel
theorem dX1_findRegister_104 : decode cX1_findRegister 104 = .ok (.aload_n 0, 1) := by decide +kernel
theorem dX1_findRegister_105 : decode cX1_findRegister 105 = .ok (.getfield 69, 3) := by decide +kernel
theorem dX1_findRegister_108 : decode cX1_findRegister 108 = .ok (.iload_n 2, 1) := by decide +kernel
theorem dX1_findRegister_109 : decode cX1_findRegister 109 = .ok (.iadd, 1) := by decide +kernel
theorem dX1_findRegister_110 : decode cX1_findRegister 110 = .ok (.baload, 1) := by decide +kernel
theorem dX1_findRegister_111 : decode cX1_findRegister 111 = .ok (.bastore, 1) := by decide +kernel
theorem dX1_findRegister_112 : decode cX1_findRegister 112 = .ok (.iinc 2 1, 3) := by decide +kernel
theorem dX1_findRegister_115 : decode cX1_findRegister 115 = .ok (.goto (-78), 3) := by decide +kernel
theorem dX1_findRegister_118 : decode cX1_findRegister 118 = .ok (.aload_n 0, 1) := by decide +kernel
theorem dX1_findRegister_119 : decode cX1_findRegister 119 = .ok (.invokevirtual 96, 3) := by decide +kernel
theorem dX1_findRegister_122 : decode cX1_findRegister 122 = .ok (.iconst 0, 1) := by decide +kernel
theorem dX1_findRegister_123 : decode cX1_findRegister 123 = .ok (.istore_n 2, 1) := by decide +kernel
theorem dX1_findRegister_124 : decode cX1_findRegister 124 = .ok (.iload_n 2, 1) := by decide +kernel
theorem dX1_findRegister_125 : decode cX1_findRegister 125 = .ok (.aload_n 0, 1) := by decide +kernel
theorem dX1_findRegister_126 : decode cX1_findRegister 126 = .ok (.getfield 66, 3) := by decide +kernel
theorem dX1_findRegister_129 : decode cX1_findRegister 129 = .ok (.if_icmp .ge 46, 3) := by decide +kernel
theorem dX1_findRegister_132 : decode cX1_findRegister 132 = .ok (.aload_n 0, 1) := by decide +kernel
theorem dX1_findRegister_133 : decode cX1_findRegister 133 = .ok (.getfield 28, 3) := by decide +kernel
theorem dX1_findRegister_136 : decode cX1_findRegister 136 = .ok (.iload_n 2, 1) := by decide +kernel
theorem dX1_findRegister_137 : decode cX1_findRegister 137 = .ok (.baload, 1) := by decide +kernel
theorem dX1_findRegister_138 : decode cX1_findRegister 138 = .ok (.istore_n 3, 1) := by decide +kernel
theorem dX1_findRegister_139 : decode cX1_findRegister 139 = .ok (.aload_n 0, 1) := by decide +kernel
theorem dX1_findRegister_140 : decode cX1_findRegister 140 = .ok (.getfield 31, 3) := by decide +kernel
theorem dX1_findRegister_143 : decode cX1_findRegister 143 = .ok (.iload_n 2, 1) := by decide +kernel
theorem dX1_findRegister_144 : decode cX1_findRegister 144 = .ok (.iconst 1, 1) := by decide +kernel
theorem dX1_findRegister_145 : decode cX1_findRegister 145 = .ok (.iadd, 1) := by decide +kernel
theorem dX1_findRegister_146 : decode cX1_findRegister 146 = .ok (.iload_n 3, 1) := by decide +kernel
theorem dX1_findRegister_147 : decode cX1_findRegister 147 = .ok (.ifCond .ge 7, 3) := by decide +kernel
theorem dX1_findRegister_150 : decode cX1_findRegister 150 = .ok (.iconst 0, 1) := by decide +kernel
theorem dX1_findRegister_151 : decode cX1_findRegister 151 = .ok (.goto 17, 3) := by decide +kernel
theorem dX1_findRegister_154 : decode cX1_findRegister 154 = .ok (.aload_n 0, 1) := by decide +kernel
theorem dX1_findRegister_155 : decode cX1_findRegister 155 = .ok (.getfield 25, 3) := by decide +kernel
theorem dX1_findRegister_158 : decode cX1_findRegister 158 = .ok (.iload_n 3, 1) := by decide +kernel
theorem dX1_findRegister_159 : decode cX1_findRegister 159 = .ok (.bipush 14, 2) := by decide +kernel
theorem dX1_findRegister_161 : decode cX1_findRegister 161 = .ok (.imul, 1) := by decide +kernel
theorem dX1_findRegister_162 : decode cX1_findRegister 162 = .ok (.aload_n 0, 1) := by decide +kernel
theorem dX1_findRegister_163 : decode cX1_findRegister 163 = .ok (.getfield 66, 3) := by decide +kernel
theorem dX1_findRegister_166 : decode cX1_findRegister 166 = .ok (.iadd, 1) := by decide +kernel
theorem dX1_findRegister_167 : decode cX1_findRegister 167 = .ok (.baload, 1) := by decide +kernel
theorem dX1_findRegister_168 : decode cX1_findRegister 168 = .ok (.bastore, 1) := by decide +kernel
theorem dX1_findRegister_169 : decode cX1_findRegister 169 = .ok (.iinc 2 1, 3) := by decide +kernel
theorem dX1_findRegister_172 : decode cX1_findRegister 172 = .ok (.goto (-48), 3) := by decide +kernel
theorem dX1_findRegister_175 : decode cX1_findRegister 175 = .ok (.return_, 1) := by decide +kernel
abbrev cX1_eliminate : ByteArray := prog_1_method_22_code
def yX1_eliminate : MethodName := ⟨RX1, "eliminate", "()V"⟩
theorem dX1_eliminate_0 : decode cX1_eliminate 0 = .ok (.aload_n 0, 1) := by decide +kernel
theorem dX1_eliminate_1 : decode cX1_eliminate 1 = .ok (.iconst 0, 1) := by decide +kernel
theorem dX1_eliminate_2 : decode cX1_eliminate 2 = .ok (.putfield 63, 3) := by decide +kernel
theorem dX1_eliminate_5 : decode cX1_eliminate 5 = .ok (.aload_n 0, 1) := by decide +kernel
theorem dX1_eliminate_6 : decode cX1_eliminate 6 = .ok (.getfield 66, 3) := by decide +kernel
theorem dX1_eliminate_9 : decode cX1_eliminate 9 = .ok (.iconst 1, 1) := by decide +kernel
theorem dX1_eliminate_10 : decode cX1_eliminate 10 = .ok (.isub, 1) := by decide +kernel
theorem dX1_eliminate_11 : decode cX1_eliminate 11 = .ok (.istore_n 1, 1) := by decide +kernel
theorem dX1_eliminate_12 : decode cX1_eliminate 12 = .ok (.iload_n 1, 1) := by decide +kernel
theorem dX1_eliminate_13 : decode cX1_eliminate 13 = .ok (.ifCond .lt 74, 3) := by decide +kernel
theorem dX1_eliminate_16 : decode cX1_eliminate 16 = .ok (.aload_n 0, 1) := by decide +kernel
theorem dX1_eliminate_17 : decode cX1_eliminate 17 = .ok (.getfield 28, 3) := by decide +kernel
theorem dX1_eliminate_20 : decode cX1_eliminate 20 = .ok (.iload_n 1, 1) := by decide +kernel
theorem dX1_eliminate_21 : decode cX1_eliminate 21 = .ok (.iconst (-1), 1) := by decide +kernel
theorem dX1_eliminate_22 : decode cX1_eliminate 22 = .ok (.bastore, 1) := by decide +kernel
theorem dX1_eliminate_23 : decode cX1_eliminate 23 = .ok (.aload_n 0, 1) := by decide +kernel
theorem dX1_eliminate_24 : decode cX1_eliminate 24 = .ok (.iload_n 1, 1) := by decide +kernel
theorem dX1_eliminate_25 : decode cX1_eliminate 25 = .ok (.invokevirtual 99, 3) := by decide +kernel
theorem dX1_eliminate_28 : decode cX1_eliminate 28 = .ok (.istore_n 2, 1) := by decide +kernel
theorem dX1_eliminate_29 : decode cX1_eliminate 29 = .ok (.iload_n 2, 1) := by decide +kernel
theorem dX1_eliminate_30 : decode cX1_eliminate 30 = .ok (.ifCond .lt 51, 3) := by decide +kernel
theorem dX1_eliminate_33 : decode cX1_eliminate 33 = .ok (.aload_n 0, 1) := by decide +kernel
theorem dX1_eliminate_34 : decode cX1_eliminate 34 = .ok (.iload_n 2, 1) := by decide +kernel
theorem dX1_eliminate_35 : decode cX1_eliminate 35 = .ok (.aload_n 0, 1) := by decide +kernel
theorem dX1_eliminate_36 : decode cX1_eliminate 36 = .ok (.getfield 63, 3) := by decide +kernel
theorem dX1_eliminate_39 : decode cX1_eliminate 39 = .ok (.invokevirtual 102, 3) := by decide +kernel
theorem dX1_eliminate_42 : decode cX1_eliminate 42 = .ok (.aload_n 0, 1) := by decide +kernel
theorem dX1_eliminate_43 : decode cX1_eliminate 43 = .ok (.aload_n 0, 1) := by decide +kernel
theorem dX1_eliminate_44 : decode cX1_eliminate 44 = .ok (.getfield 63, 3) := by decide +kernel
theorem dX1_eliminate_47 : decode cX1_eliminate 47 = .ok (.iload_n 1, 1) := by decide +kernel
theorem dX1_eliminate_48 : decode cX1_eliminate 48 = .ok (.invokevirtual 105, 3) := by decide +kernel
theorem dX1_eliminate_51 : decode cX1_eliminate 51 = .ok (.aload_n 0, 1) := by decide +kernel
theorem dX1_eliminate_52 : decode cX1_eliminate 52 = .ok (.aload_n 0, 1) := by decide +kernel
theorem dX1_eliminate_53 : decode cX1_eliminate 53 = .ok (.getfield 63, 3) := by decide +kernel
theorem dX1_eliminate_56 : decode cX1_eliminate 56 = .ok (.iload_n 1, 1) := by decide +kernel
theorem dX1_eliminate_57 : decode cX1_eliminate 57 = .ok (.invokevirtual 108, 3) := by decide +kernel
theorem dX1_eliminate_60 : decode cX1_eliminate 60 = .ok (.aload_n 0, 1) := by decide +kernel
theorem dX1_eliminate_61 : decode cX1_eliminate 61 = .ok (.getfield 28, 3) := by decide +kernel
theorem dX1_eliminate_64 : decode cX1_eliminate 64 = .ok (.iload_n 1, 1) := by decide +kernel
theorem dX1_eliminate_65 : decode cX1_eliminate 65 = .ok (.aload_n 0, 1) := by decide +kernel
theorem dX1_eliminate_66 : decode cX1_eliminate 66 = .ok (.getfield 63, 3) := by decide +kernel
theorem dX1_eliminate_69 : decode cX1_eliminate 69 = .ok (.i2b, 1) := by decide +kernel
theorem dX1_eliminate_70 : decode cX1_eliminate 70 = .ok (.bastore, 1) := by decide +kernel
theorem dX1_eliminate_71 : decode cX1_eliminate 71 = .ok (.aload_n 0, 1) := by decide +kernel
theorem dX1_eliminate_72 : decode cX1_eliminate 72 = .ok (.dup, 1) := by decide +kernel
theorem dX1_eliminate_73 : decode cX1_eliminate 73 = .ok (.getfield 63, 3) := by decide +kernel
theorem dX1_eliminate_76 : decode cX1_eliminate 76 = .ok (.iconst 1, 1) := by decide +kernel
theorem dX1_eliminate_77 : decode cX1_eliminate 77 = .ok (.iadd, 1) := by decide +kernel
theorem dX1_eliminate_78 : decode cX1_eliminate 78 = .ok (.putfield 63, 3) := by decide +kernel
theorem dX1_eliminate_81 : decode cX1_eliminate 81 = .ok (.iinc 1 (-1), 3) := by decide +kernel
theorem dX1_eliminate_84 : decode cX1_eliminate 84 = .ok (.goto (-72), 3) := by decide +kernel
theorem dX1_eliminate_87 : decode cX1_eliminate 87 = .ok (.return_, 1) := by decide +kernel
abbrev cX1_rowWith : ByteArray := prog_1_method_23_code
def yX1_rowWith : MethodName := ⟨RX1, "rowWith", "(I)I"⟩
theorem dX1_rowWith_0 : decode cX1_rowWith 0 = .ok (.aload_n 0, 1) := by decide +kernel
theorem dX1_rowWith_1 : decode cX1_rowWith 1 = .ok (.getfield 63, 3) := by decide +kernel
theorem dX1_rowWith_4 : decode cX1_rowWith 4 = .ok (.istore_n 2, 1) := by decide +kernel
theorem dX1_rowWith_5 : decode cX1_rowWith 5 = .ok (.iload_n 2, 1) := by decide +kernel
theorem dX1_rowWith_6 : decode cX1_rowWith 6 = .ok (.aload_n 0, 1) := by decide +kernel
theorem dX1_rowWith_7 : decode cX1_rowWith 7 = .ok (.getfield 93, 3) := by decide +kernel
theorem dX1_rowWith_10 : decode cX1_rowWith 10 = .ok (.if_icmp .ge 25, 3) := by decide +kernel
theorem dX1_rowWith_13 : decode cX1_rowWith 13 = .ok (.aload_n 0, 1) := by decide +kernel
theorem dX1_rowWith_14 : decode cX1_rowWith 14 = .ok (.getfield 25, 3) := by decide +kernel
theorem dX1_rowWith_17 : decode cX1_rowWith 17 = .ok (.iload_n 2, 1) := by decide +kernel
theorem dX1_rowWith_18 : decode cX1_rowWith 18 = .ok (.bipush 14, 2) := by decide +kernel
theorem dX1_rowWith_20 : decode cX1_rowWith 20 = .ok (.imul, 1) := by decide +kernel
theorem dX1_rowWith_21 : decode cX1_rowWith 21 = .ok (.iload_n 1, 1) := by decide +kernel
theorem dX1_rowWith_22 : decode cX1_rowWith 22 = .ok (.iadd, 1) := by decide +kernel
theorem dX1_rowWith_23 : decode cX1_rowWith 23 = .ok (.baload, 1) := by decide +kernel
theorem dX1_rowWith_24 : decode cX1_rowWith 24 = .ok (.ifCond .eq 5, 3) := by decide +kernel
theorem dX1_rowWith_27 : decode cX1_rowWith 27 = .ok (.iload_n 2, 1) := by decide +kernel
theorem dX1_rowWith_28 : decode cX1_rowWith 28 = .ok (.ireturn, 1) := by decide +kernel
theorem dX1_rowWith_29 : decode cX1_rowWith 29 = .ok (.iinc 2 1, 3) := by decide +kernel
theorem dX1_rowWith_32 : decode cX1_rowWith 32 = .ok (.goto (-27), 3) := by decide +kernel
theorem dX1_rowWith_35 : decode cX1_rowWith 35 = .ok (.iconst (-1), 1) := by decide +kernel
theorem dX1_rowWith_36 : decode cX1_rowWith 36 = .ok (.ireturn, 1) := by decide +kernel
abbrev cX1_swap : ByteArray := prog_1_method_24_code
def yX1_swap : MethodName := ⟨RX1, "swap", "(II)V"⟩
theorem dX1_swap_0 : decode cX1_swap 0 = .ok (.iconst 0, 1) := by decide +kernel
theorem dX1_swap_1 : decode cX1_swap 1 = .ok (.istore_n 3, 1) := by decide +kernel
theorem dX1_swap_2 : decode cX1_swap 2 = .ok (.iload_n 3, 1) := by decide +kernel
theorem dX1_swap_3 : decode cX1_swap 3 = .ok (.aload_n 0, 1) := by decide +kernel
theorem dX1_swap_4 : decode cX1_swap 4 = .ok (.getfield 66, 3) := by decide +kernel
theorem dX1_swap_7 : decode cX1_swap 7 = .ok (.if_icmp .gt 57, 3) := by decide +kernel
theorem dX1_swap_10 : decode cX1_swap 10 = .ok (.aload_n 0, 1) := by decide +kernel
theorem dX1_swap_11 : decode cX1_swap 11 = .ok (.getfield 25, 3) := by decide +kernel
theorem dX1_swap_14 : decode cX1_swap 14 = .ok (.iload_n 1, 1) := by decide +kernel
theorem dX1_swap_15 : decode cX1_swap 15 = .ok (.bipush 14, 2) := by decide +kernel
theorem dX1_swap_17 : decode cX1_swap 17 = .ok (.imul, 1) := by decide +kernel
theorem dX1_swap_18 : decode cX1_swap 18 = .ok (.iload_n 3, 1) := by decide +kernel
theorem dX1_swap_19 : decode cX1_swap 19 = .ok (.iadd, 1) := by decide +kernel
theorem dX1_swap_20 : decode cX1_swap 20 = .ok (.baload, 1) := by decide +kernel
theorem dX1_swap_21 : decode cX1_swap 21 = .ok (.istore 4, 2) := by decide +kernel
theorem dX1_swap_23 : decode cX1_swap 23 = .ok (.aload_n 0, 1) := by decide +kernel
theorem dX1_swap_24 : decode cX1_swap 24 = .ok (.getfield 25, 3) := by decide +kernel
theorem dX1_swap_27 : decode cX1_swap 27 = .ok (.iload_n 1, 1) := by decide +kernel
theorem dX1_swap_28 : decode cX1_swap 28 = .ok (.bipush 14, 2) := by decide +kernel
theorem dX1_swap_30 : decode cX1_swap 30 = .ok (.imul, 1) := by decide +kernel
theorem dX1_swap_31 : decode cX1_swap 31 = .ok (.iload_n 3, 1) := by decide +kernel
theorem dX1_swap_32 : decode cX1_swap 32 = .ok (.iadd, 1) := by decide +kernel
theorem dX1_swap_33 : decode cX1_swap 33 = .ok (.aload_n 0, 1) := by decide +kernel
theorem dX1_swap_34 : decode cX1_swap 34 = .ok (.getfield 25, 3) := by decide +kernel
theorem dX1_swap_37 : decode cX1_swap 37 = .ok (.iload_n 2, 1) := by decide +kernel
theorem dX1_swap_38 : decode cX1_swap 38 = .ok (.bipush 14, 2) := by decide +kernel
theorem dX1_swap_40 : decode cX1_swap 40 = .ok (.imul, 1) := by decide +kernel
theorem dX1_swap_41 : decode cX1_swap 41 = .ok (.iload_n 3, 1) := by decide +kernel
theorem dX1_swap_42 : decode cX1_swap 42 = .ok (.iadd, 1) := by decide +kernel
theorem dX1_swap_43 : decode cX1_swap 43 = .ok (.baload, 1) := by decide +kernel
theorem dX1_swap_44 : decode cX1_swap 44 = .ok (.bastore, 1) := by decide +kernel
theorem dX1_swap_45 : decode cX1_swap 45 = .ok (.aload_n 0, 1) := by decide +kernel
theorem dX1_swap_46 : decode cX1_swap 46 = .ok (.getfield 25, 3) := by decide +kernel
theorem dX1_swap_49 : decode cX1_swap 49 = .ok (.iload_n 2, 1) := by decide +kernel
theorem dX1_swap_50 : decode cX1_swap 50 = .ok (.bipush 14, 2) := by decide +kernel
theorem dX1_swap_52 : decode cX1_swap 52 = .ok (.imul, 1) := by decide +kernel
theorem dX1_swap_53 : decode cX1_swap 53 = .ok (.iload_n 3, 1) := by decide +kernel
theorem dX1_swap_54 : decode cX1_swap 54 = .ok (.iadd, 1) := by decide +kernel
theorem dX1_swap_55 : decode cX1_swap 55 = .ok (.iload 4, 2) := by decide +kernel
theorem dX1_swap_57 : decode cX1_swap 57 = .ok (.bastore, 1) := by decide +kernel
theorem dX1_swap_58 : decode cX1_swap 58 = .ok (.iinc 3 1, 3) := by decide +kernel
theorem dX1_swap_61 : decode cX1_swap 61 = .ok (.goto (-59), 3) := by decide +kernel
theorem dX1_swap_64 : decode cX1_swap 64 = .ok (.return_, 1) := by decide +kernel
abbrev cX1_scale : ByteArray := prog_1_method_25_code
def yX1_scale : MethodName := ⟨RX1, "scale", "(II)V"⟩
theorem dX1_scale_0 : decode cX1_scale 0 = .ok (.aload_n 0, 1) := by decide +kernel
theorem dX1_scale_1 : decode cX1_scale 1 = .ok (.aload_n 0, 1) := by decide +kernel
theorem dX1_scale_2 : decode cX1_scale 2 = .ok (.getfield 25, 3) := by decide +kernel
theorem dX1_scale_5 : decode cX1_scale 5 = .ok (.iload_n 1, 1) := by decide +kernel
theorem dX1_scale_6 : decode cX1_scale 6 = .ok (.bipush 14, 2) := by decide +kernel
theorem dX1_scale_8 : decode cX1_scale 8 = .ok (.imul, 1) := by decide +kernel
theorem dX1_scale_9 : decode cX1_scale 9 = .ok (.iload_n 2, 1) := by decide +kernel
theorem dX1_scale_10 : decode cX1_scale 10 = .ok (.iadd, 1) := by decide +kernel
theorem dX1_scale_11 : decode cX1_scale 11 = .ok (.baload, 1) := by decide +kernel
theorem dX1_scale_12 : decode cX1_scale 12 = .ok (.invokevirtual 86, 3) := by decide +kernel
theorem dX1_scale_15 : decode cX1_scale 15 = .ok (.istore_n 3, 1) := by decide +kernel
theorem dX1_scale_16 : decode cX1_scale 16 = .ok (.iconst 0, 1) := by decide +kernel
theorem dX1_scale_17 : decode cX1_scale 17 = .ok (.istore 4, 2) := by decide +kernel
theorem dX1_scale_19 : decode cX1_scale 19 = .ok (.iload 4, 2) := by decide +kernel
theorem dX1_scale_21 : decode cX1_scale 21 = .ok (.aload_n 0, 1) := by decide +kernel
theorem dX1_scale_22 : decode cX1_scale 22 = .ok (.getfield 66, 3) := by decide +kernel
theorem dX1_scale_25 : decode cX1_scale 25 = .ok (.if_icmp .gt 41, 3) := by decide +kernel
theorem dX1_scale_28 : decode cX1_scale 28 = .ok (.aload_n 0, 1) := by decide +kernel
theorem dX1_scale_29 : decode cX1_scale 29 = .ok (.getfield 25, 3) := by decide +kernel
theorem dX1_scale_32 : decode cX1_scale 32 = .ok (.iload_n 1, 1) := by decide +kernel
theorem dX1_scale_33 : decode cX1_scale 33 = .ok (.bipush 14, 2) := by decide +kernel
theorem dX1_scale_35 : decode cX1_scale 35 = .ok (.imul, 1) := by decide +kernel
theorem dX1_scale_36 : decode cX1_scale 36 = .ok (.iload 4, 2) := by decide +kernel
theorem dX1_scale_38 : decode cX1_scale 38 = .ok (.iadd, 1) := by decide +kernel
theorem dX1_scale_39 : decode cX1_scale 39 = .ok (.aload_n 0, 1) := by decide +kernel
theorem dX1_scale_40 : decode cX1_scale 40 = .ok (.getfield 25, 3) := by decide +kernel
theorem dX1_scale_43 : decode cX1_scale 43 = .ok (.iload_n 1, 1) := by decide +kernel
theorem dX1_scale_44 : decode cX1_scale 44 = .ok (.bipush 14, 2) := by decide +kernel
theorem dX1_scale_46 : decode cX1_scale 46 = .ok (.imul, 1) := by decide +kernel
theorem dX1_scale_47 : decode cX1_scale 47 = .ok (.iload 4, 2) := by decide +kernel
theorem dX1_scale_49 : decode cX1_scale 49 = .ok (.iadd, 1) := by decide +kernel
theorem dX1_scale_50 : decode cX1_scale 50 = .ok (.baload, 1) := by decide +kernel
theorem dX1_scale_51 : decode cX1_scale 51 = .ok (.iload_n 3, 1) := by decide +kernel
theorem dX1_scale_52 : decode cX1_scale 52 = .ok (.imul, 1) := by decide +kernel
theorem dX1_scale_53 : decode cX1_scale 53 = .ok (.aload_n 0, 1) := by decide +kernel
theorem dX1_scale_54 : decode cX1_scale 54 = .ok (.getfield 34, 3) := by decide +kernel
theorem dX1_scale_57 : decode cX1_scale 57 = .ok (.irem, 1) := by decide +kernel
theorem dX1_scale_58 : decode cX1_scale 58 = .ok (.i2b, 1) := by decide +kernel
theorem dX1_scale_59 : decode cX1_scale 59 = .ok (.bastore, 1) := by decide +kernel
theorem dX1_scale_60 : decode cX1_scale 60 = .ok (.iinc 4 1, 3) := by decide +kernel
theorem dX1_scale_63 : decode cX1_scale 63 = .ok (.goto (-44), 3) := by decide +kernel
theorem dX1_scale_66 : decode cX1_scale 66 = .ok (.return_, 1) := by decide +kernel
abbrev cX1_clearColumn : ByteArray := prog_1_method_26_code
def yX1_clearColumn : MethodName := ⟨RX1, "clearColumn", "(II)V"⟩
theorem dX1_clearColumn_0 : decode cX1_clearColumn 0 = .ok (.iconst 0, 1) := by decide +kernel
theorem dX1_clearColumn_1 : decode cX1_clearColumn 1 = .ok (.istore_n 3, 1) := by decide +kernel
theorem dX1_clearColumn_2 : decode cX1_clearColumn 2 = .ok (.iload_n 3, 1) := by decide +kernel
theorem dX1_clearColumn_3 : decode cX1_clearColumn 3 = .ok (.aload_n 0, 1) := by decide +kernel
theorem dX1_clearColumn_4 : decode cX1_clearColumn 4 = .ok (.getfield 93, 3) := by decide +kernel
theorem dX1_clearColumn_7 : decode cX1_clearColumn 7 = .ok (.if_icmp .ge 40, 3) := by decide +kernel
theorem dX1_clearColumn_10 : decode cX1_clearColumn 10 = .ok (.aload_n 0, 1) := by decide +kernel
theorem dX1_clearColumn_11 : decode cX1_clearColumn 11 = .ok (.getfield 25, 3) := by decide +kernel
theorem dX1_clearColumn_14 : decode cX1_clearColumn 14 = .ok (.iload_n 3, 1) := by decide +kernel
theorem dX1_clearColumn_15 : decode cX1_clearColumn 15 = .ok (.bipush 14, 2) := by decide +kernel
theorem dX1_clearColumn_17 : decode cX1_clearColumn 17 = .ok (.imul, 1) := by decide +kernel
theorem dX1_clearColumn_18 : decode cX1_clearColumn 18 = .ok (.iload_n 2, 1) := by decide +kernel
theorem dX1_clearColumn_19 : decode cX1_clearColumn 19 = .ok (.iadd, 1) := by decide +kernel
theorem dX1_clearColumn_20 : decode cX1_clearColumn 20 = .ok (.baload, 1) := by decide +kernel
theorem dX1_clearColumn_21 : decode cX1_clearColumn 21 = .ok (.istore 4, 2) := by decide +kernel
theorem dX1_clearColumn_23 : decode cX1_clearColumn 23 = .ok (.iload_n 3, 1) := by decide +kernel
theorem dX1_clearColumn_24 : decode cX1_clearColumn 24 = .ok (.iload_n 1, 1) := by decide +kernel
theorem dX1_clearColumn_25 : decode cX1_clearColumn 25 = .ok (.if_icmp .eq 16, 3) := by decide +kernel
theorem dX1_clearColumn_28 : decode cX1_clearColumn 28 = .ok (.iload 4, 2) := by decide +kernel
theorem dX1_clearColumn_30 : decode cX1_clearColumn 30 = .ok (.ifCond .eq 11, 3) := by decide +kernel
theorem dX1_clearColumn_33 : decode cX1_clearColumn 33 = .ok (.aload_n 0, 1) := by decide +kernel
theorem dX1_clearColumn_34 : decode cX1_clearColumn 34 = .ok (.iload_n 3, 1) := by decide +kernel
theorem dX1_clearColumn_35 : decode cX1_clearColumn 35 = .ok (.iload_n 1, 1) := by decide +kernel
theorem dX1_clearColumn_36 : decode cX1_clearColumn 36 = .ok (.iload 4, 2) := by decide +kernel
theorem dX1_clearColumn_38 : decode cX1_clearColumn 38 = .ok (.invokevirtual 111, 3) := by decide +kernel
theorem dX1_clearColumn_41 : decode cX1_clearColumn 41 = .ok (.iinc 3 1, 3) := by decide +kernel
theorem dX1_clearColumn_44 : decode cX1_clearColumn 44 = .ok (.goto (-42), 3) := by decide +kernel
theorem dX1_clearColumn_47 : decode cX1_clearColumn 47 = .ok (.return_, 1) := by decide +kernel
abbrev cX1_subtract : ByteArray := prog_1_method_27_code
def yX1_subtract : MethodName := ⟨RX1, "subtract", "(III)V"⟩
theorem dX1_subtract_0 : decode cX1_subtract 0 = .ok (.iconst 0, 1) := by decide +kernel
theorem dX1_subtract_1 : decode cX1_subtract 1 = .ok (.istore 4, 2) := by decide +kernel
theorem dX1_subtract_3 : decode cX1_subtract 3 = .ok (.iload 4, 2) := by decide +kernel
theorem dX1_subtract_5 : decode cX1_subtract 5 = .ok (.aload_n 0, 1) := by decide +kernel
theorem dX1_subtract_6 : decode cX1_subtract 6 = .ok (.getfield 66, 3) := by decide +kernel
theorem dX1_subtract_9 : decode cX1_subtract 9 = .ok (.if_icmp .gt 57, 3) := by decide +kernel
theorem dX1_subtract_12 : decode cX1_subtract 12 = .ok (.aload_n 0, 1) := by decide +kernel
theorem dX1_subtract_13 : decode cX1_subtract 13 = .ok (.getfield 25, 3) := by decide +kernel
theorem dX1_subtract_16 : decode cX1_subtract 16 = .ok (.iload_n 1, 1) := by decide +kernel
theorem dX1_subtract_17 : decode cX1_subtract 17 = .ok (.bipush 14, 2) := by decide +kernel
theorem dX1_subtract_19 : decode cX1_subtract 19 = .ok (.imul, 1) := by decide +kernel
theorem dX1_subtract_20 : decode cX1_subtract 20 = .ok (.iload 4, 2) := by decide +kernel
theorem dX1_subtract_22 : decode cX1_subtract 22 = .ok (.iadd, 1) := by decide +kernel
theorem dX1_subtract_23 : decode cX1_subtract 23 = .ok (.baload, 1) := by decide +kernel
theorem dX1_subtract_24 : decode cX1_subtract 24 = .ok (.iload_n 3, 1) := by decide +kernel
theorem dX1_subtract_25 : decode cX1_subtract 25 = .ok (.aload_n 0, 1) := by decide +kernel
theorem dX1_subtract_26 : decode cX1_subtract 26 = .ok (.getfield 25, 3) := by decide +kernel
theorem dX1_subtract_29 : decode cX1_subtract 29 = .ok (.iload_n 2, 1) := by decide +kernel
theorem dX1_subtract_30 : decode cX1_subtract 30 = .ok (.bipush 14, 2) := by decide +kernel
theorem dX1_subtract_32 : decode cX1_subtract 32 = .ok (.imul, 1) := by decide +kernel
theorem dX1_subtract_33 : decode cX1_subtract 33 = .ok (.iload 4, 2) := by decide +kernel
theorem dX1_subtract_35 : decode cX1_subtract 35 = .ok (.iadd, 1) := by decide +kernel
theorem dX1_subtract_36 : decode cX1_subtract 36 = .ok (.baload, 1) := by decide +kernel
theorem dX1_subtract_37 : decode cX1_subtract 37 = .ok (.imul, 1) := by decide +kernel
theorem dX1_subtract_38 : decode cX1_subtract 38 = .ok (.isub, 1) := by decide +kernel
theorem dX1_subtract_39 : decode cX1_subtract 39 = .ok (.istore 5, 2) := by decide +kernel
theorem dX1_subtract_41 : decode cX1_subtract 41 = .ok (.aload_n 0, 1) := by decide +kernel
theorem dX1_subtract_42 : decode cX1_subtract 42 = .ok (.getfield 25, 3) := by decide +kernel
theorem dX1_subtract_45 : decode cX1_subtract 45 = .ok (.iload_n 1, 1) := by decide +kernel
theorem dX1_subtract_46 : decode cX1_subtract 46 = .ok (.bipush 14, 2) := by decide +kernel
theorem dX1_subtract_48 : decode cX1_subtract 48 = .ok (.imul, 1) := by decide +kernel
theorem dX1_subtract_49 : decode cX1_subtract 49 = .ok (.iload 4, 2) := by decide +kernel
theorem dX1_subtract_51 : decode cX1_subtract 51 = .ok (.iadd, 1) := by decide +kernel
theorem dX1_subtract_52 : decode cX1_subtract 52 = .ok (.aload_n 0, 1) := by decide +kernel
theorem dX1_subtract_53 : decode cX1_subtract 53 = .ok (.iload 5, 2) := by decide +kernel
theorem dX1_subtract_55 : decode cX1_subtract 55 = .ok (.invokevirtual 90, 3) := by decide +kernel
theorem dX1_subtract_58 : decode cX1_subtract 58 = .ok (.i2b, 1) := by decide +kernel
theorem dX1_subtract_59 : decode cX1_subtract 59 = .ok (.bastore, 1) := by decide +kernel
theorem dX1_subtract_60 : decode cX1_subtract 60 = .ok (.iinc 4 1, 3) := by decide +kernel
theorem dX1_subtract_63 : decode cX1_subtract 63 = .ok (.goto (-60), 3) := by decide +kernel
theorem dX1_subtract_66 : decode cX1_subtract 66 = .ok (.return_, 1) := by decide +kernel
abbrev cX1_coefficient : ByteArray := prog_1_method_15_code
def yX1_coefficient : MethodName := ⟨RX1, "coefficient", "(I)I"⟩
theorem dX1_coefficient_0 : decode cX1_coefficient 0 = .ok (.aload_n 0, 1) := by decide +kernel
theorem dX1_coefficient_1 : decode cX1_coefficient 1 = .ok (.aload_n 0, 1) := by decide +kernel
theorem dX1_coefficient_2 : decode cX1_coefficient 2 = .ok (.getfield 45, 3) := by decide +kernel
theorem dX1_coefficient_5 : decode cX1_coefficient 5 = .ok (.invokevirtual 59, 3) := by decide +kernel
theorem dX1_coefficient_8 : decode cX1_coefficient 8 = .ok (.iload_n 1, 1) := by decide +kernel
theorem dX1_coefficient_9 : decode cX1_coefficient 9 = .ok (.iconst 1, 1) := by decide +kernel
theorem dX1_coefficient_10 : decode cX1_coefficient 10 = .ok (.if_icmp .lt 11, 3) := by decide +kernel
theorem dX1_coefficient_13 : decode cX1_coefficient 13 = .ok (.iload_n 1, 1) := by decide +kernel
theorem dX1_coefficient_14 : decode cX1_coefficient 14 = .ok (.aload_n 0, 1) := by decide +kernel
theorem dX1_coefficient_15 : decode cX1_coefficient 15 = .ok (.getfield 69, 3) := by decide +kernel
theorem dX1_coefficient_18 : decode cX1_coefficient 18 = .ok (.if_icmp .le 7, 3) := by decide +kernel
theorem dX1_coefficient_21 : decode cX1_coefficient 21 = .ok (.iconst (-1), 1) := by decide +kernel
theorem dX1_coefficient_22 : decode cX1_coefficient 22 = .ok (.goto 9, 3) := by decide +kernel
theorem dX1_coefficient_25 : decode cX1_coefficient 25 = .ok (.aload_n 0, 1) := by decide +kernel
theorem dX1_coefficient_26 : decode cX1_coefficient 26 = .ok (.getfield 31, 3) := by decide +kernel
theorem dX1_coefficient_29 : decode cX1_coefficient 29 = .ok (.iload_n 1, 1) := by decide +kernel
theorem dX1_coefficient_30 : decode cX1_coefficient 30 = .ok (.baload, 1) := by decide +kernel
theorem dX1_coefficient_31 : decode cX1_coefficient 31 = .ok (.ireturn, 1) := by decide +kernel
abbrev cX1_predict : ByteArray := prog_1_method_28_code
def yX1_predict : MethodName := ⟨RX1, "predict", "(I)I"⟩
theorem dX1_predict_0 : decode cX1_predict 0 = .ok (.iload_n 1, 1) := by decide +kernel
theorem dX1_predict_1 : decode cX1_predict 1 = .ok (.ifCond .lt 9, 3) := by decide +kernel
theorem dX1_predict_4 : decode cX1_predict 4 = .ok (.iload_n 1, 1) := by decide +kernel
theorem dX1_predict_5 : decode cX1_predict 5 = .ok (.bipush 40, 2) := by decide +kernel
theorem dX1_predict_7 : decode cX1_predict 7 = .ok (.if_icmp .le 5, 3) := by decide +kernel
theorem dX1_predict_10 : decode cX1_predict 10 = .ok (.iconst (-1), 1) := by decide +kernel
theorem dX1_predict_11 : decode cX1_predict 11 = .ok (.ireturn, 1) := by decide +kernel
theorem dX1_predict_12 : decode cX1_predict 12 = .ok (.aload_n 0, 1) := by decide +kernel
theorem dX1_predict_13 : decode cX1_predict 13 = .ok (.aload_n 0, 1) := by decide +kernel
theorem dX1_predict_14 : decode cX1_predict 14 = .ok (.getfield 45, 3) := by decide +kernel
theorem dX1_predict_17 : decode cX1_predict 17 = .ok (.invokevirtual 59, 3) := by decide +kernel
theorem dX1_predict_20 : decode cX1_predict 20 = .ok (.iconst 0, 1) := by decide +kernel
theorem dX1_predict_21 : decode cX1_predict 21 = .ok (.istore_n 2, 1) := by decide +kernel
theorem dX1_predict_22 : decode cX1_predict 22 = .ok (.iload_n 2, 1) := by decide +kernel
theorem dX1_predict_23 : decode cX1_predict 23 = .ok (.iload_n 1, 1) := by decide +kernel
theorem dX1_predict_24 : decode cX1_predict 24 = .ok (.if_icmp .gt 13, 3) := by decide +kernel
theorem dX1_predict_27 : decode cX1_predict 27 = .ok (.aload_n 0, 1) := by decide +kernel
theorem dX1_predict_28 : decode cX1_predict 28 = .ok (.invokevirtual 114, 3) := by decide +kernel
theorem dX1_predict_31 : decode cX1_predict 31 = .ok (.iinc 2 1, 3) := by decide +kernel
theorem dX1_predict_34 : decode cX1_predict 34 = .ok (.goto (-12), 3) := by decide +kernel
theorem dX1_predict_37 : decode cX1_predict 37 = .ok (.aload_n 0, 1) := by decide +kernel
theorem dX1_predict_38 : decode cX1_predict 38 = .ok (.getfield 13, 3) := by decide +kernel
theorem dX1_predict_41 : decode cX1_predict 41 = .ok (.aload_n 0, 1) := by decide +kernel
theorem dX1_predict_42 : decode cX1_predict 42 = .ok (.getfield 48, 3) := by decide +kernel
theorem dX1_predict_45 : decode cX1_predict 45 = .ok (.iconst 1, 1) := by decide +kernel
theorem dX1_predict_46 : decode cX1_predict 46 = .ok (.isub, 1) := by decide +kernel
theorem dX1_predict_47 : decode cX1_predict 47 = .ok (.baload, 1) := by decide +kernel
theorem dX1_predict_48 : decode cX1_predict 48 = .ok (.ireturn, 1) := by decide +kernel
abbrev cX1_step : ByteArray := prog_1_method_31_code
def yX1_step : MethodName := ⟨RX1, "step", "()V"⟩
theorem dX1_step_0 : decode cX1_step 0 = .ok (.iconst 0, 1) := by decide +kernel
theorem dX1_step_1 : decode cX1_step 1 = .ok (.istore_n 1, 1) := by decide +kernel
theorem dX1_step_2 : decode cX1_step 2 = .ok (.iconst 1, 1) := by decide +kernel
theorem dX1_step_3 : decode cX1_step 3 = .ok (.istore_n 2, 1) := by decide +kernel
theorem dX1_step_4 : decode cX1_step 4 = .ok (.iload_n 2, 1) := by decide +kernel
theorem dX1_step_5 : decode cX1_step 5 = .ok (.aload_n 0, 1) := by decide +kernel
theorem dX1_step_6 : decode cX1_step 6 = .ok (.getfield 69, 3) := by decide +kernel
theorem dX1_step_9 : decode cX1_step 9 = .ok (.if_icmp .gt 30, 3) := by decide +kernel
theorem dX1_step_12 : decode cX1_step 12 = .ok (.iload_n 1, 1) := by decide +kernel
theorem dX1_step_13 : decode cX1_step 13 = .ok (.aload_n 0, 1) := by decide +kernel
theorem dX1_step_14 : decode cX1_step 14 = .ok (.getfield 31, 3) := by decide +kernel
theorem dX1_step_17 : decode cX1_step 17 = .ok (.iload_n 2, 1) := by decide +kernel
theorem dX1_step_18 : decode cX1_step 18 = .ok (.baload, 1) := by decide +kernel
theorem dX1_step_19 : decode cX1_step 19 = .ok (.aload_n 0, 1) := by decide +kernel
theorem dX1_step_20 : decode cX1_step 20 = .ok (.getfield 13, 3) := by decide +kernel
theorem dX1_step_23 : decode cX1_step 23 = .ok (.aload_n 0, 1) := by decide +kernel
theorem dX1_step_24 : decode cX1_step 24 = .ok (.getfield 48, 3) := by decide +kernel
theorem dX1_step_27 : decode cX1_step 27 = .ok (.iload_n 2, 1) := by decide +kernel
theorem dX1_step_28 : decode cX1_step 28 = .ok (.isub, 1) := by decide +kernel
theorem dX1_step_29 : decode cX1_step 29 = .ok (.baload, 1) := by decide +kernel
theorem dX1_step_30 : decode cX1_step 30 = .ok (.imul, 1) := by decide +kernel
theorem dX1_step_31 : decode cX1_step 31 = .ok (.iadd, 1) := by decide +kernel
theorem dX1_step_32 : decode cX1_step 32 = .ok (.istore_n 1, 1) := by decide +kernel
theorem dX1_step_33 : decode cX1_step 33 = .ok (.iinc 2 1, 3) := by decide +kernel
theorem dX1_step_36 : decode cX1_step 36 = .ok (.goto (-32), 3) := by decide +kernel
theorem dX1_step_39 : decode cX1_step 39 = .ok (.aload_n 0, 1) := by decide +kernel
theorem dX1_step_40 : decode cX1_step 40 = .ok (.getfield 13, 3) := by decide +kernel
theorem dX1_step_43 : decode cX1_step 43 = .ok (.aload_n 0, 1) := by decide +kernel
theorem dX1_step_44 : decode cX1_step 44 = .ok (.getfield 48, 3) := by decide +kernel
theorem dX1_step_47 : decode cX1_step 47 = .ok (.iload_n 1, 1) := by decide +kernel
theorem dX1_step_48 : decode cX1_step 48 = .ok (.aload_n 0, 1) := by decide +kernel
theorem dX1_step_49 : decode cX1_step 49 = .ok (.getfield 34, 3) := by decide +kernel
theorem dX1_step_52 : decode cX1_step 52 = .ok (.irem, 1) := by decide +kernel
theorem dX1_step_53 : decode cX1_step 53 = .ok (.i2b, 1) := by decide +kernel
theorem dX1_step_54 : decode cX1_step 54 = .ok (.bastore, 1) := by decide +kernel
theorem dX1_step_55 : decode cX1_step 55 = .ok (.aload_n 0, 1) := by decide +kernel
theorem dX1_step_56 : decode cX1_step 56 = .ok (.dup, 1) := by decide +kernel
theorem dX1_step_57 : decode cX1_step 57 = .ok (.getfield 48, 3) := by decide +kernel
theorem dX1_step_60 : decode cX1_step 60 = .ok (.iconst 1, 1) := by decide +kernel
theorem dX1_step_61 : decode cX1_step 61 = .ok (.iadd, 1) := by decide +kernel
theorem dX1_step_62 : decode cX1_step 62 = .ok (.putfield 48, 3) := by decide +kernel
theorem dX1_step_65 : decode cX1_step 65 = .ok (.return_, 1) := by decide +kernel
abbrev cX1_complexityWith : ByteArray := prog_1_method_29_code
def yX1_complexityWith : MethodName := ⟨RX1, "complexityWith", "(I)I"⟩
theorem dX1_complexityWith_0 : decode cX1_complexityWith 0 = .ok (.aload_n 0, 1) := by decide +kernel
theorem dX1_complexityWith_1 : decode cX1_complexityWith 1 = .ok (.iload_n 1, 1) := by decide +kernel
theorem dX1_complexityWith_2 : decode cX1_complexityWith 2 = .ok (.invokevirtual 41, 3) := by decide +kernel
theorem dX1_complexityWith_5 : decode cX1_complexityWith 5 = .ok (.ifCond .ne 5, 3) := by decide +kernel
theorem dX1_complexityWith_8 : decode cX1_complexityWith 8 = .ok (.iconst (-1), 1) := by decide +kernel
theorem dX1_complexityWith_9 : decode cX1_complexityWith 9 = .ok (.ireturn, 1) := by decide +kernel
theorem dX1_complexityWith_10 : decode cX1_complexityWith 10 = .ok (.aload_n 0, 1) := by decide +kernel
theorem dX1_complexityWith_11 : decode cX1_complexityWith 11 = .ok (.iconst 0, 1) := by decide +kernel
theorem dX1_complexityWith_12 : decode cX1_complexityWith 12 = .ok (.aload_n 0, 1) := by decide +kernel
theorem dX1_complexityWith_13 : decode cX1_complexityWith 13 = .ok (.getfield 45, 3) := by decide +kernel
theorem dX1_complexityWith_16 : decode cX1_complexityWith 16 = .ok (.invokevirtual 51, 3) := by decide +kernel
theorem dX1_complexityWith_19 : decode cX1_complexityWith 19 = .ok (.aload_n 0, 1) := by decide +kernel
theorem dX1_complexityWith_20 : decode cX1_complexityWith 20 = .ok (.getfield 13, 3) := by decide +kernel
theorem dX1_complexityWith_23 : decode cX1_complexityWith 23 = .ok (.aload_n 0, 1) := by decide +kernel
theorem dX1_complexityWith_24 : decode cX1_complexityWith 24 = .ok (.getfield 48, 3) := by decide +kernel
theorem dX1_complexityWith_27 : decode cX1_complexityWith 27 = .ok (.iload_n 1, 1) := by decide +kernel
theorem dX1_complexityWith_28 : decode cX1_complexityWith 28 = .ok (.i2b, 1) := by decide +kernel
theorem dX1_complexityWith_29 : decode cX1_complexityWith 29 = .ok (.bastore, 1) := by decide +kernel
theorem dX1_complexityWith_30 : decode cX1_complexityWith 30 = .ok (.aload_n 0, 1) := by decide +kernel
theorem dX1_complexityWith_31 : decode cX1_complexityWith 31 = .ok (.dup, 1) := by decide +kernel
theorem dX1_complexityWith_32 : decode cX1_complexityWith 32 = .ok (.getfield 48, 3) := by decide +kernel
theorem dX1_complexityWith_35 : decode cX1_complexityWith 35 = .ok (.iconst 1, 1) := by decide +kernel
theorem dX1_complexityWith_36 : decode cX1_complexityWith 36 = .ok (.iadd, 1) := by decide +kernel
theorem dX1_complexityWith_37 : decode cX1_complexityWith 37 = .ok (.putfield 48, 3) := by decide +kernel
theorem dX1_complexityWith_40 : decode cX1_complexityWith 40 = .ok (.aload_n 0, 1) := by decide +kernel
theorem dX1_complexityWith_41 : decode cX1_complexityWith 41 = .ok (.invokevirtual 55, 3) := by decide +kernel
theorem dX1_complexityWith_44 : decode cX1_complexityWith 44 = .ok (.ireturn, 1) := by decide +kernel
abbrev cX1_complexityBackwards : ByteArray := prog_1_method_30_code
def yX1_complexityBackwards : MethodName := ⟨RX1, "complexityBackwards", "()I"⟩
theorem dX1_complexityBackwards_0 : decode cX1_complexityBackwards 0 = .ok (.aload_n 0, 1) := by decide +kernel
theorem dX1_complexityBackwards_1 : decode cX1_complexityBackwards 1 = .ok (.iconst 0, 1) := by decide +kernel
theorem dX1_complexityBackwards_2 : decode cX1_complexityBackwards 2 = .ok (.putfield 48, 3) := by decide +kernel
theorem dX1_complexityBackwards_5 : decode cX1_complexityBackwards 5 = .ok (.aload_n 0, 1) := by decide +kernel
theorem dX1_complexityBackwards_6 : decode cX1_complexityBackwards 6 = .ok (.getfield 45, 3) := by decide +kernel
theorem dX1_complexityBackwards_9 : decode cX1_complexityBackwards 9 = .ok (.iconst 1, 1) := by decide +kernel
theorem dX1_complexityBackwards_10 : decode cX1_complexityBackwards 10 = .ok (.isub, 1) := by decide +kernel
theorem dX1_complexityBackwards_11 : decode cX1_complexityBackwards 11 = .ok (.istore_n 1, 1) := by decide +kernel
theorem dX1_complexityBackwards_12 : decode cX1_complexityBackwards 12 = .ok (.iload_n 1, 1) := by decide +kernel
theorem dX1_complexityBackwards_13 : decode cX1_complexityBackwards 13 = .ok (.ifCond .lt 34, 3) := by decide +kernel
theorem dX1_complexityBackwards_16 : decode cX1_complexityBackwards 16 = .ok (.aload_n 0, 1) := by decide +kernel
theorem dX1_complexityBackwards_17 : decode cX1_complexityBackwards 17 = .ok (.getfield 13, 3) := by decide +kernel
theorem dX1_complexityBackwards_20 : decode cX1_complexityBackwards 20 = .ok (.aload_n 0, 1) := by decide +kernel
theorem dX1_complexityBackwards_21 : decode cX1_complexityBackwards 21 = .ok (.getfield 48, 3) := by decide +kernel
theorem dX1_complexityBackwards_24 : decode cX1_complexityBackwards 24 = .ok (.aload_n 0, 1) := by decide +kernel
theorem dX1_complexityBackwards_25 : decode cX1_complexityBackwards 25 = .ok (.getfield 7, 3) := by decide +kernel
theorem dX1_complexityBackwards_28 : decode cX1_complexityBackwards 28 = .ok (.iload_n 1, 1) := by decide +kernel
theorem dX1_complexityBackwards_29 : decode cX1_complexityBackwards 29 = .ok (.baload, 1) := by decide +kernel
theorem dX1_complexityBackwards_30 : decode cX1_complexityBackwards 30 = .ok (.bastore, 1) := by decide +kernel
theorem dX1_complexityBackwards_31 : decode cX1_complexityBackwards 31 = .ok (.aload_n 0, 1) := by decide +kernel
theorem dX1_complexityBackwards_32 : decode cX1_complexityBackwards 32 = .ok (.dup, 1) := by decide +kernel
theorem dX1_complexityBackwards_33 : decode cX1_complexityBackwards 33 = .ok (.getfield 48, 3) := by decide +kernel
theorem dX1_complexityBackwards_36 : decode cX1_complexityBackwards 36 = .ok (.iconst 1, 1) := by decide +kernel
theorem dX1_complexityBackwards_37 : decode cX1_complexityBackwards 37 = .ok (.iadd, 1) := by decide +kernel
theorem dX1_complexityBackwards_38 : decode cX1_complexityBackwards 38 = .ok (.putfield 48, 3) := by decide +kernel
theorem dX1_complexityBackwards_41 : decode cX1_complexityBackwards 41 = .ok (.iinc 1 (-1), 3) := by decide +kernel
theorem dX1_complexityBackwards_44 : decode cX1_complexityBackwards 44 = .ok (.goto (-32), 3) := by decide +kernel
theorem dX1_complexityBackwards_47 : decode cX1_complexityBackwards 47 = .ok (.aload_n 0, 1) := by decide +kernel
theorem dX1_complexityBackwards_48 : decode cX1_complexityBackwards 48 = .ok (.invokevirtual 55, 3) := by decide +kernel
theorem dX1_complexityBackwards_51 : decode cX1_complexityBackwards 51 = .ok (.ireturn, 1) := by decide +kernel
abbrev cX1_holdsUntil : ByteArray := prog_1_method_32_code
def yX1_holdsUntil : MethodName := ⟨RX1, "holdsUntil", "(I)I"⟩
theorem dX1_holdsUntil_0 : decode cX1_holdsUntil 0 = .ok (.iload_n 1, 1) := by decide +kernel
theorem dX1_holdsUntil_1 : decode cX1_holdsUntil 1 = .ok (.ifCond .lt 11, 3) := by decide +kernel
theorem dX1_holdsUntil_4 : decode cX1_holdsUntil 4 = .ok (.iload_n 1, 1) := by decide +kernel
theorem dX1_holdsUntil_5 : decode cX1_holdsUntil 5 = .ok (.aload_n 0, 1) := by decide +kernel
theorem dX1_holdsUntil_6 : decode cX1_holdsUntil 6 = .ok (.getfield 45, 3) := by decide +kernel
theorem dX1_holdsUntil_9 : decode cX1_holdsUntil 9 = .ok (.if_icmp .le 5, 3) := by decide +kernel
theorem dX1_holdsUntil_12 : decode cX1_holdsUntil 12 = .ok (.iconst (-1), 1) := by decide +kernel
theorem dX1_holdsUntil_13 : decode cX1_holdsUntil 13 = .ok (.ireturn, 1) := by decide +kernel
theorem dX1_holdsUntil_14 : decode cX1_holdsUntil 14 = .ok (.aload_n 0, 1) := by decide +kernel
theorem dX1_holdsUntil_15 : decode cX1_holdsUntil 15 = .ok (.iload_n 1, 1) := by decide +kernel
theorem dX1_holdsUntil_16 : decode cX1_holdsUntil 16 = .ok (.invokevirtual 59, 3) := by decide +kernel
theorem dX1_holdsUntil_19 : decode cX1_holdsUntil 19 = .ok (.iload_n 1, 1) := by decide +kernel
theorem dX1_holdsUntil_20 : decode cX1_holdsUntil 20 = .ok (.istore_n 2, 1) := by decide +kernel
theorem dX1_holdsUntil_21 : decode cX1_holdsUntil 21 = .ok (.iload_n 2, 1) := by decide +kernel
theorem dX1_holdsUntil_22 : decode cX1_holdsUntil 22 = .ok (.aload_n 0, 1) := by decide +kernel
theorem dX1_holdsUntil_23 : decode cX1_holdsUntil 23 = .ok (.getfield 45, 3) := by decide +kernel
theorem dX1_holdsUntil_26 : decode cX1_holdsUntil 26 = .ok (.if_icmp .ge 30, 3) := by decide +kernel
theorem dX1_holdsUntil_29 : decode cX1_holdsUntil 29 = .ok (.aload_n 0, 1) := by decide +kernel
theorem dX1_holdsUntil_30 : decode cX1_holdsUntil 30 = .ok (.invokevirtual 114, 3) := by decide +kernel
theorem dX1_holdsUntil_33 : decode cX1_holdsUntil 33 = .ok (.aload_n 0, 1) := by decide +kernel
theorem dX1_holdsUntil_34 : decode cX1_holdsUntil 34 = .ok (.getfield 13, 3) := by decide +kernel
theorem dX1_holdsUntil_37 : decode cX1_holdsUntil 37 = .ok (.iload_n 2, 1) := by decide +kernel
theorem dX1_holdsUntil_38 : decode cX1_holdsUntil 38 = .ok (.baload, 1) := by decide +kernel
theorem dX1_holdsUntil_39 : decode cX1_holdsUntil 39 = .ok (.aload_n 0, 1) := by decide +kernel
theorem dX1_holdsUntil_40 : decode cX1_holdsUntil 40 = .ok (.getfield 7, 3) := by decide +kernel
theorem dX1_holdsUntil_43 : decode cX1_holdsUntil 43 = .ok (.iload_n 2, 1) := by decide +kernel
theorem dX1_holdsUntil_44 : decode cX1_holdsUntil 44 = .ok (.baload, 1) := by decide +kernel
theorem dX1_holdsUntil_45 : decode cX1_holdsUntil 45 = .ok (.if_icmp .eq 5, 3) := by decide +kernel
theorem dX1_holdsUntil_48 : decode cX1_holdsUntil 48 = .ok (.iload_n 2, 1) := by decide +kernel
theorem dX1_holdsUntil_49 : decode cX1_holdsUntil 49 = .ok (.ireturn, 1) := by decide +kernel
theorem dX1_holdsUntil_50 : decode cX1_holdsUntil 50 = .ok (.iinc 2 1, 3) := by decide +kernel
theorem dX1_holdsUntil_53 : decode cX1_holdsUntil 53 = .ok (.goto (-32), 3) := by decide +kernel
theorem dX1_holdsUntil_56 : decode cX1_holdsUntil 56 = .ok (.aload_n 0, 1) := by decide +kernel
theorem dX1_holdsUntil_57 : decode cX1_holdsUntil 57 = .ok (.getfield 45, 3) := by decide +kernel
theorem dX1_holdsUntil_60 : decode cX1_holdsUntil 60 = .ok (.ireturn, 1) := by decide +kernel
set_option maxRecDepth 100000
theorem q26 : (Jvm.Cond.initialized "RegisterLab") ∈ lw_all := lw_g (lw_at lw_m1 1 rfl) rfl
theorem q29 : (Jvm.Cond.instantiable "RegisterLab" (16 : Nat)) ∈ lw_all := lw_g (lw_at lw_m1 4 rfl) rfl
theorem q31 : (Jvm.Cond.instanceMethod ({ cls := "RegisterLab", name := "<init>", desc := "(I)V" } : Jvm.MethodName)) ∈ lw_all := lw_g (lw_at lw_m1 6 rfl) rfl
theorem q32 : (Jvm.Cond.code ({ cls := "RegisterLab", name := "<init>", desc := "(I)V" } : Jvm.MethodName) prog_1_method_1_code (2 : Nat) (Option.none : Option Jvm.ClassFile.FieldType)) ∈ lw_all := lw_g (lw_at lw_m1 7 rfl) rfl
theorem q33 : (Jvm.Cond.methodLink "RegisterLab" (1 : Nat) ({ cls := "java/lang/Object", name := "<init>", desc := "()V" } : Jvm.MethodName)) ∈ lw_all := lw_g (lw_at lw_m1 8 rfl) rfl
theorem q36 : (Jvm.Cond.fieldLink "RegisterLab" (34 : Nat) "RegisterLab" "q" "I") ∈ lw_all := lw_g (lw_at lw_m1 11 rfl) rfl
theorem q37 : (Jvm.Cond.fieldLink "RegisterLab" (38 : Nat) "RegisterLab" "limit" "I") ∈ lw_all := lw_g (lw_at lw_m1 12 rfl) rfl
theorem q38 : (Jvm.Cond.fieldLink "RegisterLab" (7 : Nat) "RegisterLab" "symbols" "[B") ∈ lw_all := lw_g (lw_at lw_m1 13 rfl) rfl
theorem q39 : (Jvm.Cond.fieldLink "RegisterLab" (45 : Nat) "RegisterLab" "size" "I") ∈ lw_all := lw_g (lw_at lw_m1 14 rfl) rfl
theorem q40 : (Jvm.Cond.fieldLink "RegisterLab" (13 : Nat) "RegisterLab" "work" "[B") ∈ lw_all := lw_g (lw_at lw_m1 15 rfl) rfl
theorem q41 : (Jvm.Cond.fieldLink "RegisterLab" (48 : Nat) "RegisterLab" "workSize" "I") ∈ lw_all := lw_g (lw_at lw_m1 16 rfl) rfl
theorem q42 : (Jvm.Cond.fieldLink "RegisterLab" (16 : Nat) "RegisterLab" "poly" "[B") ∈ lw_all := lw_g (lw_at lw_m1 17 rfl) rfl
theorem q43 : (Jvm.Cond.fieldLink "RegisterLab" (19 : Nat) "RegisterLab" "old" "[B") ∈ lw_all := lw_g (lw_at lw_m1 18 rfl) rfl
theorem q44 : (Jvm.Cond.fieldLink "RegisterLab" (22 : Nat) "RegisterLab" "copy" "[B") ∈ lw_all := lw_g (lw_at lw_m1 19 rfl) rfl
theorem q45 : (Jvm.Cond.fieldLink "RegisterLab" (25 : Nat) "RegisterLab" "cells" "[B") ∈ lw_all := lw_g (lw_at lw_m1 20 rfl) rfl
theorem q46 : (Jvm.Cond.fieldLink "RegisterLab" (93 : Nat) "RegisterLab" "rows" "I") ∈ lw_all := lw_g (lw_at lw_m1 21 rfl) rfl
theorem q47 : (Jvm.Cond.fieldLink "RegisterLab" (66 : Nat) "RegisterLab" "columns" "I") ∈ lw_all := lw_g (lw_at lw_m1 22 rfl) rfl
theorem q48 : (Jvm.Cond.fieldLink "RegisterLab" (63 : Nat) "RegisterLab" "rank" "I") ∈ lw_all := lw_g (lw_at lw_m1 23 rfl) rfl
theorem q49 : (Jvm.Cond.fieldLink "RegisterLab" (28 : Nat) "RegisterLab" "pivotRow" "[B") ∈ lw_all := lw_g (lw_at lw_m1 24 rfl) rfl
theorem q50 : (Jvm.Cond.fieldLink "RegisterLab" (69 : Nat) "RegisterLab" "registerLength" "I") ∈ lw_all := lw_g (lw_at lw_m1 25 rfl) rfl
theorem q51 : (Jvm.Cond.fieldLink "RegisterLab" (31 : Nat) "RegisterLab" "register" "[B") ∈ lw_all := lw_g (lw_at lw_m1 26 rfl) rfl
theorem q52 : (Jvm.Cond.laysFinal "RegisterLab" "RegisterLab" "q" "I") ∈ lw_all := lw_g (lw_at lw_m1 27 rfl) rfl
theorem q53 : (Jvm.Cond.soleField "RegisterLab" "q") ∈ lw_all := lw_g (lw_at lw_m1 28 rfl) rfl
theorem q54 : (Jvm.Cond.laysFinal "RegisterLab" "RegisterLab" "limit" "I") ∈ lw_all := lw_g (lw_at lw_m1 29 rfl) rfl
theorem q55 : (Jvm.Cond.soleField "RegisterLab" "limit") ∈ lw_all := lw_g (lw_at lw_m1 30 rfl) rfl
theorem q56 : (Jvm.Cond.laysFinal "RegisterLab" "RegisterLab" "symbols" "[B") ∈ lw_all := lw_g (lw_at lw_m1 31 rfl) rfl
theorem q57 : (Jvm.Cond.soleField "RegisterLab" "symbols") ∈ lw_all := lw_g (lw_at lw_m1 32 rfl) rfl
theorem q58 : (Jvm.Cond.lays "RegisterLab" "RegisterLab" "size" "I") ∈ lw_all := lw_g (lw_at lw_m1 33 rfl) rfl
theorem q59 : (Jvm.Cond.soleField "RegisterLab" "size") ∈ lw_all := lw_g (lw_at lw_m1 34 rfl) rfl
theorem q60 : (Jvm.Cond.laysFinal "RegisterLab" "RegisterLab" "work" "[B") ∈ lw_all := lw_g (lw_at lw_m1 35 rfl) rfl
theorem q61 : (Jvm.Cond.soleField "RegisterLab" "work") ∈ lw_all := lw_g (lw_at lw_m1 36 rfl) rfl
theorem q62 : (Jvm.Cond.lays "RegisterLab" "RegisterLab" "workSize" "I") ∈ lw_all := lw_g (lw_at lw_m1 37 rfl) rfl
theorem q63 : (Jvm.Cond.soleField "RegisterLab" "workSize") ∈ lw_all := lw_g (lw_at lw_m1 38 rfl) rfl
theorem q64 : (Jvm.Cond.laysFinal "RegisterLab" "RegisterLab" "poly" "[B") ∈ lw_all := lw_g (lw_at lw_m1 39 rfl) rfl
theorem q65 : (Jvm.Cond.soleField "RegisterLab" "poly") ∈ lw_all := lw_g (lw_at lw_m1 40 rfl) rfl
theorem q66 : (Jvm.Cond.laysFinal "RegisterLab" "RegisterLab" "old" "[B") ∈ lw_all := lw_g (lw_at lw_m1 41 rfl) rfl
theorem q67 : (Jvm.Cond.soleField "RegisterLab" "old") ∈ lw_all := lw_g (lw_at lw_m1 42 rfl) rfl
theorem q68 : (Jvm.Cond.laysFinal "RegisterLab" "RegisterLab" "copy" "[B") ∈ lw_all := lw_g (lw_at lw_m1 43 rfl) rfl
theorem q69 : (Jvm.Cond.soleField "RegisterLab" "copy") ∈ lw_all := lw_g (lw_at lw_m1 44 rfl) rfl
theorem q70 : (Jvm.Cond.laysFinal "RegisterLab" "RegisterLab" "cells" "[B") ∈ lw_all := lw_g (lw_at lw_m1 45 rfl) rfl
theorem q71 : (Jvm.Cond.soleField "RegisterLab" "cells") ∈ lw_all := lw_g (lw_at lw_m1 46 rfl) rfl
theorem q72 : (Jvm.Cond.lays "RegisterLab" "RegisterLab" "rows" "I") ∈ lw_all := lw_g (lw_at lw_m1 47 rfl) rfl
theorem q73 : (Jvm.Cond.soleField "RegisterLab" "rows") ∈ lw_all := lw_g (lw_at lw_m1 48 rfl) rfl
theorem q74 : (Jvm.Cond.lays "RegisterLab" "RegisterLab" "columns" "I") ∈ lw_all := lw_g (lw_at lw_m1 49 rfl) rfl
theorem q75 : (Jvm.Cond.soleField "RegisterLab" "columns") ∈ lw_all := lw_g (lw_at lw_m1 50 rfl) rfl
theorem q76 : (Jvm.Cond.lays "RegisterLab" "RegisterLab" "rank" "I") ∈ lw_all := lw_g (lw_at lw_m1 51 rfl) rfl
theorem q77 : (Jvm.Cond.soleField "RegisterLab" "rank") ∈ lw_all := lw_g (lw_at lw_m1 52 rfl) rfl
theorem q78 : (Jvm.Cond.laysFinal "RegisterLab" "RegisterLab" "pivotRow" "[B") ∈ lw_all := lw_g (lw_at lw_m1 53 rfl) rfl
theorem q79 : (Jvm.Cond.soleField "RegisterLab" "pivotRow") ∈ lw_all := lw_g (lw_at lw_m1 54 rfl) rfl
theorem q80 : (Jvm.Cond.lays "RegisterLab" "RegisterLab" "registerLength" "I") ∈ lw_all := lw_g (lw_at lw_m1 55 rfl) rfl
theorem q81 : (Jvm.Cond.soleField "RegisterLab" "registerLength") ∈ lw_all := lw_g (lw_at lw_m1 56 rfl) rfl
theorem q82 : (Jvm.Cond.laysFinal "RegisterLab" "RegisterLab" "register" "[B") ∈ lw_all := lw_g (lw_at lw_m1 57 rfl) rfl
theorem q83 : (Jvm.Cond.soleField "RegisterLab" "register") ∈ lw_all := lw_g (lw_at lw_m1 58 rfl) rfl
theorem q84 : (Jvm.Cond.superclass "RegisterLab" "java/lang/Object") ∈ lw_all := lw_g (lw_at lw_m1 59 rfl) rfl
theorem q87 : (Jvm.Cond.instanceMethod ({ cls := "RegisterLab", name := "modulus", desc := "()I" } : Jvm.MethodName)) ∈ lw_all := lw_g (lw_at lw_m1 62 rfl) rfl
theorem q88 : (Jvm.Cond.selects "RegisterLab" ({ cls := "RegisterLab", name := "modulus", desc := "()I" } : Jvm.MethodName) ({ cls := "RegisterLab", name := "modulus", desc := "()I" } : Jvm.MethodName)) ∈ lw_all := lw_g (lw_at lw_m1 63 rfl) rfl
theorem q89 : (Jvm.Cond.code ({ cls := "RegisterLab", name := "modulus", desc := "()I" } : Jvm.MethodName) prog_1_method_2_code (1 : Nat) (Option.some Jvm.ClassFile.FieldType.int)) ∈ lw_all := lw_g (lw_at lw_m1 64 rfl) rfl
theorem q91 : (Jvm.Cond.instanceMethod ({ cls := "RegisterLab", name := "append", desc := "(I)Z" } : Jvm.MethodName)) ∈ lw_all := lw_g (lw_at lw_m1 66 rfl) rfl
theorem q92 : (Jvm.Cond.selects "RegisterLab" ({ cls := "RegisterLab", name := "append", desc := "(I)Z" } : Jvm.MethodName) ({ cls := "RegisterLab", name := "append", desc := "(I)Z" } : Jvm.MethodName)) ∈ lw_all := lw_g (lw_at lw_m1 67 rfl) rfl
theorem q93 : (Jvm.Cond.code ({ cls := "RegisterLab", name := "append", desc := "(I)Z" } : Jvm.MethodName) prog_1_method_4_code (2 : Nat) (Option.some Jvm.ClassFile.FieldType.boolean)) ∈ lw_all := lw_g (lw_at lw_m1 68 rfl) rfl
theorem q94 : (Jvm.Cond.methodLink "RegisterLab" (41 : Nat) ({ cls := "RegisterLab", name := "isSymbol", desc := "(I)Z" } : Jvm.MethodName)) ∈ lw_all := lw_g (lw_at lw_m1 69 rfl) rfl
theorem q95 : (Jvm.Cond.privateMethod ({ cls := "RegisterLab", name := "isSymbol", desc := "(I)Z" } : Jvm.MethodName)) ∈ lw_tbl := lw_at lw_m1 70 rfl
theorem q96 : (Jvm.Cond.instanceMethod ({ cls := "RegisterLab", name := "isSymbol", desc := "(I)Z" } : Jvm.MethodName)) ∈ lw_all := lw_g (lw_at lw_m1 71 rfl) rfl
theorem q97 : (Jvm.Cond.code ({ cls := "RegisterLab", name := "isSymbol", desc := "(I)Z" } : Jvm.MethodName) prog_1_method_3_code (2 : Nat) (Option.some Jvm.ClassFile.FieldType.boolean)) ∈ lw_all := lw_g (lw_at lw_m1 72 rfl) rfl
theorem q99 : (Jvm.Cond.instanceMethod ({ cls := "RegisterLab", name := "drop", desc := "()I" } : Jvm.MethodName)) ∈ lw_all := lw_g (lw_at lw_m1 74 rfl) rfl
theorem q100 : (Jvm.Cond.selects "RegisterLab" ({ cls := "RegisterLab", name := "drop", desc := "()I" } : Jvm.MethodName) ({ cls := "RegisterLab", name := "drop", desc := "()I" } : Jvm.MethodName)) ∈ lw_all := lw_g (lw_at lw_m1 75 rfl) rfl
theorem q101 : (Jvm.Cond.code ({ cls := "RegisterLab", name := "drop", desc := "()I" } : Jvm.MethodName) prog_1_method_5_code (1 : Nat) (Option.some Jvm.ClassFile.FieldType.int)) ∈ lw_all := lw_g (lw_at lw_m1 76 rfl) rfl
theorem q103 : (Jvm.Cond.instanceMethod ({ cls := "RegisterLab", name := "change", desc := "(II)Z" } : Jvm.MethodName)) ∈ lw_all := lw_g (lw_at lw_m1 78 rfl) rfl
theorem q104 : (Jvm.Cond.selects "RegisterLab" ({ cls := "RegisterLab", name := "change", desc := "(II)Z" } : Jvm.MethodName) ({ cls := "RegisterLab", name := "change", desc := "(II)Z" } : Jvm.MethodName)) ∈ lw_all := lw_g (lw_at lw_m1 79 rfl) rfl
theorem q105 : (Jvm.Cond.code ({ cls := "RegisterLab", name := "change", desc := "(II)Z" } : Jvm.MethodName) prog_1_method_6_code (3 : Nat) (Option.some Jvm.ClassFile.FieldType.boolean)) ∈ lw_all := lw_g (lw_at lw_m1 80 rfl) rfl
theorem q107 : (Jvm.Cond.instanceMethod ({ cls := "RegisterLab", name := "clear", desc := "()V" } : Jvm.MethodName)) ∈ lw_all := lw_g (lw_at lw_m1 82 rfl) rfl
theorem q108 : (Jvm.Cond.selects "RegisterLab" ({ cls := "RegisterLab", name := "clear", desc := "()V" } : Jvm.MethodName) ({ cls := "RegisterLab", name := "clear", desc := "()V" } : Jvm.MethodName)) ∈ lw_all := lw_g (lw_at lw_m1 83 rfl) rfl
theorem q109 : (Jvm.Cond.code ({ cls := "RegisterLab", name := "clear", desc := "()V" } : Jvm.MethodName) prog_1_method_7_code (1 : Nat) (Option.none : Option Jvm.ClassFile.FieldType)) ∈ lw_all := lw_g (lw_at lw_m1 84 rfl) rfl
theorem q111 : (Jvm.Cond.instanceMethod ({ cls := "RegisterLab", name := "length", desc := "()I" } : Jvm.MethodName)) ∈ lw_all := lw_g (lw_at lw_m1 86 rfl) rfl
theorem q112 : (Jvm.Cond.selects "RegisterLab" ({ cls := "RegisterLab", name := "length", desc := "()I" } : Jvm.MethodName) ({ cls := "RegisterLab", name := "length", desc := "()I" } : Jvm.MethodName)) ∈ lw_all := lw_g (lw_at lw_m1 87 rfl) rfl
theorem q113 : (Jvm.Cond.code ({ cls := "RegisterLab", name := "length", desc := "()I" } : Jvm.MethodName) prog_1_method_8_code (1 : Nat) (Option.some Jvm.ClassFile.FieldType.int)) ∈ lw_all := lw_g (lw_at lw_m1 88 rfl) rfl
theorem q115 : (Jvm.Cond.instanceMethod ({ cls := "RegisterLab", name := "symbol", desc := "(I)I" } : Jvm.MethodName)) ∈ lw_all := lw_g (lw_at lw_m1 90 rfl) rfl
theorem q116 : (Jvm.Cond.selects "RegisterLab" ({ cls := "RegisterLab", name := "symbol", desc := "(I)I" } : Jvm.MethodName) ({ cls := "RegisterLab", name := "symbol", desc := "(I)I" } : Jvm.MethodName)) ∈ lw_all := lw_g (lw_at lw_m1 91 rfl) rfl
theorem q117 : (Jvm.Cond.code ({ cls := "RegisterLab", name := "symbol", desc := "(I)I" } : Jvm.MethodName) prog_1_method_9_code (2 : Nat) (Option.some Jvm.ClassFile.FieldType.int)) ∈ lw_all := lw_g (lw_at lw_m1 92 rfl) rfl
theorem q119 : (Jvm.Cond.instanceMethod ({ cls := "RegisterLab", name := "complexity", desc := "(II)I" } : Jvm.MethodName)) ∈ lw_all := lw_g (lw_at lw_m1 94 rfl) rfl
theorem q120 : (Jvm.Cond.selects "RegisterLab" ({ cls := "RegisterLab", name := "complexity", desc := "(II)I" } : Jvm.MethodName) ({ cls := "RegisterLab", name := "complexity", desc := "(II)I" } : Jvm.MethodName)) ∈ lw_all := lw_g (lw_at lw_m1 95 rfl) rfl
theorem q121 : (Jvm.Cond.code ({ cls := "RegisterLab", name := "complexity", desc := "(II)I" } : Jvm.MethodName) prog_1_method_13_code (3 : Nat) (Option.some Jvm.ClassFile.FieldType.int)) ∈ lw_all := lw_g (lw_at lw_m1 96 rfl) rfl
theorem q122 : (Jvm.Cond.methodLink "RegisterLab" (51 : Nat) ({ cls := "RegisterLab", name := "take", desc := "(II)V" } : Jvm.MethodName)) ∈ lw_all := lw_g (lw_at lw_m1 97 rfl) rfl
theorem q123 : (Jvm.Cond.privateMethod ({ cls := "RegisterLab", name := "take", desc := "(II)V" } : Jvm.MethodName)) ∈ lw_tbl := lw_at lw_m1 98 rfl
theorem q124 : (Jvm.Cond.instanceMethod ({ cls := "RegisterLab", name := "take", desc := "(II)V" } : Jvm.MethodName)) ∈ lw_all := lw_g (lw_at lw_m1 99 rfl) rfl
theorem q125 : (Jvm.Cond.code ({ cls := "RegisterLab", name := "take", desc := "(II)V" } : Jvm.MethodName) prog_1_method_10_code (4 : Nat) (Option.none : Option Jvm.ClassFile.FieldType)) ∈ lw_all := lw_g (lw_at lw_m1 100 rfl) rfl
theorem q126 : (Jvm.Cond.methodLink "RegisterLab" (55 : Nat) ({ cls := "RegisterLab", name := "shortest", desc := "()I" } : Jvm.MethodName)) ∈ lw_all := lw_g (lw_at lw_m1 101 rfl) rfl
theorem q127 : (Jvm.Cond.privateMethod ({ cls := "RegisterLab", name := "shortest", desc := "()I" } : Jvm.MethodName)) ∈ lw_tbl := lw_at lw_m1 102 rfl
theorem q128 : (Jvm.Cond.instanceMethod ({ cls := "RegisterLab", name := "shortest", desc := "()I" } : Jvm.MethodName)) ∈ lw_all := lw_g (lw_at lw_m1 103 rfl) rfl
theorem q129 : (Jvm.Cond.code ({ cls := "RegisterLab", name := "shortest", desc := "()I" } : Jvm.MethodName) prog_1_method_16_code (6 : Nat) (Option.some Jvm.ClassFile.FieldType.int)) ∈ lw_all := lw_g (lw_at lw_m1 104 rfl) rfl
theorem q130 : (Jvm.Cond.methodLink "RegisterLab" (72 : Nat) ({ cls := "RegisterLab", name := "discrepancy", desc := "(II)I" } : Jvm.MethodName)) ∈ lw_all := lw_g (lw_at lw_m1 105 rfl) rfl
theorem q131 : (Jvm.Cond.privateMethod ({ cls := "RegisterLab", name := "discrepancy", desc := "(II)I" } : Jvm.MethodName)) ∈ lw_tbl := lw_at lw_m1 106 rfl
theorem q132 : (Jvm.Cond.instanceMethod ({ cls := "RegisterLab", name := "discrepancy", desc := "(II)I" } : Jvm.MethodName)) ∈ lw_all := lw_g (lw_at lw_m1 107 rfl) rfl
theorem q133 : (Jvm.Cond.code ({ cls := "RegisterLab", name := "discrepancy", desc := "(II)I" } : Jvm.MethodName) prog_1_method_17_code (5 : Nat) (Option.some Jvm.ClassFile.FieldType.int)) ∈ lw_all := lw_g (lw_at lw_m1 108 rfl) rfl
theorem q134 : (Jvm.Cond.methodLink "RegisterLab" (76 : Nat) ({ cls := "RegisterLab", name := "keepCopy", desc := "()V" } : Jvm.MethodName)) ∈ lw_all := lw_g (lw_at lw_m1 109 rfl) rfl
theorem q135 : (Jvm.Cond.privateMethod ({ cls := "RegisterLab", name := "keepCopy", desc := "()V" } : Jvm.MethodName)) ∈ lw_tbl := lw_at lw_m1 110 rfl
theorem q136 : (Jvm.Cond.instanceMethod ({ cls := "RegisterLab", name := "keepCopy", desc := "()V" } : Jvm.MethodName)) ∈ lw_all := lw_g (lw_at lw_m1 111 rfl) rfl
theorem q137 : (Jvm.Cond.code ({ cls := "RegisterLab", name := "keepCopy", desc := "()V" } : Jvm.MethodName) prog_1_method_18_code (2 : Nat) (Option.none : Option Jvm.ClassFile.FieldType)) ∈ lw_all := lw_g (lw_at lw_m1 112 rfl) rfl
theorem q138 : (Jvm.Cond.methodLink "RegisterLab" (79 : Nat) ({ cls := "RegisterLab", name := "mend", desc := "(III)V" } : Jvm.MethodName)) ∈ lw_all := lw_g (lw_at lw_m1 113 rfl) rfl
theorem q139 : (Jvm.Cond.privateMethod ({ cls := "RegisterLab", name := "mend", desc := "(III)V" } : Jvm.MethodName)) ∈ lw_tbl := lw_at lw_m1 114 rfl
theorem q140 : (Jvm.Cond.instanceMethod ({ cls := "RegisterLab", name := "mend", desc := "(III)V" } : Jvm.MethodName)) ∈ lw_all := lw_g (lw_at lw_m1 115 rfl) rfl
theorem q141 : (Jvm.Cond.code ({ cls := "RegisterLab", name := "mend", desc := "(III)V" } : Jvm.MethodName) prog_1_method_20_code (7 : Nat) (Option.none : Option Jvm.ClassFile.FieldType)) ∈ lw_all := lw_g (lw_at lw_m1 116 rfl) rfl
theorem q142 : (Jvm.Cond.methodLink "RegisterLab" (86 : Nat) ({ cls := "RegisterLab", name := "inverse", desc := "(I)I" } : Jvm.MethodName)) ∈ lw_all := lw_g (lw_at lw_m1 117 rfl) rfl
theorem q143 : (Jvm.Cond.privateMethod ({ cls := "RegisterLab", name := "inverse", desc := "(I)I" } : Jvm.MethodName)) ∈ lw_tbl := lw_at lw_m1 118 rfl
theorem q144 : (Jvm.Cond.instanceMethod ({ cls := "RegisterLab", name := "inverse", desc := "(I)I" } : Jvm.MethodName)) ∈ lw_all := lw_g (lw_at lw_m1 119 rfl) rfl
theorem q145 : (Jvm.Cond.code ({ cls := "RegisterLab", name := "inverse", desc := "(I)I" } : Jvm.MethodName) prog_1_method_11_code (4 : Nat) (Option.some Jvm.ClassFile.FieldType.int)) ∈ lw_all := lw_g (lw_at lw_m1 120 rfl) rfl
theorem q146 : (Jvm.Cond.methodLink "RegisterLab" (90 : Nat) ({ cls := "RegisterLab", name := "wrap", desc := "(I)I" } : Jvm.MethodName)) ∈ lw_all := lw_g (lw_at lw_m1 121 rfl) rfl
theorem q147 : (Jvm.Cond.privateMethod ({ cls := "RegisterLab", name := "wrap", desc := "(I)I" } : Jvm.MethodName)) ∈ lw_tbl := lw_at lw_m1 122 rfl
theorem q148 : (Jvm.Cond.instanceMethod ({ cls := "RegisterLab", name := "wrap", desc := "(I)I" } : Jvm.MethodName)) ∈ lw_all := lw_g (lw_at lw_m1 123 rfl) rfl
theorem q149 : (Jvm.Cond.code ({ cls := "RegisterLab", name := "wrap", desc := "(I)I" } : Jvm.MethodName) prog_1_method_12_code (2 : Nat) (Option.some Jvm.ClassFile.FieldType.int)) ∈ lw_all := lw_g (lw_at lw_m1 124 rfl) rfl
theorem q150 : (Jvm.Cond.methodLink "RegisterLab" (83 : Nat) ({ cls := "RegisterLab", name := "useCopy", desc := "()V" } : Jvm.MethodName)) ∈ lw_all := lw_g (lw_at lw_m1 125 rfl) rfl
theorem q151 : (Jvm.Cond.privateMethod ({ cls := "RegisterLab", name := "useCopy", desc := "()V" } : Jvm.MethodName)) ∈ lw_tbl := lw_at lw_m1 126 rfl
theorem q152 : (Jvm.Cond.instanceMethod ({ cls := "RegisterLab", name := "useCopy", desc := "()V" } : Jvm.MethodName)) ∈ lw_all := lw_g (lw_at lw_m1 127 rfl) rfl
theorem q153 : (Jvm.Cond.code ({ cls := "RegisterLab", name := "useCopy", desc := "()V" } : Jvm.MethodName) prog_1_method_19_code (2 : Nat) (Option.none : Option Jvm.ClassFile.FieldType)) ∈ lw_all := lw_g (lw_at lw_m1 128 rfl) rfl
theorem q155 : (Jvm.Cond.instanceMethod ({ cls := "RegisterLab", name := "registers", desc := "()I" } : Jvm.MethodName)) ∈ lw_all := lw_g (lw_at lw_m1 130 rfl) rfl
theorem q156 : (Jvm.Cond.selects "RegisterLab" ({ cls := "RegisterLab", name := "registers", desc := "()I" } : Jvm.MethodName) ({ cls := "RegisterLab", name := "registers", desc := "()I" } : Jvm.MethodName)) ∈ lw_all := lw_g (lw_at lw_m1 131 rfl) rfl
theorem q157 : (Jvm.Cond.code ({ cls := "RegisterLab", name := "registers", desc := "()I" } : Jvm.MethodName) prog_1_method_14_code (3 : Nat) (Option.some Jvm.ClassFile.FieldType.int)) ∈ lw_all := lw_g (lw_at lw_m1 132 rfl) rfl
theorem q158 : (Jvm.Cond.methodLink "RegisterLab" (59 : Nat) ({ cls := "RegisterLab", name := "findRegister", desc := "(I)V" } : Jvm.MethodName)) ∈ lw_all := lw_g (lw_at lw_m1 133 rfl) rfl
theorem q159 : (Jvm.Cond.privateMethod ({ cls := "RegisterLab", name := "findRegister", desc := "(I)V" } : Jvm.MethodName)) ∈ lw_tbl := lw_at lw_m1 134 rfl
theorem q160 : (Jvm.Cond.instanceMethod ({ cls := "RegisterLab", name := "findRegister", desc := "(I)V" } : Jvm.MethodName)) ∈ lw_all := lw_g (lw_at lw_m1 135 rfl) rfl
theorem q161 : (Jvm.Cond.code ({ cls := "RegisterLab", name := "findRegister", desc := "(I)V" } : Jvm.MethodName) prog_1_method_21_code (4 : Nat) (Option.none : Option Jvm.ClassFile.FieldType)) ∈ lw_all := lw_g (lw_at lw_m1 136 rfl) rfl
theorem q162 : (Jvm.Cond.methodLink "RegisterLab" (96 : Nat) ({ cls := "RegisterLab", name := "eliminate", desc := "()V" } : Jvm.MethodName)) ∈ lw_all := lw_g (lw_at lw_m1 137 rfl) rfl
theorem q163 : (Jvm.Cond.privateMethod ({ cls := "RegisterLab", name := "eliminate", desc := "()V" } : Jvm.MethodName)) ∈ lw_tbl := lw_at lw_m1 138 rfl
theorem q164 : (Jvm.Cond.instanceMethod ({ cls := "RegisterLab", name := "eliminate", desc := "()V" } : Jvm.MethodName)) ∈ lw_all := lw_g (lw_at lw_m1 139 rfl) rfl
theorem q165 : (Jvm.Cond.code ({ cls := "RegisterLab", name := "eliminate", desc := "()V" } : Jvm.MethodName) prog_1_method_22_code (3 : Nat) (Option.none : Option Jvm.ClassFile.FieldType)) ∈ lw_all := lw_g (lw_at lw_m1 140 rfl) rfl
theorem q166 : (Jvm.Cond.methodLink "RegisterLab" (99 : Nat) ({ cls := "RegisterLab", name := "rowWith", desc := "(I)I" } : Jvm.MethodName)) ∈ lw_all := lw_g (lw_at lw_m1 141 rfl) rfl
theorem q167 : (Jvm.Cond.privateMethod ({ cls := "RegisterLab", name := "rowWith", desc := "(I)I" } : Jvm.MethodName)) ∈ lw_tbl := lw_at lw_m1 142 rfl
theorem q168 : (Jvm.Cond.instanceMethod ({ cls := "RegisterLab", name := "rowWith", desc := "(I)I" } : Jvm.MethodName)) ∈ lw_all := lw_g (lw_at lw_m1 143 rfl) rfl
theorem q169 : (Jvm.Cond.code ({ cls := "RegisterLab", name := "rowWith", desc := "(I)I" } : Jvm.MethodName) prog_1_method_23_code (3 : Nat) (Option.some Jvm.ClassFile.FieldType.int)) ∈ lw_all := lw_g (lw_at lw_m1 144 rfl) rfl
theorem q170 : (Jvm.Cond.methodLink "RegisterLab" (102 : Nat) ({ cls := "RegisterLab", name := "swap", desc := "(II)V" } : Jvm.MethodName)) ∈ lw_all := lw_g (lw_at lw_m1 145 rfl) rfl
theorem q171 : (Jvm.Cond.privateMethod ({ cls := "RegisterLab", name := "swap", desc := "(II)V" } : Jvm.MethodName)) ∈ lw_tbl := lw_at lw_m1 146 rfl
theorem q172 : (Jvm.Cond.instanceMethod ({ cls := "RegisterLab", name := "swap", desc := "(II)V" } : Jvm.MethodName)) ∈ lw_all := lw_g (lw_at lw_m1 147 rfl) rfl
theorem q173 : (Jvm.Cond.code ({ cls := "RegisterLab", name := "swap", desc := "(II)V" } : Jvm.MethodName) prog_1_method_24_code (5 : Nat) (Option.none : Option Jvm.ClassFile.FieldType)) ∈ lw_all := lw_g (lw_at lw_m1 148 rfl) rfl
theorem q174 : (Jvm.Cond.methodLink "RegisterLab" (105 : Nat) ({ cls := "RegisterLab", name := "scale", desc := "(II)V" } : Jvm.MethodName)) ∈ lw_all := lw_g (lw_at lw_m1 149 rfl) rfl
theorem q175 : (Jvm.Cond.privateMethod ({ cls := "RegisterLab", name := "scale", desc := "(II)V" } : Jvm.MethodName)) ∈ lw_tbl := lw_at lw_m1 150 rfl
theorem q176 : (Jvm.Cond.instanceMethod ({ cls := "RegisterLab", name := "scale", desc := "(II)V" } : Jvm.MethodName)) ∈ lw_all := lw_g (lw_at lw_m1 151 rfl) rfl
theorem q177 : (Jvm.Cond.code ({ cls := "RegisterLab", name := "scale", desc := "(II)V" } : Jvm.MethodName) prog_1_method_25_code (5 : Nat) (Option.none : Option Jvm.ClassFile.FieldType)) ∈ lw_all := lw_g (lw_at lw_m1 152 rfl) rfl
theorem q178 : (Jvm.Cond.methodLink "RegisterLab" (108 : Nat) ({ cls := "RegisterLab", name := "clearColumn", desc := "(II)V" } : Jvm.MethodName)) ∈ lw_all := lw_g (lw_at lw_m1 153 rfl) rfl
theorem q179 : (Jvm.Cond.privateMethod ({ cls := "RegisterLab", name := "clearColumn", desc := "(II)V" } : Jvm.MethodName)) ∈ lw_tbl := lw_at lw_m1 154 rfl
theorem q180 : (Jvm.Cond.instanceMethod ({ cls := "RegisterLab", name := "clearColumn", desc := "(II)V" } : Jvm.MethodName)) ∈ lw_all := lw_g (lw_at lw_m1 155 rfl) rfl
theorem q181 : (Jvm.Cond.code ({ cls := "RegisterLab", name := "clearColumn", desc := "(II)V" } : Jvm.MethodName) prog_1_method_26_code (5 : Nat) (Option.none : Option Jvm.ClassFile.FieldType)) ∈ lw_all := lw_g (lw_at lw_m1 156 rfl) rfl
theorem q182 : (Jvm.Cond.methodLink "RegisterLab" (111 : Nat) ({ cls := "RegisterLab", name := "subtract", desc := "(III)V" } : Jvm.MethodName)) ∈ lw_all := lw_g (lw_at lw_m1 157 rfl) rfl
theorem q183 : (Jvm.Cond.privateMethod ({ cls := "RegisterLab", name := "subtract", desc := "(III)V" } : Jvm.MethodName)) ∈ lw_tbl := lw_at lw_m1 158 rfl
theorem q184 : (Jvm.Cond.instanceMethod ({ cls := "RegisterLab", name := "subtract", desc := "(III)V" } : Jvm.MethodName)) ∈ lw_all := lw_g (lw_at lw_m1 159 rfl) rfl
theorem q185 : (Jvm.Cond.code ({ cls := "RegisterLab", name := "subtract", desc := "(III)V" } : Jvm.MethodName) prog_1_method_27_code (6 : Nat) (Option.none : Option Jvm.ClassFile.FieldType)) ∈ lw_all := lw_g (lw_at lw_m1 160 rfl) rfl
theorem q187 : (Jvm.Cond.instanceMethod ({ cls := "RegisterLab", name := "coefficient", desc := "(I)I" } : Jvm.MethodName)) ∈ lw_all := lw_g (lw_at lw_m1 162 rfl) rfl
theorem q188 : (Jvm.Cond.selects "RegisterLab" ({ cls := "RegisterLab", name := "coefficient", desc := "(I)I" } : Jvm.MethodName) ({ cls := "RegisterLab", name := "coefficient", desc := "(I)I" } : Jvm.MethodName)) ∈ lw_all := lw_g (lw_at lw_m1 163 rfl) rfl
theorem q189 : (Jvm.Cond.code ({ cls := "RegisterLab", name := "coefficient", desc := "(I)I" } : Jvm.MethodName) prog_1_method_15_code (2 : Nat) (Option.some Jvm.ClassFile.FieldType.int)) ∈ lw_all := lw_g (lw_at lw_m1 164 rfl) rfl
theorem q191 : (Jvm.Cond.instanceMethod ({ cls := "RegisterLab", name := "predict", desc := "(I)I" } : Jvm.MethodName)) ∈ lw_all := lw_g (lw_at lw_m1 166 rfl) rfl
theorem q192 : (Jvm.Cond.selects "RegisterLab" ({ cls := "RegisterLab", name := "predict", desc := "(I)I" } : Jvm.MethodName) ({ cls := "RegisterLab", name := "predict", desc := "(I)I" } : Jvm.MethodName)) ∈ lw_all := lw_g (lw_at lw_m1 167 rfl) rfl
theorem q193 : (Jvm.Cond.code ({ cls := "RegisterLab", name := "predict", desc := "(I)I" } : Jvm.MethodName) prog_1_method_28_code (3 : Nat) (Option.some Jvm.ClassFile.FieldType.int)) ∈ lw_all := lw_g (lw_at lw_m1 168 rfl) rfl
theorem q194 : (Jvm.Cond.methodLink "RegisterLab" (114 : Nat) ({ cls := "RegisterLab", name := "step", desc := "()V" } : Jvm.MethodName)) ∈ lw_all := lw_g (lw_at lw_m1 169 rfl) rfl
theorem q195 : (Jvm.Cond.privateMethod ({ cls := "RegisterLab", name := "step", desc := "()V" } : Jvm.MethodName)) ∈ lw_tbl := lw_at lw_m1 170 rfl
theorem q196 : (Jvm.Cond.instanceMethod ({ cls := "RegisterLab", name := "step", desc := "()V" } : Jvm.MethodName)) ∈ lw_all := lw_g (lw_at lw_m1 171 rfl) rfl
theorem q197 : (Jvm.Cond.code ({ cls := "RegisterLab", name := "step", desc := "()V" } : Jvm.MethodName) prog_1_method_31_code (3 : Nat) (Option.none : Option Jvm.ClassFile.FieldType)) ∈ lw_all := lw_g (lw_at lw_m1 172 rfl) rfl
theorem q199 : (Jvm.Cond.instanceMethod ({ cls := "RegisterLab", name := "complexityWith", desc := "(I)I" } : Jvm.MethodName)) ∈ lw_all := lw_g (lw_at lw_m1 174 rfl) rfl
theorem q200 : (Jvm.Cond.selects "RegisterLab" ({ cls := "RegisterLab", name := "complexityWith", desc := "(I)I" } : Jvm.MethodName) ({ cls := "RegisterLab", name := "complexityWith", desc := "(I)I" } : Jvm.MethodName)) ∈ lw_all := lw_g (lw_at lw_m1 175 rfl) rfl
theorem q201 : (Jvm.Cond.code ({ cls := "RegisterLab", name := "complexityWith", desc := "(I)I" } : Jvm.MethodName) prog_1_method_29_code (2 : Nat) (Option.some Jvm.ClassFile.FieldType.int)) ∈ lw_all := lw_g (lw_at lw_m1 176 rfl) rfl
theorem q203 : (Jvm.Cond.instanceMethod ({ cls := "RegisterLab", name := "complexityBackwards", desc := "()I" } : Jvm.MethodName)) ∈ lw_all := lw_g (lw_at lw_m1 178 rfl) rfl
theorem q204 : (Jvm.Cond.selects "RegisterLab" ({ cls := "RegisterLab", name := "complexityBackwards", desc := "()I" } : Jvm.MethodName) ({ cls := "RegisterLab", name := "complexityBackwards", desc := "()I" } : Jvm.MethodName)) ∈ lw_all := lw_g (lw_at lw_m1 179 rfl) rfl
theorem q205 : (Jvm.Cond.code ({ cls := "RegisterLab", name := "complexityBackwards", desc := "()I" } : Jvm.MethodName) prog_1_method_30_code (2 : Nat) (Option.some Jvm.ClassFile.FieldType.int)) ∈ lw_all := lw_g (lw_at lw_m1 180 rfl) rfl
theorem q207 : (Jvm.Cond.instanceMethod ({ cls := "RegisterLab", name := "holdsUntil", desc := "(I)I" } : Jvm.MethodName)) ∈ lw_all := lw_g (lw_at lw_m1 182 rfl) rfl
theorem q208 : (Jvm.Cond.selects "RegisterLab" ({ cls := "RegisterLab", name := "holdsUntil", desc := "(I)I" } : Jvm.MethodName) ({ cls := "RegisterLab", name := "holdsUntil", desc := "(I)I" } : Jvm.MethodName)) ∈ lw_all := lw_g (lw_at lw_m1 183 rfl) rfl
theorem q209 : (Jvm.Cond.code ({ cls := "RegisterLab", name := "holdsUntil", desc := "(I)I" } : Jvm.MethodName) prog_1_method_32_code (3 : Nat) (Option.some Jvm.ClassFile.FieldType.int)) ∈ lw_all := lw_g (lw_at lw_m1 184 rfl) rfl
theorem in_X1 : ∀ w ∈ wsX10, w ∈ lw_all := lw_in wsX10 [52, 54, 56, 58, 60, 62, 64, 66, 68, 70, 72, 74, 76, 78, 80, 82] (by decide +kernel) (by decide +kernel)
end
section
/-! RegisterLabModel -/
set_option maxRecDepth 100000
def RX2 : String := "RegisterLabModel"
def TX2 : u_T := fun k => match k with
  | 0 => ("RegisterLabModel", "q", "I", false)
  | 1 => ("RegisterLabModel", "limit", "I", false)
  | 2 => ("RegisterLabModel", "n", "I", false)
  | 3 => ("RegisterLabModel", "s", "[I", false)
  | 4 => ("RegisterLabModel", "row", "[I", false)
  | _ => ("RegisterLabModel", "c", "[I", false)
def tyX2 : Nat → FieldType := fun k => match k with
  | 0 => .int
  | 1 => .int
  | 2 => .int
  | 3 => .array .int
  | 4 => .array .int
  | _ => .array .int
abbrev wsX20 : List Cond := u_ws RX2 TX2 6
theorem nmX2 : ∀ a, a < 6 → ∀ b, b < 6 → a ≠ b → (TX2 a).2.1 ≠ (TX2 b).2.1 := by decide +kernel
theorem tyX2_ok : ∀ k, k < 6 → parseFieldDescriptor (TX2 k).2.2.1 = some (tyX2 k) := by decide +kernel
abbrev cX2_init : ByteArray := prog_3_method_1_code
def yX2_init : MethodName := ⟨RX2, "<init>", "(I)V"⟩
theorem dX2_init_0 : decode cX2_init 0 = .ok (.aload_n 0, 1) := by decide +kernel
theorem dX2_init_1 : decode cX2_init 1 = .ok (.invokespecial 1, 3) := by decide +kernel
theorem dX2_init_4 : decode cX2_init 4 = .ok (.aload_n 0, 1) := by decide +kernel
theorem dX2_init_5 : decode cX2_init 5 = .ok (.bipush 12, 2) := by decide +kernel
theorem dX2_init_7 : decode cX2_init 7 = .ok (.newarray .int, 2) := by decide +kernel
theorem dX2_init_9 : decode cX2_init 9 = .ok (.putfield 7, 3) := by decide +kernel
theorem dX2_init_12 : decode cX2_init 12 = .ok (.aload_n 0, 1) := by decide +kernel
theorem dX2_init_13 : decode cX2_init 13 = .ok (.bipush 60, 2) := by decide +kernel
theorem dX2_init_15 : decode cX2_init 15 = .ok (.newarray .int, 2) := by decide +kernel
theorem dX2_init_17 : decode cX2_init 17 = .ok (.putfield 13, 3) := by decide +kernel
theorem dX2_init_20 : decode cX2_init 20 = .ok (.aload_n 0, 1) := by decide +kernel
theorem dX2_init_21 : decode cX2_init 21 = .ok (.bipush 14, 2) := by decide +kernel
theorem dX2_init_23 : decode cX2_init 23 = .ok (.newarray .int, 2) := by decide +kernel
theorem dX2_init_25 : decode cX2_init 25 = .ok (.putfield 16, 3) := by decide +kernel
theorem dX2_init_28 : decode cX2_init 28 = .ok (.aload_n 0, 1) := by decide +kernel
theorem dX2_init_29 : decode cX2_init 29 = .ok (.iload_n 1, 1) := by decide +kernel
theorem dX2_init_30 : decode cX2_init 30 = .ok (.ifCond .gt 7, 3) := by decide +kernel
theorem dX2_init_33 : decode cX2_init 33 = .ok (.iconst 2, 1) := by decide +kernel
theorem dX2_init_34 : decode cX2_init 34 = .ok (.goto 13, 3) := by decide +kernel
theorem dX2_init_37 : decode cX2_init 37 = .ok (.iload_n 1, 1) := by decide +kernel
theorem dX2_init_38 : decode cX2_init 38 = .ok (.iconst 1, 1) := by decide +kernel
theorem dX2_init_39 : decode cX2_init 39 = .ok (.if_icmp .ne 7, 3) := by decide +kernel
theorem dX2_init_42 : decode cX2_init 42 = .ok (.iconst 3, 1) := by decide +kernel
theorem dX2_init_43 : decode cX2_init 43 = .ok (.goto 4, 3) := by decide +kernel
theorem dX2_init_46 : decode cX2_init 46 = .ok (.iconst 5, 1) := by decide +kernel
theorem dX2_init_47 : decode cX2_init 47 = .ok (.putfield 19, 3) := by decide +kernel
theorem dX2_init_50 : decode cX2_init 50 = .ok (.aload_n 0, 1) := by decide +kernel
theorem dX2_init_51 : decode cX2_init 51 = .ok (.iload_n 1, 1) := by decide +kernel
theorem dX2_init_52 : decode cX2_init 52 = .ok (.ifCond .gt 8, 3) := by decide +kernel
theorem dX2_init_55 : decode cX2_init 55 = .ok (.bipush 12, 2) := by decide +kernel
theorem dX2_init_57 : decode cX2_init 57 = .ok (.goto 14, 3) := by decide +kernel
theorem dX2_init_60 : decode cX2_init 60 = .ok (.iload_n 1, 1) := by decide +kernel
theorem dX2_init_61 : decode cX2_init 61 = .ok (.iconst 1, 1) := by decide +kernel
theorem dX2_init_62 : decode cX2_init 62 = .ok (.if_icmp .ne 8, 3) := by decide +kernel
theorem dX2_init_65 : decode cX2_init 65 = .ok (.bipush 7, 2) := by decide +kernel
theorem dX2_init_67 : decode cX2_init 67 = .ok (.goto 4, 3) := by decide +kernel
theorem dX2_init_70 : decode cX2_init 70 = .ok (.iconst 5, 1) := by decide +kernel
theorem dX2_init_71 : decode cX2_init 71 = .ok (.putfield 23, 3) := by decide +kernel
theorem dX2_init_74 : decode cX2_init 74 = .ok (.return_, 1) := by decide +kernel
abbrev cX2_modulus : ByteArray := prog_3_method_2_code
def yX2_modulus : MethodName := ⟨RX2, "modulus", "()I"⟩
theorem dX2_modulus_0 : decode cX2_modulus 0 = .ok (.aload_n 0, 1) := by decide +kernel
theorem dX2_modulus_1 : decode cX2_modulus 1 = .ok (.getfield 19, 3) := by decide +kernel
theorem dX2_modulus_4 : decode cX2_modulus 4 = .ok (.ireturn, 1) := by decide +kernel
abbrev cX2_append : ByteArray := prog_3_method_3_code
def yX2_append : MethodName := ⟨RX2, "append", "(I)Z"⟩
theorem dX2_append_0 : decode cX2_append 0 = .ok (.iload_n 1, 1) := by decide +kernel
theorem dX2_append_1 : decode cX2_append 1 = .ok (.ifCond .lt 22, 3) := by decide +kernel
theorem dX2_append_4 : decode cX2_append 4 = .ok (.iload_n 1, 1) := by decide +kernel
theorem dX2_append_5 : decode cX2_append 5 = .ok (.aload_n 0, 1) := by decide +kernel
theorem dX2_append_6 : decode cX2_append 6 = .ok (.getfield 19, 3) := by decide +kernel
theorem dX2_append_9 : decode cX2_append 9 = .ok (.if_icmp .ge 14, 3) := by decide +kernel
theorem dX2_append_12 : decode cX2_append 12 = .ok (.aload_n 0, 1) := by decide +kernel
theorem dX2_append_13 : decode cX2_append 13 = .ok (.getfield 26, 3) := by decide +kernel
theorem dX2_append_16 : decode cX2_append 16 = .ok (.aload_n 0, 1) := by decide +kernel
theorem dX2_append_17 : decode cX2_append 17 = .ok (.getfield 23, 3) := by decide +kernel
theorem dX2_append_20 : decode cX2_append 20 = .ok (.if_icmp .lt 5, 3) := by decide +kernel
theorem dX2_append_23 : decode cX2_append 23 = .ok (.iconst 0, 1) := by decide +kernel
theorem dX2_append_24 : decode cX2_append 24 = .ok (.ireturn, 1) := by decide +kernel
theorem dX2_append_25 : decode cX2_append 25 = .ok (.aload_n 0, 1) := by decide +kernel
theorem dX2_append_26 : decode cX2_append 26 = .ok (.getfield 7, 3) := by decide +kernel
theorem dX2_append_29 : decode cX2_append 29 = .ok (.aload_n 0, 1) := by decide +kernel
theorem dX2_append_30 : decode cX2_append 30 = .ok (.getfield 26, 3) := by decide +kernel
theorem dX2_append_33 : decode cX2_append 33 = .ok (.iload_n 1, 1) := by decide +kernel
theorem dX2_append_34 : decode cX2_append 34 = .ok (.iastore, 1) := by decide +kernel
theorem dX2_append_35 : decode cX2_append 35 = .ok (.aload_n 0, 1) := by decide +kernel
theorem dX2_append_36 : decode cX2_append 36 = .ok (.dup, 1) := by decide +kernel
theorem dX2_append_37 : decode cX2_append 37 = .ok (.getfield 26, 3) := by decide +kernel
theorem dX2_append_40 : decode cX2_append 40 = .ok (.iconst 1, 1) := by decide +kernel
theorem dX2_append_41 : decode cX2_append 41 = .ok (.iadd, 1) := by decide +kernel
theorem dX2_append_42 : decode cX2_append 42 = .ok (.putfield 26, 3) := by decide +kernel
theorem dX2_append_45 : decode cX2_append 45 = .ok (.iconst 1, 1) := by decide +kernel
theorem dX2_append_46 : decode cX2_append 46 = .ok (.ireturn, 1) := by decide +kernel
abbrev cX2_drop : ByteArray := prog_3_method_4_code
def yX2_drop : MethodName := ⟨RX2, "drop", "()I"⟩
theorem dX2_drop_0 : decode cX2_drop 0 = .ok (.aload_n 0, 1) := by decide +kernel
theorem dX2_drop_1 : decode cX2_drop 1 = .ok (.getfield 26, 3) := by decide +kernel
theorem dX2_drop_4 : decode cX2_drop 4 = .ok (.ifCond .ne 5, 3) := by decide +kernel
theorem dX2_drop_7 : decode cX2_drop 7 = .ok (.iconst (-1), 1) := by decide +kernel
theorem dX2_drop_8 : decode cX2_drop 8 = .ok (.ireturn, 1) := by decide +kernel
theorem dX2_drop_9 : decode cX2_drop 9 = .ok (.aload_n 0, 1) := by decide +kernel
theorem dX2_drop_10 : decode cX2_drop 10 = .ok (.dup, 1) := by decide +kernel
theorem dX2_drop_11 : decode cX2_drop 11 = .ok (.getfield 26, 3) := by decide +kernel
theorem dX2_drop_14 : decode cX2_drop 14 = .ok (.iconst 1, 1) := by decide +kernel
theorem dX2_drop_15 : decode cX2_drop 15 = .ok (.isub, 1) := by decide +kernel
theorem dX2_drop_16 : decode cX2_drop 16 = .ok (.putfield 26, 3) := by decide +kernel
theorem dX2_drop_19 : decode cX2_drop 19 = .ok (.aload_n 0, 1) := by decide +kernel
theorem dX2_drop_20 : decode cX2_drop 20 = .ok (.getfield 7, 3) := by decide +kernel
theorem dX2_drop_23 : decode cX2_drop 23 = .ok (.aload_n 0, 1) := by decide +kernel
theorem dX2_drop_24 : decode cX2_drop 24 = .ok (.getfield 26, 3) := by decide +kernel
theorem dX2_drop_27 : decode cX2_drop 27 = .ok (.iaload, 1) := by decide +kernel
theorem dX2_drop_28 : decode cX2_drop 28 = .ok (.ireturn, 1) := by decide +kernel
abbrev cX2_change : ByteArray := prog_3_method_5_code
def yX2_change : MethodName := ⟨RX2, "change", "(II)Z"⟩
theorem dX2_change_0 : decode cX2_change 0 = .ok (.iload_n 1, 1) := by decide +kernel
theorem dX2_change_1 : decode cX2_change 1 = .ok (.ifCond .lt 23, 3) := by decide +kernel
theorem dX2_change_4 : decode cX2_change 4 = .ok (.iload_n 1, 1) := by decide +kernel
theorem dX2_change_5 : decode cX2_change 5 = .ok (.aload_n 0, 1) := by decide +kernel
theorem dX2_change_6 : decode cX2_change 6 = .ok (.getfield 26, 3) := by decide +kernel
theorem dX2_change_9 : decode cX2_change 9 = .ok (.if_icmp .ge 15, 3) := by decide +kernel
theorem dX2_change_12 : decode cX2_change 12 = .ok (.iload_n 2, 1) := by decide +kernel
theorem dX2_change_13 : decode cX2_change 13 = .ok (.ifCond .lt 11, 3) := by decide +kernel
theorem dX2_change_16 : decode cX2_change 16 = .ok (.iload_n 2, 1) := by decide +kernel
theorem dX2_change_17 : decode cX2_change 17 = .ok (.aload_n 0, 1) := by decide +kernel
theorem dX2_change_18 : decode cX2_change 18 = .ok (.getfield 19, 3) := by decide +kernel
theorem dX2_change_21 : decode cX2_change 21 = .ok (.if_icmp .lt 5, 3) := by decide +kernel
theorem dX2_change_24 : decode cX2_change 24 = .ok (.iconst 0, 1) := by decide +kernel
theorem dX2_change_25 : decode cX2_change 25 = .ok (.ireturn, 1) := by decide +kernel
theorem dX2_change_26 : decode cX2_change 26 = .ok (.aload_n 0, 1) := by decide +kernel
theorem dX2_change_27 : decode cX2_change 27 = .ok (.getfield 7, 3) := by decide +kernel
theorem dX2_change_30 : decode cX2_change 30 = .ok (.iload_n 1, 1) := by decide +kernel
theorem dX2_change_31 : decode cX2_change 31 = .ok (.iload_n 2, 1) := by decide +kernel
theorem dX2_change_32 : decode cX2_change 32 = .ok (.iastore, 1) := by decide +kernel
theorem dX2_change_33 : decode cX2_change 33 = .ok (.iconst 1, 1) := by decide +kernel
theorem dX2_change_34 : decode cX2_change 34 = .ok (.ireturn, 1) := by decide +kernel
abbrev cX2_clear : ByteArray := prog_3_method_6_code
def yX2_clear : MethodName := ⟨RX2, "clear", "()V"⟩
theorem dX2_clear_0 : decode cX2_clear 0 = .ok (.aload_n 0, 1) := by decide +kernel
theorem dX2_clear_1 : decode cX2_clear 1 = .ok (.iconst 0, 1) := by decide +kernel
theorem dX2_clear_2 : decode cX2_clear 2 = .ok (.putfield 26, 3) := by decide +kernel
theorem dX2_clear_5 : decode cX2_clear 5 = .ok (.return_, 1) := by decide +kernel
abbrev cX2_length : ByteArray := prog_3_method_7_code
def yX2_length : MethodName := ⟨RX2, "length", "()I"⟩
theorem dX2_length_0 : decode cX2_length 0 = .ok (.aload_n 0, 1) := by decide +kernel
theorem dX2_length_1 : decode cX2_length 1 = .ok (.getfield 26, 3) := by decide +kernel
theorem dX2_length_4 : decode cX2_length 4 = .ok (.ireturn, 1) := by decide +kernel
abbrev cX2_symbol : ByteArray := prog_3_method_8_code
def yX2_symbol : MethodName := ⟨RX2, "symbol", "(I)I"⟩
theorem dX2_symbol_0 : decode cX2_symbol 0 = .ok (.iload_n 1, 1) := by decide +kernel
theorem dX2_symbol_1 : decode cX2_symbol 1 = .ok (.ifCond .lt 11, 3) := by decide +kernel
theorem dX2_symbol_4 : decode cX2_symbol 4 = .ok (.iload_n 1, 1) := by decide +kernel
theorem dX2_symbol_5 : decode cX2_symbol 5 = .ok (.aload_n 0, 1) := by decide +kernel
theorem dX2_symbol_6 : decode cX2_symbol 6 = .ok (.getfield 26, 3) := by decide +kernel
theorem dX2_symbol_9 : decode cX2_symbol 9 = .ok (.if_icmp .lt 7, 3) := by decide +kernel
theorem dX2_symbol_12 : decode cX2_symbol 12 = .ok (.iconst (-1), 1) := by decide +kernel
theorem dX2_symbol_13 : decode cX2_symbol 13 = .ok (.goto 9, 3) := by decide +kernel
theorem dX2_symbol_16 : decode cX2_symbol 16 = .ok (.aload_n 0, 1) := by decide +kernel
theorem dX2_symbol_17 : decode cX2_symbol 17 = .ok (.getfield 7, 3) := by decide +kernel
theorem dX2_symbol_20 : decode cX2_symbol 20 = .ok (.iload_n 1, 1) := by decide +kernel
theorem dX2_symbol_21 : decode cX2_symbol 21 = .ok (.iaload, 1) := by decide +kernel
theorem dX2_symbol_22 : decode cX2_symbol 22 = .ok (.ireturn, 1) := by decide +kernel
abbrev cX2_complexity : ByteArray := prog_3_method_17_code
def yX2_complexity : MethodName := ⟨RX2, "complexity", "(II)I"⟩
theorem dX2_complexity_0 : decode cX2_complexity 0 = .ok (.iload_n 1, 1) := by decide +kernel
theorem dX2_complexity_1 : decode cX2_complexity 1 = .ok (.ifCond .lt 16, 3) := by decide +kernel
theorem dX2_complexity_4 : decode cX2_complexity 4 = .ok (.iload_n 1, 1) := by decide +kernel
theorem dX2_complexity_5 : decode cX2_complexity 5 = .ok (.iload_n 2, 1) := by decide +kernel
theorem dX2_complexity_6 : decode cX2_complexity 6 = .ok (.if_icmp .gt 11, 3) := by decide +kernel
theorem dX2_complexity_9 : decode cX2_complexity 9 = .ok (.iload_n 2, 1) := by decide +kernel
theorem dX2_complexity_10 : decode cX2_complexity 10 = .ok (.aload_n 0, 1) := by decide +kernel
theorem dX2_complexity_11 : decode cX2_complexity 11 = .ok (.getfield 26, 3) := by decide +kernel
theorem dX2_complexity_14 : decode cX2_complexity 14 = .ok (.if_icmp .le 5, 3) := by decide +kernel
theorem dX2_complexity_17 : decode cX2_complexity 17 = .ok (.iconst (-1), 1) := by decide +kernel
theorem dX2_complexity_18 : decode cX2_complexity 18 = .ok (.ireturn, 1) := by decide +kernel
theorem dX2_complexity_19 : decode cX2_complexity 19 = .ok (.iload_n 1, 1) := by decide +kernel
theorem dX2_complexity_20 : decode cX2_complexity 20 = .ok (.istore_n 3, 1) := by decide +kernel
theorem dX2_complexity_21 : decode cX2_complexity 21 = .ok (.iload_n 3, 1) := by decide +kernel
theorem dX2_complexity_22 : decode cX2_complexity 22 = .ok (.iload_n 2, 1) := by decide +kernel
theorem dX2_complexity_23 : decode cX2_complexity 23 = .ok (.if_icmp .ge 23, 3) := by decide +kernel
theorem dX2_complexity_26 : decode cX2_complexity 26 = .ok (.aload_n 0, 1) := by decide +kernel
theorem dX2_complexity_27 : decode cX2_complexity 27 = .ok (.getfield 13, 3) := by decide +kernel
theorem dX2_complexity_30 : decode cX2_complexity 30 = .ok (.iload_n 3, 1) := by decide +kernel
theorem dX2_complexity_31 : decode cX2_complexity 31 = .ok (.iload_n 1, 1) := by decide +kernel
theorem dX2_complexity_32 : decode cX2_complexity 32 = .ok (.isub, 1) := by decide +kernel
theorem dX2_complexity_33 : decode cX2_complexity 33 = .ok (.aload_n 0, 1) := by decide +kernel
theorem dX2_complexity_34 : decode cX2_complexity 34 = .ok (.getfield 7, 3) := by decide +kernel
theorem dX2_complexity_37 : decode cX2_complexity 37 = .ok (.iload_n 3, 1) := by decide +kernel
theorem dX2_complexity_38 : decode cX2_complexity 38 = .ok (.iaload, 1) := by decide +kernel
theorem dX2_complexity_39 : decode cX2_complexity 39 = .ok (.iastore, 1) := by decide +kernel
theorem dX2_complexity_40 : decode cX2_complexity 40 = .ok (.iinc 3 1, 3) := by decide +kernel
theorem dX2_complexity_43 : decode cX2_complexity 43 = .ok (.goto (-22), 3) := by decide +kernel
theorem dX2_complexity_46 : decode cX2_complexity 46 = .ok (.aload_n 0, 1) := by decide +kernel
theorem dX2_complexity_47 : decode cX2_complexity 47 = .ok (.iload_n 2, 1) := by decide +kernel
theorem dX2_complexity_48 : decode cX2_complexity 48 = .ok (.iload_n 1, 1) := by decide +kernel
theorem dX2_complexity_49 : decode cX2_complexity 49 = .ok (.isub, 1) := by decide +kernel
theorem dX2_complexity_50 : decode cX2_complexity 50 = .ok (.invokevirtual 51, 3) := by decide +kernel
theorem dX2_complexity_53 : decode cX2_complexity 53 = .ok (.ireturn, 1) := by decide +kernel
abbrev cX2_least : ByteArray := prog_3_method_15_code
def yX2_least : MethodName := ⟨RX2, "least", "(I)I"⟩
theorem dX2_least_0 : decode cX2_least 0 = .ok (.iconst 0, 1) := by decide +kernel
theorem dX2_least_1 : decode cX2_least 1 = .ok (.istore_n 2, 1) := by decide +kernel
theorem dX2_least_2 : decode cX2_least 2 = .ok (.iload_n 2, 1) := by decide +kernel
theorem dX2_least_3 : decode cX2_least 3 = .ok (.iload_n 1, 1) := by decide +kernel
theorem dX2_least_4 : decode cX2_least 4 = .ok (.if_icmp .ge 48, 3) := by decide +kernel
theorem dX2_least_7 : decode cX2_least 7 = .ok (.aload_n 0, 1) := by decide +kernel
theorem dX2_least_8 : decode cX2_least 8 = .ok (.iload_n 2, 1) := by decide +kernel
theorem dX2_least_9 : decode cX2_least 9 = .ok (.invokevirtual 40, 3) := by decide +kernel
theorem dX2_least_12 : decode cX2_least 12 = .ok (.istore_n 3, 1) := by decide +kernel
theorem dX2_least_13 : decode cX2_least 13 = .ok (.iconst 0, 1) := by decide +kernel
theorem dX2_least_14 : decode cX2_least 14 = .ok (.istore 4, 2) := by decide +kernel
theorem dX2_least_16 : decode cX2_least 16 = .ok (.iload 4, 2) := by decide +kernel
theorem dX2_least_18 : decode cX2_least 18 = .ok (.iload_n 3, 1) := by decide +kernel
theorem dX2_least_19 : decode cX2_least 19 = .ok (.if_icmp .ge 27, 3) := by decide +kernel
theorem dX2_least_22 : decode cX2_least 22 = .ok (.aload_n 0, 1) := by decide +kernel
theorem dX2_least_23 : decode cX2_least 23 = .ok (.iload 4, 2) := by decide +kernel
theorem dX2_least_25 : decode cX2_least 25 = .ok (.iload_n 2, 1) := by decide +kernel
theorem dX2_least_26 : decode cX2_least 26 = .ok (.invokevirtual 43, 3) := by decide +kernel
theorem dX2_least_29 : decode cX2_least 29 = .ok (.aload_n 0, 1) := by decide +kernel
theorem dX2_least_30 : decode cX2_least 30 = .ok (.iload_n 2, 1) := by decide +kernel
theorem dX2_least_31 : decode cX2_least 31 = .ok (.iload_n 1, 1) := by decide +kernel
theorem dX2_least_32 : decode cX2_least 32 = .ok (.invokevirtual 47, 3) := by decide +kernel
theorem dX2_least_35 : decode cX2_least 35 = .ok (.ifCond .eq 5, 3) := by decide +kernel
theorem dX2_least_38 : decode cX2_least 38 = .ok (.iload_n 2, 1) := by decide +kernel
theorem dX2_least_39 : decode cX2_least 39 = .ok (.ireturn, 1) := by decide +kernel
theorem dX2_least_40 : decode cX2_least 40 = .ok (.iinc 4 1, 3) := by decide +kernel
theorem dX2_least_43 : decode cX2_least 43 = .ok (.goto (-27), 3) := by decide +kernel
theorem dX2_least_46 : decode cX2_least 46 = .ok (.iinc 2 1, 3) := by decide +kernel
theorem dX2_least_49 : decode cX2_least 49 = .ok (.goto (-47), 3) := by decide +kernel
theorem dX2_least_52 : decode cX2_least 52 = .ok (.aload_n 0, 1) := by decide +kernel
theorem dX2_least_53 : decode cX2_least 53 = .ok (.iconst 0, 1) := by decide +kernel
theorem dX2_least_54 : decode cX2_least 54 = .ok (.iload_n 1, 1) := by decide +kernel
theorem dX2_least_55 : decode cX2_least 55 = .ok (.invokevirtual 43, 3) := by decide +kernel
theorem dX2_least_58 : decode cX2_least 58 = .ok (.iload_n 1, 1) := by decide +kernel
theorem dX2_least_59 : decode cX2_least 59 = .ok (.ireturn, 1) := by decide +kernel
abbrev cX2_power : ByteArray := prog_3_method_11_code
def yX2_power : MethodName := ⟨RX2, "power", "(I)I"⟩
theorem dX2_power_0 : decode cX2_power 0 = .ok (.iconst 1, 1) := by decide +kernel
theorem dX2_power_1 : decode cX2_power 1 = .ok (.istore_n 2, 1) := by decide +kernel
theorem dX2_power_2 : decode cX2_power 2 = .ok (.iconst 0, 1) := by decide +kernel
theorem dX2_power_3 : decode cX2_power 3 = .ok (.istore_n 3, 1) := by decide +kernel
theorem dX2_power_4 : decode cX2_power 4 = .ok (.iload_n 3, 1) := by decide +kernel
theorem dX2_power_5 : decode cX2_power 5 = .ok (.iload_n 1, 1) := by decide +kernel
theorem dX2_power_6 : decode cX2_power 6 = .ok (.if_icmp .ge 16, 3) := by decide +kernel
theorem dX2_power_9 : decode cX2_power 9 = .ok (.iload_n 2, 1) := by decide +kernel
theorem dX2_power_10 : decode cX2_power 10 = .ok (.aload_n 0, 1) := by decide +kernel
theorem dX2_power_11 : decode cX2_power 11 = .ok (.getfield 19, 3) := by decide +kernel
theorem dX2_power_14 : decode cX2_power 14 = .ok (.imul, 1) := by decide +kernel
theorem dX2_power_15 : decode cX2_power 15 = .ok (.istore_n 2, 1) := by decide +kernel
theorem dX2_power_16 : decode cX2_power 16 = .ok (.iinc 3 1, 3) := by decide +kernel
theorem dX2_power_19 : decode cX2_power 19 = .ok (.goto (-15), 3) := by decide +kernel
theorem dX2_power_22 : decode cX2_power 22 = .ok (.iload_n 2, 1) := by decide +kernel
theorem dX2_power_23 : decode cX2_power 23 = .ok (.ireturn, 1) := by decide +kernel
abbrev cX2_spell : ByteArray := prog_3_method_12_code
def yX2_spell : MethodName := ⟨RX2, "spell", "(II)V"⟩
theorem dX2_spell_0 : decode cX2_spell 0 = .ok (.iload_n 1, 1) := by decide +kernel
theorem dX2_spell_1 : decode cX2_spell 1 = .ok (.istore_n 3, 1) := by decide +kernel
theorem dX2_spell_2 : decode cX2_spell 2 = .ok (.iload_n 2, 1) := by decide +kernel
theorem dX2_spell_3 : decode cX2_spell 3 = .ok (.istore 4, 2) := by decide +kernel
theorem dX2_spell_5 : decode cX2_spell 5 = .ok (.iload 4, 2) := by decide +kernel
theorem dX2_spell_7 : decode cX2_spell 7 = .ok (.iconst 1, 1) := by decide +kernel
theorem dX2_spell_8 : decode cX2_spell 8 = .ok (.if_icmp .lt 27, 3) := by decide +kernel
theorem dX2_spell_11 : decode cX2_spell 11 = .ok (.aload_n 0, 1) := by decide +kernel
theorem dX2_spell_12 : decode cX2_spell 12 = .ok (.getfield 16, 3) := by decide +kernel
theorem dX2_spell_15 : decode cX2_spell 15 = .ok (.iload 4, 2) := by decide +kernel
theorem dX2_spell_17 : decode cX2_spell 17 = .ok (.aload_n 0, 1) := by decide +kernel
theorem dX2_spell_18 : decode cX2_spell 18 = .ok (.iload_n 3, 1) := by decide +kernel
theorem dX2_spell_19 : decode cX2_spell 19 = .ok (.invokevirtual 29, 3) := by decide +kernel
theorem dX2_spell_22 : decode cX2_spell 22 = .ok (.iastore, 1) := by decide +kernel
theorem dX2_spell_23 : decode cX2_spell 23 = .ok (.aload_n 0, 1) := by decide +kernel
theorem dX2_spell_24 : decode cX2_spell 24 = .ok (.iload_n 3, 1) := by decide +kernel
theorem dX2_spell_25 : decode cX2_spell 25 = .ok (.invokevirtual 33, 3) := by decide +kernel
theorem dX2_spell_28 : decode cX2_spell 28 = .ok (.istore_n 3, 1) := by decide +kernel
theorem dX2_spell_29 : decode cX2_spell 29 = .ok (.iinc 4 (-1), 3) := by decide +kernel
theorem dX2_spell_32 : decode cX2_spell 32 = .ok (.goto (-27), 3) := by decide +kernel
theorem dX2_spell_35 : decode cX2_spell 35 = .ok (.return_, 1) := by decide +kernel
abbrev cX2_rest : ByteArray := prog_3_method_9_code
def yX2_rest : MethodName := ⟨RX2, "rest", "(I)I"⟩
theorem dX2_rest_0 : decode cX2_rest 0 = .ok (.aload_n 0, 1) := by decide +kernel
theorem dX2_rest_1 : decode cX2_rest 1 = .ok (.getfield 19, 3) := by decide +kernel
theorem dX2_rest_4 : decode cX2_rest 4 = .ok (.iconst 2, 1) := by decide +kernel
theorem dX2_rest_5 : decode cX2_rest 5 = .ok (.if_icmp .ne 9, 3) := by decide +kernel
theorem dX2_rest_8 : decode cX2_rest 8 = .ok (.iload_n 1, 1) := by decide +kernel
theorem dX2_rest_9 : decode cX2_rest 9 = .ok (.iconst 2, 1) := by decide +kernel
theorem dX2_rest_10 : decode cX2_rest 10 = .ok (.irem, 1) := by decide +kernel
theorem dX2_rest_11 : decode cX2_rest 11 = .ok (.goto 20, 3) := by decide +kernel
theorem dX2_rest_14 : decode cX2_rest 14 = .ok (.aload_n 0, 1) := by decide +kernel
theorem dX2_rest_15 : decode cX2_rest 15 = .ok (.getfield 19, 3) := by decide +kernel
theorem dX2_rest_18 : decode cX2_rest 18 = .ok (.iconst 3, 1) := by decide +kernel
theorem dX2_rest_19 : decode cX2_rest 19 = .ok (.if_icmp .ne 9, 3) := by decide +kernel
theorem dX2_rest_22 : decode cX2_rest 22 = .ok (.iload_n 1, 1) := by decide +kernel
theorem dX2_rest_23 : decode cX2_rest 23 = .ok (.iconst 3, 1) := by decide +kernel
theorem dX2_rest_24 : decode cX2_rest 24 = .ok (.irem, 1) := by decide +kernel
theorem dX2_rest_25 : decode cX2_rest 25 = .ok (.goto 6, 3) := by decide +kernel
theorem dX2_rest_28 : decode cX2_rest 28 = .ok (.iload_n 1, 1) := by decide +kernel
theorem dX2_rest_29 : decode cX2_rest 29 = .ok (.iconst 5, 1) := by decide +kernel
theorem dX2_rest_30 : decode cX2_rest 30 = .ok (.irem, 1) := by decide +kernel
theorem dX2_rest_31 : decode cX2_rest 31 = .ok (.ireturn, 1) := by decide +kernel
abbrev cX2_part : ByteArray := prog_3_method_10_code
def yX2_part : MethodName := ⟨RX2, "part", "(I)I"⟩
theorem dX2_part_0 : decode cX2_part 0 = .ok (.aload_n 0, 1) := by decide +kernel
theorem dX2_part_1 : decode cX2_part 1 = .ok (.getfield 19, 3) := by decide +kernel
theorem dX2_part_4 : decode cX2_part 4 = .ok (.iconst 2, 1) := by decide +kernel
theorem dX2_part_5 : decode cX2_part 5 = .ok (.if_icmp .ne 9, 3) := by decide +kernel
theorem dX2_part_8 : decode cX2_part 8 = .ok (.iload_n 1, 1) := by decide +kernel
theorem dX2_part_9 : decode cX2_part 9 = .ok (.iconst 2, 1) := by decide +kernel
theorem dX2_part_10 : decode cX2_part 10 = .ok (.idiv, 1) := by decide +kernel
theorem dX2_part_11 : decode cX2_part 11 = .ok (.goto 20, 3) := by decide +kernel
theorem dX2_part_14 : decode cX2_part 14 = .ok (.aload_n 0, 1) := by decide +kernel
theorem dX2_part_15 : decode cX2_part 15 = .ok (.getfield 19, 3) := by decide +kernel
theorem dX2_part_18 : decode cX2_part 18 = .ok (.iconst 3, 1) := by decide +kernel
theorem dX2_part_19 : decode cX2_part 19 = .ok (.if_icmp .ne 9, 3) := by decide +kernel
theorem dX2_part_22 : decode cX2_part 22 = .ok (.iload_n 1, 1) := by decide +kernel
theorem dX2_part_23 : decode cX2_part 23 = .ok (.iconst 3, 1) := by decide +kernel
theorem dX2_part_24 : decode cX2_part 24 = .ok (.idiv, 1) := by decide +kernel
theorem dX2_part_25 : decode cX2_part 25 = .ok (.goto 6, 3) := by decide +kernel
theorem dX2_part_28 : decode cX2_part 28 = .ok (.iload_n 1, 1) := by decide +kernel
theorem dX2_part_29 : decode cX2_part 29 = .ok (.iconst 5, 1) := by decide +kernel
theorem dX2_part_30 : decode cX2_part 30 = .ok (.idiv, 1) := by decide +kernel
theorem dX2_part_31 : decode cX2_part 31 = .ok (.ireturn, 1) := by decide +kernel
abbrev cX2_generates : ByteArray := prog_3_method_14_code
def yX2_generates : MethodName := ⟨RX2, "generates", "(II)Z"⟩
theorem dX2_generates_0 : decode cX2_generates 0 = .ok (.iload_n 1, 1) := by decide +kernel
theorem dX2_generates_1 : decode cX2_generates 1 = .ok (.istore_n 3, 1) := by decide +kernel
theorem dX2_generates_2 : decode cX2_generates 2 = .ok (.iload_n 3, 1) := by decide +kernel
theorem dX2_generates_3 : decode cX2_generates 3 = .ok (.iload_n 2, 1) := by decide +kernel
theorem dX2_generates_4 : decode cX2_generates 4 = .ok (.if_icmp .ge 26, 3) := by decide +kernel
theorem dX2_generates_7 : decode cX2_generates 7 = .ok (.aload_n 0, 1) := by decide +kernel
theorem dX2_generates_8 : decode cX2_generates 8 = .ok (.iload_n 3, 1) := by decide +kernel
theorem dX2_generates_9 : decode cX2_generates 9 = .ok (.iload_n 1, 1) := by decide +kernel
theorem dX2_generates_10 : decode cX2_generates 10 = .ok (.invokevirtual 36, 3) := by decide +kernel
theorem dX2_generates_13 : decode cX2_generates 13 = .ok (.aload_n 0, 1) := by decide +kernel
theorem dX2_generates_14 : decode cX2_generates 14 = .ok (.getfield 13, 3) := by decide +kernel
theorem dX2_generates_17 : decode cX2_generates 17 = .ok (.iload_n 3, 1) := by decide +kernel
theorem dX2_generates_18 : decode cX2_generates 18 = .ok (.iaload, 1) := by decide +kernel
theorem dX2_generates_19 : decode cX2_generates 19 = .ok (.if_icmp .eq 5, 3) := by decide +kernel
theorem dX2_generates_22 : decode cX2_generates 22 = .ok (.iconst 0, 1) := by decide +kernel
theorem dX2_generates_23 : decode cX2_generates 23 = .ok (.ireturn, 1) := by decide +kernel
theorem dX2_generates_24 : decode cX2_generates 24 = .ok (.iinc 3 1, 3) := by decide +kernel
theorem dX2_generates_27 : decode cX2_generates 27 = .ok (.goto (-25), 3) := by decide +kernel
theorem dX2_generates_30 : decode cX2_generates 30 = .ok (.iconst 1, 1) := by decide +kernel
theorem dX2_generates_31 : decode cX2_generates 31 = .ok (.ireturn, 1) := by decide +kernel
abbrev cX2_sum : ByteArray := prog_3_method_13_code
def yX2_sum : MethodName := ⟨RX2, "sum", "(II)I"⟩
theorem dX2_sum_0 : decode cX2_sum 0 = .ok (.iconst 0, 1) := by decide +kernel
theorem dX2_sum_1 : decode cX2_sum 1 = .ok (.istore_n 3, 1) := by decide +kernel
theorem dX2_sum_2 : decode cX2_sum 2 = .ok (.iconst 1, 1) := by decide +kernel
theorem dX2_sum_3 : decode cX2_sum 3 = .ok (.istore 4, 2) := by decide +kernel
theorem dX2_sum_5 : decode cX2_sum 5 = .ok (.iload 4, 2) := by decide +kernel
theorem dX2_sum_7 : decode cX2_sum 7 = .ok (.iload_n 2, 1) := by decide +kernel
theorem dX2_sum_8 : decode cX2_sum 8 = .ok (.if_icmp .gt 29, 3) := by decide +kernel
theorem dX2_sum_11 : decode cX2_sum 11 = .ok (.iload_n 3, 1) := by decide +kernel
theorem dX2_sum_12 : decode cX2_sum 12 = .ok (.aload_n 0, 1) := by decide +kernel
theorem dX2_sum_13 : decode cX2_sum 13 = .ok (.getfield 16, 3) := by decide +kernel
theorem dX2_sum_16 : decode cX2_sum 16 = .ok (.iload 4, 2) := by decide +kernel
theorem dX2_sum_18 : decode cX2_sum 18 = .ok (.iaload, 1) := by decide +kernel
theorem dX2_sum_19 : decode cX2_sum 19 = .ok (.aload_n 0, 1) := by decide +kernel
theorem dX2_sum_20 : decode cX2_sum 20 = .ok (.getfield 13, 3) := by decide +kernel
theorem dX2_sum_23 : decode cX2_sum 23 = .ok (.iload_n 1, 1) := by decide +kernel
theorem dX2_sum_24 : decode cX2_sum 24 = .ok (.iload 4, 2) := by decide +kernel
theorem dX2_sum_26 : decode cX2_sum 26 = .ok (.isub, 1) := by decide +kernel
theorem dX2_sum_27 : decode cX2_sum 27 = .ok (.iaload, 1) := by decide +kernel
theorem dX2_sum_28 : decode cX2_sum 28 = .ok (.imul, 1) := by decide +kernel
theorem dX2_sum_29 : decode cX2_sum 29 = .ok (.iadd, 1) := by decide +kernel
theorem dX2_sum_30 : decode cX2_sum 30 = .ok (.istore_n 3, 1) := by decide +kernel
theorem dX2_sum_31 : decode cX2_sum 31 = .ok (.iinc 4 1, 3) := by decide +kernel
theorem dX2_sum_34 : decode cX2_sum 34 = .ok (.goto (-29), 3) := by decide +kernel
theorem dX2_sum_37 : decode cX2_sum 37 = .ok (.aload_n 0, 1) := by decide +kernel
theorem dX2_sum_38 : decode cX2_sum 38 = .ok (.iload_n 3, 1) := by decide +kernel
theorem dX2_sum_39 : decode cX2_sum 39 = .ok (.invokevirtual 29, 3) := by decide +kernel
theorem dX2_sum_42 : decode cX2_sum 42 = .ok (.ireturn, 1) := by decide +kernel
abbrev cX2_registers : ByteArray := prog_3_method_18_code
def yX2_registers : MethodName := ⟨RX2, "registers", "()I"⟩
theorem dX2_registers_0 : decode cX2_registers 0 = .ok (.aload_n 0, 1) := by decide +kernel
theorem dX2_registers_1 : decode cX2_registers 1 = .ok (.invokevirtual 54, 3) := by decide +kernel
theorem dX2_registers_4 : decode cX2_registers 4 = .ok (.aload_n 0, 1) := by decide +kernel
theorem dX2_registers_5 : decode cX2_registers 5 = .ok (.aload_n 0, 1) := by decide +kernel
theorem dX2_registers_6 : decode cX2_registers 6 = .ok (.getfield 26, 3) := by decide +kernel
theorem dX2_registers_9 : decode cX2_registers 9 = .ok (.invokevirtual 51, 3) := by decide +kernel
theorem dX2_registers_12 : decode cX2_registers 12 = .ok (.istore_n 1, 1) := by decide +kernel
theorem dX2_registers_13 : decode cX2_registers 13 = .ok (.aload_n 0, 1) := by decide +kernel
theorem dX2_registers_14 : decode cX2_registers 14 = .ok (.iload_n 1, 1) := by decide +kernel
theorem dX2_registers_15 : decode cX2_registers 15 = .ok (.invokevirtual 40, 3) := by decide +kernel
theorem dX2_registers_18 : decode cX2_registers 18 = .ok (.istore_n 2, 1) := by decide +kernel
theorem dX2_registers_19 : decode cX2_registers 19 = .ok (.iconst 0, 1) := by decide +kernel
theorem dX2_registers_20 : decode cX2_registers 20 = .ok (.istore_n 3, 1) := by decide +kernel
theorem dX2_registers_21 : decode cX2_registers 21 = .ok (.iconst 0, 1) := by decide +kernel
theorem dX2_registers_22 : decode cX2_registers 22 = .ok (.istore 4, 2) := by decide +kernel
theorem dX2_registers_24 : decode cX2_registers 24 = .ok (.iload 4, 2) := by decide +kernel
theorem dX2_registers_26 : decode cX2_registers 26 = .ok (.iload_n 2, 1) := by decide +kernel
theorem dX2_registers_27 : decode cX2_registers 27 = .ok (.if_icmp .ge 36, 3) := by decide +kernel
theorem dX2_registers_30 : decode cX2_registers 30 = .ok (.aload_n 0, 1) := by decide +kernel
theorem dX2_registers_31 : decode cX2_registers 31 = .ok (.iload 4, 2) := by decide +kernel
theorem dX2_registers_33 : decode cX2_registers 33 = .ok (.iload_n 1, 1) := by decide +kernel
theorem dX2_registers_34 : decode cX2_registers 34 = .ok (.invokevirtual 43, 3) := by decide +kernel
theorem dX2_registers_37 : decode cX2_registers 37 = .ok (.iload_n 3, 1) := by decide +kernel
theorem dX2_registers_38 : decode cX2_registers 38 = .ok (.aload_n 0, 1) := by decide +kernel
theorem dX2_registers_39 : decode cX2_registers 39 = .ok (.iload_n 1, 1) := by decide +kernel
theorem dX2_registers_40 : decode cX2_registers 40 = .ok (.aload_n 0, 1) := by decide +kernel
theorem dX2_registers_41 : decode cX2_registers 41 = .ok (.getfield 26, 3) := by decide +kernel
theorem dX2_registers_44 : decode cX2_registers 44 = .ok (.invokevirtual 47, 3) := by decide +kernel
theorem dX2_registers_47 : decode cX2_registers 47 = .ok (.ifCond .eq 7, 3) := by decide +kernel
theorem dX2_registers_50 : decode cX2_registers 50 = .ok (.iconst 1, 1) := by decide +kernel
theorem dX2_registers_51 : decode cX2_registers 51 = .ok (.goto 4, 3) := by decide +kernel
theorem dX2_registers_54 : decode cX2_registers 54 = .ok (.iconst 0, 1) := by decide +kernel
theorem dX2_registers_55 : decode cX2_registers 55 = .ok (.iadd, 1) := by decide +kernel
theorem dX2_registers_56 : decode cX2_registers 56 = .ok (.istore_n 3, 1) := by decide +kernel
theorem dX2_registers_57 : decode cX2_registers 57 = .ok (.iinc 4 1, 3) := by decide +kernel
theorem dX2_registers_60 : decode cX2_registers 60 = .ok (.goto (-36), 3) := by decide +kernel
theorem dX2_registers_63 : decode cX2_registers 63 = .ok (.iload_n 3, 1) := by decide +kernel
theorem dX2_registers_64 : decode cX2_registers 64 = .ok (.ireturn, 1) := by decide +kernel
abbrev cX2_whole : ByteArray := prog_3_method_16_code
def yX2_whole : MethodName := ⟨RX2, "whole", "()V"⟩
theorem dX2_whole_0 : decode cX2_whole 0 = .ok (.iconst 0, 1) := by decide +kernel
theorem dX2_whole_1 : decode cX2_whole 1 = .ok (.istore_n 1, 1) := by decide +kernel
theorem dX2_whole_2 : decode cX2_whole 2 = .ok (.iload_n 1, 1) := by decide +kernel
theorem dX2_whole_3 : decode cX2_whole 3 = .ok (.aload_n 0, 1) := by decide +kernel
theorem dX2_whole_4 : decode cX2_whole 4 = .ok (.getfield 26, 3) := by decide +kernel
theorem dX2_whole_7 : decode cX2_whole 7 = .ok (.if_icmp .ge 21, 3) := by decide +kernel
theorem dX2_whole_10 : decode cX2_whole 10 = .ok (.aload_n 0, 1) := by decide +kernel
theorem dX2_whole_11 : decode cX2_whole 11 = .ok (.getfield 13, 3) := by decide +kernel
theorem dX2_whole_14 : decode cX2_whole 14 = .ok (.iload_n 1, 1) := by decide +kernel
theorem dX2_whole_15 : decode cX2_whole 15 = .ok (.aload_n 0, 1) := by decide +kernel
theorem dX2_whole_16 : decode cX2_whole 16 = .ok (.getfield 7, 3) := by decide +kernel
theorem dX2_whole_19 : decode cX2_whole 19 = .ok (.iload_n 1, 1) := by decide +kernel
theorem dX2_whole_20 : decode cX2_whole 20 = .ok (.iaload, 1) := by decide +kernel
theorem dX2_whole_21 : decode cX2_whole 21 = .ok (.iastore, 1) := by decide +kernel
theorem dX2_whole_22 : decode cX2_whole 22 = .ok (.iinc 1 1, 3) := by decide +kernel
theorem dX2_whole_25 : decode cX2_whole 25 = .ok (.goto (-23), 3) := by decide +kernel
theorem dX2_whole_28 : decode cX2_whole 28 = .ok (.return_, 1) := by decide +kernel
abbrev cX2_coefficient : ByteArray := prog_3_method_19_code
def yX2_coefficient : MethodName := ⟨RX2, "coefficient", "(I)I"⟩
theorem dX2_coefficient_0 : decode cX2_coefficient 0 = .ok (.aload_n 0, 1) := by decide +kernel
theorem dX2_coefficient_1 : decode cX2_coefficient 1 = .ok (.invokevirtual 54, 3) := by decide +kernel
theorem dX2_coefficient_4 : decode cX2_coefficient 4 = .ok (.aload_n 0, 1) := by decide +kernel
theorem dX2_coefficient_5 : decode cX2_coefficient 5 = .ok (.aload_n 0, 1) := by decide +kernel
theorem dX2_coefficient_6 : decode cX2_coefficient 6 = .ok (.getfield 26, 3) := by decide +kernel
theorem dX2_coefficient_9 : decode cX2_coefficient 9 = .ok (.invokevirtual 51, 3) := by decide +kernel
theorem dX2_coefficient_12 : decode cX2_coefficient 12 = .ok (.istore_n 2, 1) := by decide +kernel
theorem dX2_coefficient_13 : decode cX2_coefficient 13 = .ok (.iload_n 1, 1) := by decide +kernel
theorem dX2_coefficient_14 : decode cX2_coefficient 14 = .ok (.iconst 1, 1) := by decide +kernel
theorem dX2_coefficient_15 : decode cX2_coefficient 15 = .ok (.if_icmp .lt 8, 3) := by decide +kernel
theorem dX2_coefficient_18 : decode cX2_coefficient 18 = .ok (.iload_n 1, 1) := by decide +kernel
theorem dX2_coefficient_19 : decode cX2_coefficient 19 = .ok (.iload_n 2, 1) := by decide +kernel
theorem dX2_coefficient_20 : decode cX2_coefficient 20 = .ok (.if_icmp .le 7, 3) := by decide +kernel
theorem dX2_coefficient_23 : decode cX2_coefficient 23 = .ok (.iconst (-1), 1) := by decide +kernel
theorem dX2_coefficient_24 : decode cX2_coefficient 24 = .ok (.goto 9, 3) := by decide +kernel
theorem dX2_coefficient_27 : decode cX2_coefficient 27 = .ok (.aload_n 0, 1) := by decide +kernel
theorem dX2_coefficient_28 : decode cX2_coefficient 28 = .ok (.getfield 16, 3) := by decide +kernel
theorem dX2_coefficient_31 : decode cX2_coefficient 31 = .ok (.iload_n 1, 1) := by decide +kernel
theorem dX2_coefficient_32 : decode cX2_coefficient 32 = .ok (.iaload, 1) := by decide +kernel
theorem dX2_coefficient_33 : decode cX2_coefficient 33 = .ok (.ireturn, 1) := by decide +kernel
abbrev cX2_predict : ByteArray := prog_3_method_20_code
def yX2_predict : MethodName := ⟨RX2, "predict", "(I)I"⟩
theorem dX2_predict_0 : decode cX2_predict 0 = .ok (.iload_n 1, 1) := by decide +kernel
theorem dX2_predict_1 : decode cX2_predict 1 = .ok (.ifCond .lt 9, 3) := by decide +kernel
theorem dX2_predict_4 : decode cX2_predict 4 = .ok (.iload_n 1, 1) := by decide +kernel
theorem dX2_predict_5 : decode cX2_predict 5 = .ok (.bipush 40, 2) := by decide +kernel
theorem dX2_predict_7 : decode cX2_predict 7 = .ok (.if_icmp .le 5, 3) := by decide +kernel
theorem dX2_predict_10 : decode cX2_predict 10 = .ok (.iconst (-1), 1) := by decide +kernel
theorem dX2_predict_11 : decode cX2_predict 11 = .ok (.ireturn, 1) := by decide +kernel
theorem dX2_predict_12 : decode cX2_predict 12 = .ok (.aload_n 0, 1) := by decide +kernel
theorem dX2_predict_13 : decode cX2_predict 13 = .ok (.invokevirtual 54, 3) := by decide +kernel
theorem dX2_predict_16 : decode cX2_predict 16 = .ok (.aload_n 0, 1) := by decide +kernel
theorem dX2_predict_17 : decode cX2_predict 17 = .ok (.aload_n 0, 1) := by decide +kernel
theorem dX2_predict_18 : decode cX2_predict 18 = .ok (.getfield 26, 3) := by decide +kernel
theorem dX2_predict_21 : decode cX2_predict 21 = .ok (.invokevirtual 51, 3) := by decide +kernel
theorem dX2_predict_24 : decode cX2_predict 24 = .ok (.istore_n 2, 1) := by decide +kernel
theorem dX2_predict_25 : decode cX2_predict 25 = .ok (.aload_n 0, 1) := by decide +kernel
theorem dX2_predict_26 : decode cX2_predict 26 = .ok (.getfield 26, 3) := by decide +kernel
theorem dX2_predict_29 : decode cX2_predict 29 = .ok (.istore_n 3, 1) := by decide +kernel
theorem dX2_predict_30 : decode cX2_predict 30 = .ok (.iload_n 3, 1) := by decide +kernel
theorem dX2_predict_31 : decode cX2_predict 31 = .ok (.aload_n 0, 1) := by decide +kernel
theorem dX2_predict_32 : decode cX2_predict 32 = .ok (.getfield 26, 3) := by decide +kernel
theorem dX2_predict_35 : decode cX2_predict 35 = .ok (.iload_n 1, 1) := by decide +kernel
theorem dX2_predict_36 : decode cX2_predict 36 = .ok (.iadd, 1) := by decide +kernel
theorem dX2_predict_37 : decode cX2_predict 37 = .ok (.if_icmp .gt 21, 3) := by decide +kernel
theorem dX2_predict_40 : decode cX2_predict 40 = .ok (.aload_n 0, 1) := by decide +kernel
theorem dX2_predict_41 : decode cX2_predict 41 = .ok (.getfield 13, 3) := by decide +kernel
theorem dX2_predict_44 : decode cX2_predict 44 = .ok (.iload_n 3, 1) := by decide +kernel
theorem dX2_predict_45 : decode cX2_predict 45 = .ok (.aload_n 0, 1) := by decide +kernel
theorem dX2_predict_46 : decode cX2_predict 46 = .ok (.iload_n 3, 1) := by decide +kernel
theorem dX2_predict_47 : decode cX2_predict 47 = .ok (.iload_n 2, 1) := by decide +kernel
theorem dX2_predict_48 : decode cX2_predict 48 = .ok (.invokevirtual 36, 3) := by decide +kernel
theorem dX2_predict_51 : decode cX2_predict 51 = .ok (.iastore, 1) := by decide +kernel
theorem dX2_predict_52 : decode cX2_predict 52 = .ok (.iinc 3 1, 3) := by decide +kernel
theorem dX2_predict_55 : decode cX2_predict 55 = .ok (.goto (-25), 3) := by decide +kernel
theorem dX2_predict_58 : decode cX2_predict 58 = .ok (.aload_n 0, 1) := by decide +kernel
theorem dX2_predict_59 : decode cX2_predict 59 = .ok (.getfield 13, 3) := by decide +kernel
theorem dX2_predict_62 : decode cX2_predict 62 = .ok (.aload_n 0, 1) := by decide +kernel
theorem dX2_predict_63 : decode cX2_predict 63 = .ok (.getfield 26, 3) := by decide +kernel
theorem dX2_predict_66 : decode cX2_predict 66 = .ok (.iload_n 1, 1) := by decide +kernel
theorem dX2_predict_67 : decode cX2_predict 67 = .ok (.iadd, 1) := by decide +kernel
theorem dX2_predict_68 : decode cX2_predict 68 = .ok (.iaload, 1) := by decide +kernel
theorem dX2_predict_69 : decode cX2_predict 69 = .ok (.ireturn, 1) := by decide +kernel
abbrev cX2_complexityWith : ByteArray := prog_3_method_21_code
def yX2_complexityWith : MethodName := ⟨RX2, "complexityWith", "(I)I"⟩
theorem dX2_complexityWith_0 : decode cX2_complexityWith 0 = .ok (.iload_n 1, 1) := by decide +kernel
theorem dX2_complexityWith_1 : decode cX2_complexityWith 1 = .ok (.ifCond .lt 11, 3) := by decide +kernel
theorem dX2_complexityWith_4 : decode cX2_complexityWith 4 = .ok (.iload_n 1, 1) := by decide +kernel
theorem dX2_complexityWith_5 : decode cX2_complexityWith 5 = .ok (.aload_n 0, 1) := by decide +kernel
theorem dX2_complexityWith_6 : decode cX2_complexityWith 6 = .ok (.getfield 19, 3) := by decide +kernel
theorem dX2_complexityWith_9 : decode cX2_complexityWith 9 = .ok (.if_icmp .lt 5, 3) := by decide +kernel
theorem dX2_complexityWith_12 : decode cX2_complexityWith 12 = .ok (.iconst (-1), 1) := by decide +kernel
theorem dX2_complexityWith_13 : decode cX2_complexityWith 13 = .ok (.ireturn, 1) := by decide +kernel
theorem dX2_complexityWith_14 : decode cX2_complexityWith 14 = .ok (.aload_n 0, 1) := by decide +kernel
theorem dX2_complexityWith_15 : decode cX2_complexityWith 15 = .ok (.invokevirtual 54, 3) := by decide +kernel
theorem dX2_complexityWith_18 : decode cX2_complexityWith 18 = .ok (.aload_n 0, 1) := by decide +kernel
theorem dX2_complexityWith_19 : decode cX2_complexityWith 19 = .ok (.getfield 13, 3) := by decide +kernel
theorem dX2_complexityWith_22 : decode cX2_complexityWith 22 = .ok (.aload_n 0, 1) := by decide +kernel
theorem dX2_complexityWith_23 : decode cX2_complexityWith 23 = .ok (.getfield 26, 3) := by decide +kernel
theorem dX2_complexityWith_26 : decode cX2_complexityWith 26 = .ok (.iload_n 1, 1) := by decide +kernel
theorem dX2_complexityWith_27 : decode cX2_complexityWith 27 = .ok (.iastore, 1) := by decide +kernel
theorem dX2_complexityWith_28 : decode cX2_complexityWith 28 = .ok (.aload_n 0, 1) := by decide +kernel
theorem dX2_complexityWith_29 : decode cX2_complexityWith 29 = .ok (.aload_n 0, 1) := by decide +kernel
theorem dX2_complexityWith_30 : decode cX2_complexityWith 30 = .ok (.getfield 26, 3) := by decide +kernel
theorem dX2_complexityWith_33 : decode cX2_complexityWith 33 = .ok (.iconst 1, 1) := by decide +kernel
theorem dX2_complexityWith_34 : decode cX2_complexityWith 34 = .ok (.iadd, 1) := by decide +kernel
theorem dX2_complexityWith_35 : decode cX2_complexityWith 35 = .ok (.invokevirtual 51, 3) := by decide +kernel
theorem dX2_complexityWith_38 : decode cX2_complexityWith 38 = .ok (.ireturn, 1) := by decide +kernel
abbrev cX2_complexityBackwards : ByteArray := prog_3_method_22_code
def yX2_complexityBackwards : MethodName := ⟨RX2, "complexityBackwards", "()I"⟩
theorem dX2_complexityBackwards_0 : decode cX2_complexityBackwards 0 = .ok (.iconst 0, 1) := by decide +kernel
theorem dX2_complexityBackwards_1 : decode cX2_complexityBackwards 1 = .ok (.istore_n 1, 1) := by decide +kernel
theorem dX2_complexityBackwards_2 : decode cX2_complexityBackwards 2 = .ok (.iload_n 1, 1) := by decide +kernel
theorem dX2_complexityBackwards_3 : decode cX2_complexityBackwards 3 = .ok (.aload_n 0, 1) := by decide +kernel
theorem dX2_complexityBackwards_4 : decode cX2_complexityBackwards 4 = .ok (.getfield 26, 3) := by decide +kernel
theorem dX2_complexityBackwards_7 : decode cX2_complexityBackwards 7 = .ok (.if_icmp .ge 28, 3) := by decide +kernel
theorem dX2_complexityBackwards_10 : decode cX2_complexityBackwards 10 = .ok (.aload_n 0, 1) := by decide +kernel
theorem dX2_complexityBackwards_11 : decode cX2_complexityBackwards 11 = .ok (.getfield 13, 3) := by decide +kernel
theorem dX2_complexityBackwards_14 : decode cX2_complexityBackwards 14 = .ok (.iload_n 1, 1) := by decide +kernel
theorem dX2_complexityBackwards_15 : decode cX2_complexityBackwards 15 = .ok (.aload_n 0, 1) := by decide +kernel
theorem dX2_complexityBackwards_16 : decode cX2_complexityBackwards 16 = .ok (.getfield 7, 3) := by decide +kernel
theorem dX2_complexityBackwards_19 : decode cX2_complexityBackwards 19 = .ok (.aload_n 0, 1) := by decide +kernel
theorem dX2_complexityBackwards_20 : decode cX2_complexityBackwards 20 = .ok (.getfield 26, 3) := by decide +kernel
theorem dX2_complexityBackwards_23 : decode cX2_complexityBackwards 23 = .ok (.iconst 1, 1) := by decide +kernel
theorem dX2_complexityBackwards_24 : decode cX2_complexityBackwards 24 = .ok (.isub, 1) := by decide +kernel
theorem dX2_complexityBackwards_25 : decode cX2_complexityBackwards 25 = .ok (.iload_n 1, 1) := by decide +kernel
theorem dX2_complexityBackwards_26 : decode cX2_complexityBackwards 26 = .ok (.isub, 1) := by decide +kernel
theorem dX2_complexityBackwards_27 : decode cX2_complexityBackwards 27 = .ok (.iaload, 1) := by decide +kernel
theorem dX2_complexityBackwards_28 : decode cX2_complexityBackwards 28 = .ok (.iastore, 1) := by decide +kernel
theorem dX2_complexityBackwards_29 : decode cX2_complexityBackwards 29 = .ok (.iinc 1 1, 3) := by decide +kernel
theorem dX2_complexityBackwards_32 : decode cX2_complexityBackwards 32 = .ok (.goto (-30), 3) := by decide +kernel
theorem dX2_complexityBackwards_35 : decode cX2_complexityBackwards 35 = .ok (.aload_n 0, 1) := by decide +kernel
theorem dX2_complexityBackwards_36 : decode cX2_complexityBackwards 36 = .ok (.aload_n 0, 1) := by decide +kernel
theorem dX2_complexityBackwards_37 : decode cX2_complexityBackwards 37 = .ok (.getfield 26, 3) := by decide +kernel
theorem dX2_complexityBackwards_40 : decode cX2_complexityBackwards 40 = .ok (.invokevirtual 51, 3) := by decide +kernel
theorem dX2_complexityBackwards_43 : decode cX2_complexityBackwards 43 = .ok (.ireturn, 1) := by decide +kernel
abbrev cX2_holdsUntil : ByteArray := prog_3_method_23_code
def yX2_holdsUntil : MethodName := ⟨RX2, "holdsUntil", "(I)I"⟩
theorem dX2_holdsUntil_0 : decode cX2_holdsUntil 0 = .ok (.iload_n 1, 1) := by decide +kernel
theorem dX2_holdsUntil_1 : decode cX2_holdsUntil 1 = .ok (.ifCond .lt 11, 3) := by decide +kernel
theorem dX2_holdsUntil_4 : decode cX2_holdsUntil 4 = .ok (.iload_n 1, 1) := by decide +kernel
theorem dX2_holdsUntil_5 : decode cX2_holdsUntil 5 = .ok (.aload_n 0, 1) := by decide +kernel
theorem dX2_holdsUntil_6 : decode cX2_holdsUntil 6 = .ok (.getfield 26, 3) := by decide +kernel
theorem dX2_holdsUntil_9 : decode cX2_holdsUntil 9 = .ok (.if_icmp .le 5, 3) := by decide +kernel
theorem dX2_holdsUntil_12 : decode cX2_holdsUntil 12 = .ok (.iconst (-1), 1) := by decide +kernel
theorem dX2_holdsUntil_13 : decode cX2_holdsUntil 13 = .ok (.ireturn, 1) := by decide +kernel
theorem dX2_holdsUntil_14 : decode cX2_holdsUntil 14 = .ok (.aload_n 0, 1) := by decide +kernel
theorem dX2_holdsUntil_15 : decode cX2_holdsUntil 15 = .ok (.invokevirtual 54, 3) := by decide +kernel
theorem dX2_holdsUntil_18 : decode cX2_holdsUntil 18 = .ok (.aload_n 0, 1) := by decide +kernel
theorem dX2_holdsUntil_19 : decode cX2_holdsUntil 19 = .ok (.iload_n 1, 1) := by decide +kernel
theorem dX2_holdsUntil_20 : decode cX2_holdsUntil 20 = .ok (.invokevirtual 51, 3) := by decide +kernel
theorem dX2_holdsUntil_23 : decode cX2_holdsUntil 23 = .ok (.istore_n 2, 1) := by decide +kernel
theorem dX2_holdsUntil_24 : decode cX2_holdsUntil 24 = .ok (.iload_n 1, 1) := by decide +kernel
theorem dX2_holdsUntil_25 : decode cX2_holdsUntil 25 = .ok (.istore_n 3, 1) := by decide +kernel
theorem dX2_holdsUntil_26 : decode cX2_holdsUntil 26 = .ok (.iload_n 3, 1) := by decide +kernel
theorem dX2_holdsUntil_27 : decode cX2_holdsUntil 27 = .ok (.aload_n 0, 1) := by decide +kernel
theorem dX2_holdsUntil_28 : decode cX2_holdsUntil 28 = .ok (.getfield 26, 3) := by decide +kernel
theorem dX2_holdsUntil_31 : decode cX2_holdsUntil 31 = .ok (.if_icmp .ge 38, 3) := by decide +kernel
theorem dX2_holdsUntil_34 : decode cX2_holdsUntil 34 = .ok (.aload_n 0, 1) := by decide +kernel
theorem dX2_holdsUntil_35 : decode cX2_holdsUntil 35 = .ok (.getfield 13, 3) := by decide +kernel
theorem dX2_holdsUntil_38 : decode cX2_holdsUntil 38 = .ok (.iload_n 3, 1) := by decide +kernel
theorem dX2_holdsUntil_39 : decode cX2_holdsUntil 39 = .ok (.aload_n 0, 1) := by decide +kernel
theorem dX2_holdsUntil_40 : decode cX2_holdsUntil 40 = .ok (.iload_n 3, 1) := by decide +kernel
theorem dX2_holdsUntil_41 : decode cX2_holdsUntil 41 = .ok (.iload_n 2, 1) := by decide +kernel
theorem dX2_holdsUntil_42 : decode cX2_holdsUntil 42 = .ok (.invokevirtual 36, 3) := by decide +kernel
theorem dX2_holdsUntil_45 : decode cX2_holdsUntil 45 = .ok (.iastore, 1) := by decide +kernel
theorem dX2_holdsUntil_46 : decode cX2_holdsUntil 46 = .ok (.aload_n 0, 1) := by decide +kernel
theorem dX2_holdsUntil_47 : decode cX2_holdsUntil 47 = .ok (.getfield 13, 3) := by decide +kernel
theorem dX2_holdsUntil_50 : decode cX2_holdsUntil 50 = .ok (.iload_n 3, 1) := by decide +kernel
theorem dX2_holdsUntil_51 : decode cX2_holdsUntil 51 = .ok (.iaload, 1) := by decide +kernel
theorem dX2_holdsUntil_52 : decode cX2_holdsUntil 52 = .ok (.aload_n 0, 1) := by decide +kernel
theorem dX2_holdsUntil_53 : decode cX2_holdsUntil 53 = .ok (.getfield 7, 3) := by decide +kernel
theorem dX2_holdsUntil_56 : decode cX2_holdsUntil 56 = .ok (.iload_n 3, 1) := by decide +kernel
theorem dX2_holdsUntil_57 : decode cX2_holdsUntil 57 = .ok (.iaload, 1) := by decide +kernel
theorem dX2_holdsUntil_58 : decode cX2_holdsUntil 58 = .ok (.if_icmp .eq 5, 3) := by decide +kernel
theorem dX2_holdsUntil_61 : decode cX2_holdsUntil 61 = .ok (.iload_n 3, 1) := by decide +kernel
theorem dX2_holdsUntil_62 : decode cX2_holdsUntil 62 = .ok (.ireturn, 1) := by decide +kernel
theorem dX2_holdsUntil_63 : decode cX2_holdsUntil 63 = .ok (.iinc 3 1, 3) := by decide +kernel
theorem dX2_holdsUntil_66 : decode cX2_holdsUntil 66 = .ok (.goto (-40), 3) := by decide +kernel
theorem dX2_holdsUntil_69 : decode cX2_holdsUntil 69 = .ok (.aload_n 0, 1) := by decide +kernel
theorem dX2_holdsUntil_70 : decode cX2_holdsUntil 70 = .ok (.getfield 26, 3) := by decide +kernel
theorem dX2_holdsUntil_73 : decode cX2_holdsUntil 73 = .ok (.ireturn, 1) := by decide +kernel
theorem q27 : (Jvm.Cond.initialized "RegisterLabModel") ∈ lw_all := lw_g (lw_at lw_m1 2 rfl) rfl
theorem q214 : (Jvm.Cond.instantiable "RegisterLabModel" (6 : Nat)) ∈ lw_all := lw_g (lw_at lw_m1 189 rfl) rfl
theorem q216 : (Jvm.Cond.instanceMethod ({ cls := "RegisterLabModel", name := "<init>", desc := "(I)V" } : Jvm.MethodName)) ∈ lw_all := lw_g (lw_at lw_m1 191 rfl) rfl
theorem q217 : (Jvm.Cond.code ({ cls := "RegisterLabModel", name := "<init>", desc := "(I)V" } : Jvm.MethodName) prog_3_method_1_code (2 : Nat) (Option.none : Option Jvm.ClassFile.FieldType)) ∈ lw_all := lw_g (lw_at lw_m1 192 rfl) rfl
theorem q218 : (Jvm.Cond.methodLink "RegisterLabModel" (1 : Nat) ({ cls := "java/lang/Object", name := "<init>", desc := "()V" } : Jvm.MethodName)) ∈ lw_all := lw_g (lw_at lw_m1 193 rfl) rfl
theorem q219 : (Jvm.Cond.fieldLink "RegisterLabModel" (19 : Nat) "RegisterLabModel" "q" "I") ∈ lw_all := lw_g (lw_at lw_m1 194 rfl) rfl
theorem q220 : (Jvm.Cond.fieldLink "RegisterLabModel" (23 : Nat) "RegisterLabModel" "limit" "I") ∈ lw_all := lw_g (lw_at lw_m1 195 rfl) rfl
theorem q221 : (Jvm.Cond.fieldLink "RegisterLabModel" (26 : Nat) "RegisterLabModel" "n" "I") ∈ lw_all := lw_g (lw_at lw_m1 196 rfl) rfl
theorem q222 : (Jvm.Cond.fieldLink "RegisterLabModel" (7 : Nat) "RegisterLabModel" "s" "[I") ∈ lw_all := lw_g (lw_at lw_m1 197 rfl) rfl
theorem q223 : (Jvm.Cond.fieldLink "RegisterLabModel" (13 : Nat) "RegisterLabModel" "row" "[I") ∈ lw_all := lw_g (lw_at lw_m1 198 rfl) rfl
theorem q224 : (Jvm.Cond.fieldLink "RegisterLabModel" (16 : Nat) "RegisterLabModel" "c" "[I") ∈ lw_all := lw_g (lw_at lw_m1 199 rfl) rfl
theorem q225 : (Jvm.Cond.lays "RegisterLabModel" "RegisterLabModel" "q" "I") ∈ lw_all := lw_g (lw_at lw_m1 200 rfl) rfl
theorem q226 : (Jvm.Cond.soleField "RegisterLabModel" "q") ∈ lw_all := lw_g (lw_at lw_m1 201 rfl) rfl
theorem q227 : (Jvm.Cond.lays "RegisterLabModel" "RegisterLabModel" "limit" "I") ∈ lw_all := lw_g (lw_at lw_m1 202 rfl) rfl
theorem q228 : (Jvm.Cond.soleField "RegisterLabModel" "limit") ∈ lw_all := lw_g (lw_at lw_m1 203 rfl) rfl
theorem q229 : (Jvm.Cond.lays "RegisterLabModel" "RegisterLabModel" "n" "I") ∈ lw_all := lw_g (lw_at lw_m1 204 rfl) rfl
theorem q230 : (Jvm.Cond.soleField "RegisterLabModel" "n") ∈ lw_all := lw_g (lw_at lw_m1 205 rfl) rfl
theorem q231 : (Jvm.Cond.lays "RegisterLabModel" "RegisterLabModel" "s" "[I") ∈ lw_all := lw_g (lw_at lw_m1 206 rfl) rfl
theorem q232 : (Jvm.Cond.soleField "RegisterLabModel" "s") ∈ lw_all := lw_g (lw_at lw_m1 207 rfl) rfl
theorem q233 : (Jvm.Cond.lays "RegisterLabModel" "RegisterLabModel" "row" "[I") ∈ lw_all := lw_g (lw_at lw_m1 208 rfl) rfl
theorem q234 : (Jvm.Cond.soleField "RegisterLabModel" "row") ∈ lw_all := lw_g (lw_at lw_m1 209 rfl) rfl
theorem q235 : (Jvm.Cond.lays "RegisterLabModel" "RegisterLabModel" "c" "[I") ∈ lw_all := lw_g (lw_at lw_m1 210 rfl) rfl
theorem q236 : (Jvm.Cond.soleField "RegisterLabModel" "c") ∈ lw_all := lw_g (lw_at lw_m1 211 rfl) rfl
theorem q237 : (Jvm.Cond.superclass "RegisterLabModel" "java/lang/Object") ∈ lw_all := lw_g (lw_at lw_m1 212 rfl) rfl
theorem q240 : (Jvm.Cond.instanceMethod ({ cls := "RegisterLabModel", name := "modulus", desc := "()I" } : Jvm.MethodName)) ∈ lw_all := lw_g (lw_at lw_m1 215 rfl) rfl
theorem q241 : (Jvm.Cond.selects "RegisterLabModel" ({ cls := "RegisterLabModel", name := "modulus", desc := "()I" } : Jvm.MethodName) ({ cls := "RegisterLabModel", name := "modulus", desc := "()I" } : Jvm.MethodName)) ∈ lw_all := lw_g (lw_at lw_m1 216 rfl) rfl
theorem q242 : (Jvm.Cond.code ({ cls := "RegisterLabModel", name := "modulus", desc := "()I" } : Jvm.MethodName) prog_3_method_2_code (1 : Nat) (Option.some Jvm.ClassFile.FieldType.int)) ∈ lw_all := lw_g (lw_at lw_m1 217 rfl) rfl
theorem q244 : (Jvm.Cond.instanceMethod ({ cls := "RegisterLabModel", name := "append", desc := "(I)Z" } : Jvm.MethodName)) ∈ lw_all := lw_g (lw_at lw_m1 219 rfl) rfl
theorem q245 : (Jvm.Cond.selects "RegisterLabModel" ({ cls := "RegisterLabModel", name := "append", desc := "(I)Z" } : Jvm.MethodName) ({ cls := "RegisterLabModel", name := "append", desc := "(I)Z" } : Jvm.MethodName)) ∈ lw_all := lw_g (lw_at lw_m1 220 rfl) rfl
theorem q246 : (Jvm.Cond.code ({ cls := "RegisterLabModel", name := "append", desc := "(I)Z" } : Jvm.MethodName) prog_3_method_3_code (2 : Nat) (Option.some Jvm.ClassFile.FieldType.boolean)) ∈ lw_all := lw_g (lw_at lw_m1 221 rfl) rfl
theorem q248 : (Jvm.Cond.instanceMethod ({ cls := "RegisterLabModel", name := "drop", desc := "()I" } : Jvm.MethodName)) ∈ lw_all := lw_g (lw_at lw_m1 223 rfl) rfl
theorem q249 : (Jvm.Cond.selects "RegisterLabModel" ({ cls := "RegisterLabModel", name := "drop", desc := "()I" } : Jvm.MethodName) ({ cls := "RegisterLabModel", name := "drop", desc := "()I" } : Jvm.MethodName)) ∈ lw_all := lw_g (lw_at lw_m1 224 rfl) rfl
theorem q250 : (Jvm.Cond.code ({ cls := "RegisterLabModel", name := "drop", desc := "()I" } : Jvm.MethodName) prog_3_method_4_code (1 : Nat) (Option.some Jvm.ClassFile.FieldType.int)) ∈ lw_all := lw_g (lw_at lw_m1 225 rfl) rfl
theorem q252 : (Jvm.Cond.instanceMethod ({ cls := "RegisterLabModel", name := "change", desc := "(II)Z" } : Jvm.MethodName)) ∈ lw_all := lw_g (lw_at lw_m1 227 rfl) rfl
theorem q253 : (Jvm.Cond.selects "RegisterLabModel" ({ cls := "RegisterLabModel", name := "change", desc := "(II)Z" } : Jvm.MethodName) ({ cls := "RegisterLabModel", name := "change", desc := "(II)Z" } : Jvm.MethodName)) ∈ lw_all := lw_g (lw_at lw_m1 228 rfl) rfl
theorem q254 : (Jvm.Cond.code ({ cls := "RegisterLabModel", name := "change", desc := "(II)Z" } : Jvm.MethodName) prog_3_method_5_code (3 : Nat) (Option.some Jvm.ClassFile.FieldType.boolean)) ∈ lw_all := lw_g (lw_at lw_m1 229 rfl) rfl
theorem q256 : (Jvm.Cond.instanceMethod ({ cls := "RegisterLabModel", name := "clear", desc := "()V" } : Jvm.MethodName)) ∈ lw_all := lw_g (lw_at lw_m1 231 rfl) rfl
theorem q257 : (Jvm.Cond.selects "RegisterLabModel" ({ cls := "RegisterLabModel", name := "clear", desc := "()V" } : Jvm.MethodName) ({ cls := "RegisterLabModel", name := "clear", desc := "()V" } : Jvm.MethodName)) ∈ lw_all := lw_g (lw_at lw_m1 232 rfl) rfl
theorem q258 : (Jvm.Cond.code ({ cls := "RegisterLabModel", name := "clear", desc := "()V" } : Jvm.MethodName) prog_3_method_6_code (1 : Nat) (Option.none : Option Jvm.ClassFile.FieldType)) ∈ lw_all := lw_g (lw_at lw_m1 233 rfl) rfl
theorem q260 : (Jvm.Cond.instanceMethod ({ cls := "RegisterLabModel", name := "length", desc := "()I" } : Jvm.MethodName)) ∈ lw_all := lw_g (lw_at lw_m1 235 rfl) rfl
theorem q261 : (Jvm.Cond.selects "RegisterLabModel" ({ cls := "RegisterLabModel", name := "length", desc := "()I" } : Jvm.MethodName) ({ cls := "RegisterLabModel", name := "length", desc := "()I" } : Jvm.MethodName)) ∈ lw_all := lw_g (lw_at lw_m1 236 rfl) rfl
theorem q262 : (Jvm.Cond.code ({ cls := "RegisterLabModel", name := "length", desc := "()I" } : Jvm.MethodName) prog_3_method_7_code (1 : Nat) (Option.some Jvm.ClassFile.FieldType.int)) ∈ lw_all := lw_g (lw_at lw_m1 237 rfl) rfl
theorem q264 : (Jvm.Cond.instanceMethod ({ cls := "RegisterLabModel", name := "symbol", desc := "(I)I" } : Jvm.MethodName)) ∈ lw_all := lw_g (lw_at lw_m1 239 rfl) rfl
theorem q265 : (Jvm.Cond.selects "RegisterLabModel" ({ cls := "RegisterLabModel", name := "symbol", desc := "(I)I" } : Jvm.MethodName) ({ cls := "RegisterLabModel", name := "symbol", desc := "(I)I" } : Jvm.MethodName)) ∈ lw_all := lw_g (lw_at lw_m2 0 rfl) rfl
theorem q266 : (Jvm.Cond.code ({ cls := "RegisterLabModel", name := "symbol", desc := "(I)I" } : Jvm.MethodName) prog_3_method_8_code (2 : Nat) (Option.some Jvm.ClassFile.FieldType.int)) ∈ lw_all := lw_g (lw_at lw_m2 1 rfl) rfl
theorem q268 : (Jvm.Cond.instanceMethod ({ cls := "RegisterLabModel", name := "complexity", desc := "(II)I" } : Jvm.MethodName)) ∈ lw_all := lw_g (lw_at lw_m2 3 rfl) rfl
theorem q269 : (Jvm.Cond.selects "RegisterLabModel" ({ cls := "RegisterLabModel", name := "complexity", desc := "(II)I" } : Jvm.MethodName) ({ cls := "RegisterLabModel", name := "complexity", desc := "(II)I" } : Jvm.MethodName)) ∈ lw_all := lw_g (lw_at lw_m2 4 rfl) rfl
theorem q270 : (Jvm.Cond.code ({ cls := "RegisterLabModel", name := "complexity", desc := "(II)I" } : Jvm.MethodName) prog_3_method_17_code (4 : Nat) (Option.some Jvm.ClassFile.FieldType.int)) ∈ lw_all := lw_g (lw_at lw_m2 5 rfl) rfl
theorem q271 : (Jvm.Cond.methodLink "RegisterLabModel" (51 : Nat) ({ cls := "RegisterLabModel", name := "least", desc := "(I)I" } : Jvm.MethodName)) ∈ lw_all := lw_g (lw_at lw_m2 6 rfl) rfl
theorem q272 : (Jvm.Cond.privateMethod ({ cls := "RegisterLabModel", name := "least", desc := "(I)I" } : Jvm.MethodName)) ∈ lw_tbl := lw_at lw_m2 7 rfl
theorem q273 : (Jvm.Cond.instanceMethod ({ cls := "RegisterLabModel", name := "least", desc := "(I)I" } : Jvm.MethodName)) ∈ lw_all := lw_g (lw_at lw_m2 8 rfl) rfl
theorem q274 : (Jvm.Cond.code ({ cls := "RegisterLabModel", name := "least", desc := "(I)I" } : Jvm.MethodName) prog_3_method_15_code (5 : Nat) (Option.some Jvm.ClassFile.FieldType.int)) ∈ lw_all := lw_g (lw_at lw_m2 9 rfl) rfl
theorem q275 : (Jvm.Cond.methodLink "RegisterLabModel" (40 : Nat) ({ cls := "RegisterLabModel", name := "power", desc := "(I)I" } : Jvm.MethodName)) ∈ lw_all := lw_g (lw_at lw_m2 10 rfl) rfl
theorem q276 : (Jvm.Cond.privateMethod ({ cls := "RegisterLabModel", name := "power", desc := "(I)I" } : Jvm.MethodName)) ∈ lw_tbl := lw_at lw_m2 11 rfl
theorem q277 : (Jvm.Cond.instanceMethod ({ cls := "RegisterLabModel", name := "power", desc := "(I)I" } : Jvm.MethodName)) ∈ lw_all := lw_g (lw_at lw_m2 12 rfl) rfl
theorem q278 : (Jvm.Cond.code ({ cls := "RegisterLabModel", name := "power", desc := "(I)I" } : Jvm.MethodName) prog_3_method_11_code (4 : Nat) (Option.some Jvm.ClassFile.FieldType.int)) ∈ lw_all := lw_g (lw_at lw_m2 13 rfl) rfl
theorem q279 : (Jvm.Cond.methodLink "RegisterLabModel" (43 : Nat) ({ cls := "RegisterLabModel", name := "spell", desc := "(II)V" } : Jvm.MethodName)) ∈ lw_all := lw_g (lw_at lw_m2 14 rfl) rfl
theorem q280 : (Jvm.Cond.privateMethod ({ cls := "RegisterLabModel", name := "spell", desc := "(II)V" } : Jvm.MethodName)) ∈ lw_tbl := lw_at lw_m2 15 rfl
theorem q281 : (Jvm.Cond.instanceMethod ({ cls := "RegisterLabModel", name := "spell", desc := "(II)V" } : Jvm.MethodName)) ∈ lw_all := lw_g (lw_at lw_m2 16 rfl) rfl
theorem q282 : (Jvm.Cond.code ({ cls := "RegisterLabModel", name := "spell", desc := "(II)V" } : Jvm.MethodName) prog_3_method_12_code (5 : Nat) (Option.none : Option Jvm.ClassFile.FieldType)) ∈ lw_all := lw_g (lw_at lw_m2 17 rfl) rfl
theorem q283 : (Jvm.Cond.methodLink "RegisterLabModel" (29 : Nat) ({ cls := "RegisterLabModel", name := "rest", desc := "(I)I" } : Jvm.MethodName)) ∈ lw_all := lw_g (lw_at lw_m2 18 rfl) rfl
theorem q284 : (Jvm.Cond.privateMethod ({ cls := "RegisterLabModel", name := "rest", desc := "(I)I" } : Jvm.MethodName)) ∈ lw_tbl := lw_at lw_m2 19 rfl
theorem q285 : (Jvm.Cond.instanceMethod ({ cls := "RegisterLabModel", name := "rest", desc := "(I)I" } : Jvm.MethodName)) ∈ lw_all := lw_g (lw_at lw_m2 20 rfl) rfl
theorem q286 : (Jvm.Cond.code ({ cls := "RegisterLabModel", name := "rest", desc := "(I)I" } : Jvm.MethodName) prog_3_method_9_code (2 : Nat) (Option.some Jvm.ClassFile.FieldType.int)) ∈ lw_all := lw_g (lw_at lw_m2 21 rfl) rfl
theorem q287 : (Jvm.Cond.methodLink "RegisterLabModel" (33 : Nat) ({ cls := "RegisterLabModel", name := "part", desc := "(I)I" } : Jvm.MethodName)) ∈ lw_all := lw_g (lw_at lw_m2 22 rfl) rfl
theorem q288 : (Jvm.Cond.privateMethod ({ cls := "RegisterLabModel", name := "part", desc := "(I)I" } : Jvm.MethodName)) ∈ lw_tbl := lw_at lw_m2 23 rfl
theorem q289 : (Jvm.Cond.instanceMethod ({ cls := "RegisterLabModel", name := "part", desc := "(I)I" } : Jvm.MethodName)) ∈ lw_all := lw_g (lw_at lw_m2 24 rfl) rfl
theorem q290 : (Jvm.Cond.code ({ cls := "RegisterLabModel", name := "part", desc := "(I)I" } : Jvm.MethodName) prog_3_method_10_code (2 : Nat) (Option.some Jvm.ClassFile.FieldType.int)) ∈ lw_all := lw_g (lw_at lw_m2 25 rfl) rfl
theorem q291 : (Jvm.Cond.methodLink "RegisterLabModel" (47 : Nat) ({ cls := "RegisterLabModel", name := "generates", desc := "(II)Z" } : Jvm.MethodName)) ∈ lw_all := lw_g (lw_at lw_m2 26 rfl) rfl
theorem q292 : (Jvm.Cond.privateMethod ({ cls := "RegisterLabModel", name := "generates", desc := "(II)Z" } : Jvm.MethodName)) ∈ lw_tbl := lw_at lw_m2 27 rfl
theorem q293 : (Jvm.Cond.instanceMethod ({ cls := "RegisterLabModel", name := "generates", desc := "(II)Z" } : Jvm.MethodName)) ∈ lw_all := lw_g (lw_at lw_m2 28 rfl) rfl
theorem q294 : (Jvm.Cond.code ({ cls := "RegisterLabModel", name := "generates", desc := "(II)Z" } : Jvm.MethodName) prog_3_method_14_code (4 : Nat) (Option.some Jvm.ClassFile.FieldType.boolean)) ∈ lw_all := lw_g (lw_at lw_m2 29 rfl) rfl
theorem q295 : (Jvm.Cond.methodLink "RegisterLabModel" (36 : Nat) ({ cls := "RegisterLabModel", name := "sum", desc := "(II)I" } : Jvm.MethodName)) ∈ lw_all := lw_g (lw_at lw_m2 30 rfl) rfl
theorem q296 : (Jvm.Cond.privateMethod ({ cls := "RegisterLabModel", name := "sum", desc := "(II)I" } : Jvm.MethodName)) ∈ lw_tbl := lw_at lw_m2 31 rfl
theorem q297 : (Jvm.Cond.instanceMethod ({ cls := "RegisterLabModel", name := "sum", desc := "(II)I" } : Jvm.MethodName)) ∈ lw_all := lw_g (lw_at lw_m2 32 rfl) rfl
theorem q298 : (Jvm.Cond.code ({ cls := "RegisterLabModel", name := "sum", desc := "(II)I" } : Jvm.MethodName) prog_3_method_13_code (5 : Nat) (Option.some Jvm.ClassFile.FieldType.int)) ∈ lw_all := lw_g (lw_at lw_m2 33 rfl) rfl
theorem q300 : (Jvm.Cond.instanceMethod ({ cls := "RegisterLabModel", name := "registers", desc := "()I" } : Jvm.MethodName)) ∈ lw_all := lw_g (lw_at lw_m2 35 rfl) rfl
theorem q301 : (Jvm.Cond.selects "RegisterLabModel" ({ cls := "RegisterLabModel", name := "registers", desc := "()I" } : Jvm.MethodName) ({ cls := "RegisterLabModel", name := "registers", desc := "()I" } : Jvm.MethodName)) ∈ lw_all := lw_g (lw_at lw_m2 36 rfl) rfl
theorem q302 : (Jvm.Cond.code ({ cls := "RegisterLabModel", name := "registers", desc := "()I" } : Jvm.MethodName) prog_3_method_18_code (5 : Nat) (Option.some Jvm.ClassFile.FieldType.int)) ∈ lw_all := lw_g (lw_at lw_m2 37 rfl) rfl
theorem q303 : (Jvm.Cond.methodLink "RegisterLabModel" (54 : Nat) ({ cls := "RegisterLabModel", name := "whole", desc := "()V" } : Jvm.MethodName)) ∈ lw_all := lw_g (lw_at lw_m2 38 rfl) rfl
theorem q304 : (Jvm.Cond.privateMethod ({ cls := "RegisterLabModel", name := "whole", desc := "()V" } : Jvm.MethodName)) ∈ lw_tbl := lw_at lw_m2 39 rfl
theorem q305 : (Jvm.Cond.instanceMethod ({ cls := "RegisterLabModel", name := "whole", desc := "()V" } : Jvm.MethodName)) ∈ lw_all := lw_g (lw_at lw_m2 40 rfl) rfl
theorem q306 : (Jvm.Cond.code ({ cls := "RegisterLabModel", name := "whole", desc := "()V" } : Jvm.MethodName) prog_3_method_16_code (2 : Nat) (Option.none : Option Jvm.ClassFile.FieldType)) ∈ lw_all := lw_g (lw_at lw_m2 41 rfl) rfl
theorem q308 : (Jvm.Cond.instanceMethod ({ cls := "RegisterLabModel", name := "coefficient", desc := "(I)I" } : Jvm.MethodName)) ∈ lw_all := lw_g (lw_at lw_m2 43 rfl) rfl
theorem q309 : (Jvm.Cond.selects "RegisterLabModel" ({ cls := "RegisterLabModel", name := "coefficient", desc := "(I)I" } : Jvm.MethodName) ({ cls := "RegisterLabModel", name := "coefficient", desc := "(I)I" } : Jvm.MethodName)) ∈ lw_all := lw_g (lw_at lw_m2 44 rfl) rfl
theorem q310 : (Jvm.Cond.code ({ cls := "RegisterLabModel", name := "coefficient", desc := "(I)I" } : Jvm.MethodName) prog_3_method_19_code (3 : Nat) (Option.some Jvm.ClassFile.FieldType.int)) ∈ lw_all := lw_g (lw_at lw_m2 45 rfl) rfl
theorem q312 : (Jvm.Cond.instanceMethod ({ cls := "RegisterLabModel", name := "predict", desc := "(I)I" } : Jvm.MethodName)) ∈ lw_all := lw_g (lw_at lw_m2 47 rfl) rfl
theorem q313 : (Jvm.Cond.selects "RegisterLabModel" ({ cls := "RegisterLabModel", name := "predict", desc := "(I)I" } : Jvm.MethodName) ({ cls := "RegisterLabModel", name := "predict", desc := "(I)I" } : Jvm.MethodName)) ∈ lw_all := lw_g (lw_at lw_m2 48 rfl) rfl
theorem q314 : (Jvm.Cond.code ({ cls := "RegisterLabModel", name := "predict", desc := "(I)I" } : Jvm.MethodName) prog_3_method_20_code (4 : Nat) (Option.some Jvm.ClassFile.FieldType.int)) ∈ lw_all := lw_g (lw_at lw_m2 49 rfl) rfl
theorem q316 : (Jvm.Cond.instanceMethod ({ cls := "RegisterLabModel", name := "complexityWith", desc := "(I)I" } : Jvm.MethodName)) ∈ lw_all := lw_g (lw_at lw_m2 51 rfl) rfl
theorem q317 : (Jvm.Cond.selects "RegisterLabModel" ({ cls := "RegisterLabModel", name := "complexityWith", desc := "(I)I" } : Jvm.MethodName) ({ cls := "RegisterLabModel", name := "complexityWith", desc := "(I)I" } : Jvm.MethodName)) ∈ lw_all := lw_g (lw_at lw_m2 52 rfl) rfl
theorem q318 : (Jvm.Cond.code ({ cls := "RegisterLabModel", name := "complexityWith", desc := "(I)I" } : Jvm.MethodName) prog_3_method_21_code (2 : Nat) (Option.some Jvm.ClassFile.FieldType.int)) ∈ lw_all := lw_g (lw_at lw_m2 53 rfl) rfl
theorem q320 : (Jvm.Cond.instanceMethod ({ cls := "RegisterLabModel", name := "complexityBackwards", desc := "()I" } : Jvm.MethodName)) ∈ lw_all := lw_g (lw_at lw_m2 55 rfl) rfl
theorem q321 : (Jvm.Cond.selects "RegisterLabModel" ({ cls := "RegisterLabModel", name := "complexityBackwards", desc := "()I" } : Jvm.MethodName) ({ cls := "RegisterLabModel", name := "complexityBackwards", desc := "()I" } : Jvm.MethodName)) ∈ lw_all := lw_g (lw_at lw_m2 56 rfl) rfl
theorem q322 : (Jvm.Cond.code ({ cls := "RegisterLabModel", name := "complexityBackwards", desc := "()I" } : Jvm.MethodName) prog_3_method_22_code (2 : Nat) (Option.some Jvm.ClassFile.FieldType.int)) ∈ lw_all := lw_g (lw_at lw_m2 57 rfl) rfl
theorem q324 : (Jvm.Cond.instanceMethod ({ cls := "RegisterLabModel", name := "holdsUntil", desc := "(I)I" } : Jvm.MethodName)) ∈ lw_all := lw_g (lw_at lw_m2 59 rfl) rfl
theorem q325 : (Jvm.Cond.selects "RegisterLabModel" ({ cls := "RegisterLabModel", name := "holdsUntil", desc := "(I)I" } : Jvm.MethodName) ({ cls := "RegisterLabModel", name := "holdsUntil", desc := "(I)I" } : Jvm.MethodName)) ∈ lw_all := lw_g (lw_at lw_m2 60 rfl) rfl
theorem q326 : (Jvm.Cond.code ({ cls := "RegisterLabModel", name := "holdsUntil", desc := "(I)I" } : Jvm.MethodName) prog_3_method_23_code (4 : Nat) (Option.some Jvm.ClassFile.FieldType.int)) ∈ lw_all := lw_g (lw_at lw_m2 61 rfl) rfl
theorem in_X2 : ∀ w ∈ wsX20, w ∈ lw_all := lw_in wsX20 [225, 227, 229, 231, 233, 235] (by decide +kernel) (by decide +kernel)

/-! java/lang/Object -/
set_option maxRecDepth 100000
def RJ0 : String := "java/lang/Object"
abbrev cJ0_init : ByteArray := object_method_1_code
def yJ0_init : MethodName := ⟨RJ0, "<init>", "()V"⟩
theorem dJ0_init_0 : decode cJ0_init 0 = .ok (.return_, 1) := by decide +kernel
theorem q34 : (Jvm.Cond.instanceMethod ({ cls := "java/lang/Object", name := "<init>", desc := "()V" } : Jvm.MethodName)) ∈ lw_all := lw_g (lw_at lw_m1 9 rfl) rfl
theorem q35 : (Jvm.Cond.code ({ cls := "java/lang/Object", name := "<init>", desc := "()V" } : Jvm.MethodName) object_method_1_code (1 : Nat) (Option.none : Option Jvm.ClassFile.FieldType)) ∈ lw_all := lw_g (lw_at lw_m1 10 rfl) rfl

theorem q85 : (Jvm.Cond.arrayClass Jvm.ClassFile.FieldType.byte) ∈ lw_all := lw_g (lw_at lw_m1 60 rfl) rfl
set_option maxRecDepth 100000
theorem q238 : (Jvm.Cond.arrayClass Jvm.ClassFile.FieldType.int) ∈ lw_all := lw_g (lw_at lw_m1 213 rfl) rfl
end
section
/-! RegisterLabLaw -/
set_option maxRecDepth 100000
def RX0 : String := "RegisterLabLaw"
abbrev cX0_cell : ByteArray := method_2_code
def yX0_cell : MethodName := ⟨RX0, "cell", "([II)I"⟩
theorem dX0_cell_0 : decode cX0_cell 0 = .ok (.iload_n 1, 1) := by decide +kernel
theorem dX0_cell_1 : decode cX0_cell 1 = .ok (.aload_n 0, 1) := by decide +kernel
theorem dX0_cell_2 : decode cX0_cell 2 = .ok (.arraylength, 1) := by decide +kernel
theorem dX0_cell_3 : decode cX0_cell 3 = .ok (.if_icmp .ge 9, 3) := by decide +kernel
theorem dX0_cell_6 : decode cX0_cell 6 = .ok (.aload_n 0, 1) := by decide +kernel
theorem dX0_cell_7 : decode cX0_cell 7 = .ok (.iload_n 1, 1) := by decide +kernel
theorem dX0_cell_8 : decode cX0_cell 8 = .ok (.iaload, 1) := by decide +kernel
theorem dX0_cell_9 : decode cX0_cell 9 = .ok (.goto 4, 3) := by decide +kernel
theorem dX0_cell_12 : decode cX0_cell 12 = .ok (.iconst 0, 1) := by decide +kernel
theorem dX0_cell_13 : decode cX0_cell 13 = .ok (.ireturn, 1) := by decide +kernel
theorem q25 : (Jvm.Cond.initialized "RegisterLabLaw") ∈ lw_all := lw_g (lw_at lw_m1 0 rfl) rfl
theorem q28 : (Jvm.Cond.classLink "RegisterLabLaw" (7 : Nat) "RegisterLab") ∈ lw_all := lw_g (lw_at lw_m1 3 rfl) rfl
theorem q30 : (Jvm.Cond.methodLink "RegisterLabLaw" (15 : Nat) ({ cls := "RegisterLab", name := "<init>", desc := "(I)V" } : Jvm.MethodName)) ∈ lw_all := lw_g (lw_at lw_m1 5 rfl) rfl
theorem q86 : (Jvm.Cond.methodLink "RegisterLabLaw" (21 : Nat) ({ cls := "RegisterLab", name := "modulus", desc := "()I" } : Jvm.MethodName)) ∈ lw_all := lw_g (lw_at lw_m1 61 rfl) rfl
theorem q90 : (Jvm.Cond.methodLink "RegisterLabLaw" (26 : Nat) ({ cls := "RegisterLab", name := "append", desc := "(I)Z" } : Jvm.MethodName)) ∈ lw_all := lw_g (lw_at lw_m1 65 rfl) rfl
theorem q98 : (Jvm.Cond.methodLink "RegisterLabLaw" (31 : Nat) ({ cls := "RegisterLab", name := "drop", desc := "()I" } : Jvm.MethodName)) ∈ lw_all := lw_g (lw_at lw_m1 73 rfl) rfl
theorem q102 : (Jvm.Cond.methodLink "RegisterLabLaw" (35 : Nat) ({ cls := "RegisterLab", name := "change", desc := "(II)Z" } : Jvm.MethodName)) ∈ lw_all := lw_g (lw_at lw_m1 77 rfl) rfl
theorem q106 : (Jvm.Cond.methodLink "RegisterLabLaw" (40 : Nat) ({ cls := "RegisterLab", name := "clear", desc := "()V" } : Jvm.MethodName)) ∈ lw_all := lw_g (lw_at lw_m1 81 rfl) rfl
theorem q110 : (Jvm.Cond.methodLink "RegisterLabLaw" (44 : Nat) ({ cls := "RegisterLab", name := "length", desc := "()I" } : Jvm.MethodName)) ∈ lw_all := lw_g (lw_at lw_m1 85 rfl) rfl
theorem q114 : (Jvm.Cond.methodLink "RegisterLabLaw" (48 : Nat) ({ cls := "RegisterLab", name := "symbol", desc := "(I)I" } : Jvm.MethodName)) ∈ lw_all := lw_g (lw_at lw_m1 89 rfl) rfl
theorem q118 : (Jvm.Cond.methodLink "RegisterLabLaw" (53 : Nat) ({ cls := "RegisterLab", name := "complexity", desc := "(II)I" } : Jvm.MethodName)) ∈ lw_all := lw_g (lw_at lw_m1 93 rfl) rfl
theorem q154 : (Jvm.Cond.methodLink "RegisterLabLaw" (58 : Nat) ({ cls := "RegisterLab", name := "registers", desc := "()I" } : Jvm.MethodName)) ∈ lw_all := lw_g (lw_at lw_m1 129 rfl) rfl
theorem q186 : (Jvm.Cond.methodLink "RegisterLabLaw" (62 : Nat) ({ cls := "RegisterLab", name := "coefficient", desc := "(I)I" } : Jvm.MethodName)) ∈ lw_all := lw_g (lw_at lw_m1 161 rfl) rfl
theorem q190 : (Jvm.Cond.methodLink "RegisterLabLaw" (66 : Nat) ({ cls := "RegisterLab", name := "predict", desc := "(I)I" } : Jvm.MethodName)) ∈ lw_all := lw_g (lw_at lw_m1 165 rfl) rfl
theorem q198 : (Jvm.Cond.methodLink "RegisterLabLaw" (70 : Nat) ({ cls := "RegisterLab", name := "complexityWith", desc := "(I)I" } : Jvm.MethodName)) ∈ lw_all := lw_g (lw_at lw_m1 173 rfl) rfl
theorem q202 : (Jvm.Cond.methodLink "RegisterLabLaw" (74 : Nat) ({ cls := "RegisterLab", name := "complexityBackwards", desc := "()I" } : Jvm.MethodName)) ∈ lw_all := lw_g (lw_at lw_m1 177 rfl) rfl
theorem q206 : (Jvm.Cond.methodLink "RegisterLabLaw" (78 : Nat) ({ cls := "RegisterLab", name := "holdsUntil", desc := "(I)I" } : Jvm.MethodName)) ∈ lw_all := lw_g (lw_at lw_m1 181 rfl) rfl
theorem q210 : (Jvm.Cond.methodLink "RegisterLabLaw" (9 : Nat) ({ cls := "RegisterLabLaw", name := "cell", desc := "([II)I" } : Jvm.MethodName)) ∈ lw_all := lw_g (lw_at lw_m1 185 rfl) rfl
theorem q211 : (Jvm.Cond.static ({ cls := "RegisterLabLaw", name := "cell", desc := "([II)I" } : Jvm.MethodName)) ∈ lw_all := lw_g (lw_at lw_m1 186 rfl) rfl
theorem q212 : (Jvm.Cond.code ({ cls := "RegisterLabLaw", name := "cell", desc := "([II)I" } : Jvm.MethodName) method_2_code (2 : Nat) (Option.some Jvm.ClassFile.FieldType.int)) ∈ lw_all := lw_g (lw_at lw_m1 187 rfl) rfl
theorem q213 : (Jvm.Cond.classLink "RegisterLabLaw" (18 : Nat) "RegisterLabModel") ∈ lw_all := lw_g (lw_at lw_m1 188 rfl) rfl
theorem q215 : (Jvm.Cond.methodLink "RegisterLabLaw" (20 : Nat) ({ cls := "RegisterLabModel", name := "<init>", desc := "(I)V" } : Jvm.MethodName)) ∈ lw_all := lw_g (lw_at lw_m1 190 rfl) rfl
theorem q239 : (Jvm.Cond.methodLink "RegisterLabLaw" (25 : Nat) ({ cls := "RegisterLabModel", name := "modulus", desc := "()I" } : Jvm.MethodName)) ∈ lw_all := lw_g (lw_at lw_m1 214 rfl) rfl
theorem q243 : (Jvm.Cond.methodLink "RegisterLabLaw" (30 : Nat) ({ cls := "RegisterLabModel", name := "append", desc := "(I)Z" } : Jvm.MethodName)) ∈ lw_all := lw_g (lw_at lw_m1 218 rfl) rfl
theorem q247 : (Jvm.Cond.methodLink "RegisterLabLaw" (34 : Nat) ({ cls := "RegisterLabModel", name := "drop", desc := "()I" } : Jvm.MethodName)) ∈ lw_all := lw_g (lw_at lw_m1 222 rfl) rfl
theorem q251 : (Jvm.Cond.methodLink "RegisterLabLaw" (39 : Nat) ({ cls := "RegisterLabModel", name := "change", desc := "(II)Z" } : Jvm.MethodName)) ∈ lw_all := lw_g (lw_at lw_m1 226 rfl) rfl
theorem q255 : (Jvm.Cond.methodLink "RegisterLabLaw" (43 : Nat) ({ cls := "RegisterLabModel", name := "clear", desc := "()V" } : Jvm.MethodName)) ∈ lw_all := lw_g (lw_at lw_m1 230 rfl) rfl
theorem q259 : (Jvm.Cond.methodLink "RegisterLabLaw" (47 : Nat) ({ cls := "RegisterLabModel", name := "length", desc := "()I" } : Jvm.MethodName)) ∈ lw_all := lw_g (lw_at lw_m1 234 rfl) rfl
theorem q263 : (Jvm.Cond.methodLink "RegisterLabLaw" (52 : Nat) ({ cls := "RegisterLabModel", name := "symbol", desc := "(I)I" } : Jvm.MethodName)) ∈ lw_all := lw_g (lw_at lw_m1 238 rfl) rfl
theorem q267 : (Jvm.Cond.methodLink "RegisterLabLaw" (57 : Nat) ({ cls := "RegisterLabModel", name := "complexity", desc := "(II)I" } : Jvm.MethodName)) ∈ lw_all := lw_g (lw_at lw_m2 2 rfl) rfl
theorem q299 : (Jvm.Cond.methodLink "RegisterLabLaw" (61 : Nat) ({ cls := "RegisterLabModel", name := "registers", desc := "()I" } : Jvm.MethodName)) ∈ lw_all := lw_g (lw_at lw_m2 34 rfl) rfl
theorem q307 : (Jvm.Cond.methodLink "RegisterLabLaw" (65 : Nat) ({ cls := "RegisterLabModel", name := "coefficient", desc := "(I)I" } : Jvm.MethodName)) ∈ lw_all := lw_g (lw_at lw_m2 42 rfl) rfl
theorem q311 : (Jvm.Cond.methodLink "RegisterLabLaw" (69 : Nat) ({ cls := "RegisterLabModel", name := "predict", desc := "(I)I" } : Jvm.MethodName)) ∈ lw_all := lw_g (lw_at lw_m2 46 rfl) rfl
theorem q315 : (Jvm.Cond.methodLink "RegisterLabLaw" (73 : Nat) ({ cls := "RegisterLabModel", name := "complexityWith", desc := "(I)I" } : Jvm.MethodName)) ∈ lw_all := lw_g (lw_at lw_m2 50 rfl) rfl
theorem q319 : (Jvm.Cond.methodLink "RegisterLabLaw" (77 : Nat) ({ cls := "RegisterLabModel", name := "complexityBackwards", desc := "()I" } : Jvm.MethodName)) ∈ lw_all := lw_g (lw_at lw_m2 54 rfl) rfl
theorem q323 : (Jvm.Cond.methodLink "RegisterLabLaw" (81 : Nat) ({ cls := "RegisterLabModel", name := "holdsUntil", desc := "(I)I" } : Jvm.MethodName)) ∈ lw_all := lw_g (lw_at lw_m2 58 rfl) rfl

/-! the law's own entry -/
set_option maxRecDepth 100000
abbrev cL_law : ByteArray := code
theorem dL_law_0 : decode cL_law 0 = .ok (.new 7, 3) := by decide +kernel
theorem dL_law_3 : decode cL_law 3 = .ok (.dup, 1) := by decide +kernel
theorem dL_law_4 : decode cL_law 4 = .ok (.aload_n 0, 1) := by decide +kernel
theorem dL_law_5 : decode cL_law 5 = .ok (.iconst 0, 1) := by decide +kernel
theorem dL_law_6 : decode cL_law 6 = .ok (.invokestatic 9, 3) := by decide +kernel
theorem dL_law_9 : decode cL_law 9 = .ok (.invokespecial 15, 3) := by decide +kernel
theorem dL_law_12 : decode cL_law 12 = .ok (.astore_n 1, 1) := by decide +kernel
theorem dL_law_13 : decode cL_law 13 = .ok (.new 18, 3) := by decide +kernel
theorem dL_law_16 : decode cL_law 16 = .ok (.dup, 1) := by decide +kernel
theorem dL_law_17 : decode cL_law 17 = .ok (.aload_n 0, 1) := by decide +kernel
theorem dL_law_18 : decode cL_law 18 = .ok (.iconst 0, 1) := by decide +kernel
theorem dL_law_19 : decode cL_law 19 = .ok (.invokestatic 9, 3) := by decide +kernel
theorem dL_law_22 : decode cL_law 22 = .ok (.invokespecial 20, 3) := by decide +kernel
theorem dL_law_25 : decode cL_law 25 = .ok (.astore_n 2, 1) := by decide +kernel
theorem dL_law_26 : decode cL_law 26 = .ok (.iconst 1, 1) := by decide +kernel
theorem dL_law_27 : decode cL_law 27 = .ok (.istore_n 3, 1) := by decide +kernel
theorem dL_law_28 : decode cL_law 28 = .ok (.iload_n 3, 1) := by decide +kernel
theorem dL_law_29 : decode cL_law 29 = .ok (.aload_n 0, 1) := by decide +kernel
theorem dL_law_30 : decode cL_law 30 = .ok (.arraylength, 1) := by decide +kernel
theorem dL_law_31 : decode cL_law 31 = .ok (.iconst 3, 1) := by decide +kernel
theorem dL_law_32 : decode cL_law 32 = .ok (.isub, 1) := by decide +kernel
theorem dL_law_33 : decode cL_law 33 = .ok (.if_icmp .gt 365, 3) := by decide +kernel
theorem dL_law_36 : decode cL_law 36 = .ok (.aload_n 0, 1) := by decide +kernel
theorem dL_law_37 : decode cL_law 37 = .ok (.iload_n 3, 1) := by decide +kernel
theorem dL_law_38 : decode cL_law 38 = .ok (.iaload, 1) := by decide +kernel
theorem dL_law_39 : decode cL_law 39 = .ok (.bipush 15, 2) := by decide +kernel
theorem dL_law_41 : decode cL_law 41 = .ok (.iand, 1) := by decide +kernel
theorem dL_law_42 : decode cL_law 42 = .ok (.tableswitch 350 0 13 #[70, 83, 106, 119, 152, 163, 176, 199, 232, 245, 268, 291, 314, 327], 70) := by decide +kernel
theorem dL_law_112 : decode cL_law 112 = .ok (.aload_n 1, 1) := by decide +kernel
theorem dL_law_113 : decode cL_law 113 = .ok (.invokevirtual 21, 3) := by decide +kernel
theorem dL_law_116 : decode cL_law 116 = .ok (.aload_n 2, 1) := by decide +kernel
theorem dL_law_117 : decode cL_law 117 = .ok (.invokevirtual 25, 3) := by decide +kernel
theorem dL_law_120 : decode cL_law 120 = .ok (.if_icmp .eq 272, 3) := by decide +kernel
theorem dL_law_123 : decode cL_law 123 = .ok (.iconst 0, 1) := by decide +kernel
theorem dL_law_124 : decode cL_law 124 = .ok (.ireturn, 1) := by decide +kernel
theorem dL_law_125 : decode cL_law 125 = .ok (.aload_n 1, 1) := by decide +kernel
theorem dL_law_126 : decode cL_law 126 = .ok (.aload_n 0, 1) := by decide +kernel
theorem dL_law_127 : decode cL_law 127 = .ok (.iload_n 3, 1) := by decide +kernel
theorem dL_law_128 : decode cL_law 128 = .ok (.iconst 1, 1) := by decide +kernel
theorem dL_law_129 : decode cL_law 129 = .ok (.iadd, 1) := by decide +kernel
theorem dL_law_130 : decode cL_law 130 = .ok (.iaload, 1) := by decide +kernel
theorem dL_law_131 : decode cL_law 131 = .ok (.invokevirtual 26, 3) := by decide +kernel
theorem dL_law_134 : decode cL_law 134 = .ok (.aload_n 2, 1) := by decide +kernel
theorem dL_law_135 : decode cL_law 135 = .ok (.aload_n 0, 1) := by decide +kernel
theorem dL_law_136 : decode cL_law 136 = .ok (.iload_n 3, 1) := by decide +kernel
theorem dL_law_137 : decode cL_law 137 = .ok (.iconst 1, 1) := by decide +kernel
theorem dL_law_138 : decode cL_law 138 = .ok (.iadd, 1) := by decide +kernel
theorem dL_law_139 : decode cL_law 139 = .ok (.iaload, 1) := by decide +kernel
theorem dL_law_140 : decode cL_law 140 = .ok (.invokevirtual 30, 3) := by decide +kernel
theorem dL_law_143 : decode cL_law 143 = .ok (.if_icmp .eq 249, 3) := by decide +kernel
theorem dL_law_146 : decode cL_law 146 = .ok (.iconst 0, 1) := by decide +kernel
theorem dL_law_147 : decode cL_law 147 = .ok (.ireturn, 1) := by decide +kernel
theorem dL_law_148 : decode cL_law 148 = .ok (.aload_n 1, 1) := by decide +kernel
theorem dL_law_149 : decode cL_law 149 = .ok (.invokevirtual 31, 3) := by decide +kernel
theorem dL_law_152 : decode cL_law 152 = .ok (.aload_n 2, 1) := by decide +kernel
theorem dL_law_153 : decode cL_law 153 = .ok (.invokevirtual 34, 3) := by decide +kernel
theorem dL_law_156 : decode cL_law 156 = .ok (.if_icmp .eq 236, 3) := by decide +kernel
theorem dL_law_159 : decode cL_law 159 = .ok (.iconst 0, 1) := by decide +kernel
theorem dL_law_160 : decode cL_law 160 = .ok (.ireturn, 1) := by decide +kernel
theorem dL_law_161 : decode cL_law 161 = .ok (.aload_n 1, 1) := by decide +kernel
theorem dL_law_162 : decode cL_law 162 = .ok (.aload_n 0, 1) := by decide +kernel
theorem dL_law_163 : decode cL_law 163 = .ok (.iload_n 3, 1) := by decide +kernel
theorem dL_law_164 : decode cL_law 164 = .ok (.iconst 1, 1) := by decide +kernel
theorem dL_law_165 : decode cL_law 165 = .ok (.iadd, 1) := by decide +kernel
theorem dL_law_166 : decode cL_law 166 = .ok (.iaload, 1) := by decide +kernel
theorem dL_law_167 : decode cL_law 167 = .ok (.aload_n 0, 1) := by decide +kernel
theorem dL_law_168 : decode cL_law 168 = .ok (.iload_n 3, 1) := by decide +kernel
theorem dL_law_169 : decode cL_law 169 = .ok (.iconst 2, 1) := by decide +kernel
theorem dL_law_170 : decode cL_law 170 = .ok (.iadd, 1) := by decide +kernel
theorem dL_law_171 : decode cL_law 171 = .ok (.iaload, 1) := by decide +kernel
theorem dL_law_172 : decode cL_law 172 = .ok (.invokevirtual 35, 3) := by decide +kernel
theorem dL_law_175 : decode cL_law 175 = .ok (.aload_n 2, 1) := by decide +kernel
theorem dL_law_176 : decode cL_law 176 = .ok (.aload_n 0, 1) := by decide +kernel
theorem dL_law_177 : decode cL_law 177 = .ok (.iload_n 3, 1) := by decide +kernel
theorem dL_law_178 : decode cL_law 178 = .ok (.iconst 1, 1) := by decide +kernel
theorem dL_law_179 : decode cL_law 179 = .ok (.iadd, 1) := by decide +kernel
theorem dL_law_180 : decode cL_law 180 = .ok (.iaload, 1) := by decide +kernel
theorem dL_law_181 : decode cL_law 181 = .ok (.aload_n 0, 1) := by decide +kernel
theorem dL_law_182 : decode cL_law 182 = .ok (.iload_n 3, 1) := by decide +kernel
theorem dL_law_183 : decode cL_law 183 = .ok (.iconst 2, 1) := by decide +kernel
theorem dL_law_184 : decode cL_law 184 = .ok (.iadd, 1) := by decide +kernel
theorem dL_law_185 : decode cL_law 185 = .ok (.iaload, 1) := by decide +kernel
theorem dL_law_186 : decode cL_law 186 = .ok (.invokevirtual 39, 3) := by decide +kernel
theorem dL_law_189 : decode cL_law 189 = .ok (.if_icmp .eq 203, 3) := by decide +kernel
theorem dL_law_192 : decode cL_law 192 = .ok (.iconst 0, 1) := by decide +kernel
theorem dL_law_193 : decode cL_law 193 = .ok (.ireturn, 1) := by decide +kernel
theorem dL_law_194 : decode cL_law 194 = .ok (.aload_n 1, 1) := by decide +kernel
theorem dL_law_195 : decode cL_law 195 = .ok (.invokevirtual 40, 3) := by decide +kernel
theorem dL_law_198 : decode cL_law 198 = .ok (.aload_n 2, 1) := by decide +kernel
theorem dL_law_199 : decode cL_law 199 = .ok (.invokevirtual 43, 3) := by decide +kernel
theorem dL_law_202 : decode cL_law 202 = .ok (.goto 190, 3) := by decide +kernel
theorem dL_law_205 : decode cL_law 205 = .ok (.aload_n 1, 1) := by decide +kernel
theorem dL_law_206 : decode cL_law 206 = .ok (.invokevirtual 44, 3) := by decide +kernel
theorem dL_law_209 : decode cL_law 209 = .ok (.aload_n 2, 1) := by decide +kernel
theorem dL_law_210 : decode cL_law 210 = .ok (.invokevirtual 47, 3) := by decide +kernel
theorem dL_law_213 : decode cL_law 213 = .ok (.if_icmp .eq 179, 3) := by decide +kernel
theorem dL_law_216 : decode cL_law 216 = .ok (.iconst 0, 1) := by decide +kernel
theorem dL_law_217 : decode cL_law 217 = .ok (.ireturn, 1) := by decide +kernel
theorem dL_law_218 : decode cL_law 218 = .ok (.aload_n 1, 1) := by decide +kernel
theorem dL_law_219 : decode cL_law 219 = .ok (.aload_n 0, 1) := by decide +kernel
theorem dL_law_220 : decode cL_law 220 = .ok (.iload_n 3, 1) := by decide +kernel
theorem dL_law_221 : decode cL_law 221 = .ok (.iconst 1, 1) := by decide +kernel
theorem dL_law_222 : decode cL_law 222 = .ok (.iadd, 1) := by decide +kernel
theorem dL_law_223 : decode cL_law 223 = .ok (.iaload, 1) := by decide +kernel
theorem dL_law_224 : decode cL_law 224 = .ok (.invokevirtual 48, 3) := by decide +kernel
theorem dL_law_227 : decode cL_law 227 = .ok (.aload_n 2, 1) := by decide +kernel
theorem dL_law_228 : decode cL_law 228 = .ok (.aload_n 0, 1) := by decide +kernel
theorem dL_law_229 : decode cL_law 229 = .ok (.iload_n 3, 1) := by decide +kernel
theorem dL_law_230 : decode cL_law 230 = .ok (.iconst 1, 1) := by decide +kernel
theorem dL_law_231 : decode cL_law 231 = .ok (.iadd, 1) := by decide +kernel
theorem dL_law_232 : decode cL_law 232 = .ok (.iaload, 1) := by decide +kernel
theorem dL_law_233 : decode cL_law 233 = .ok (.invokevirtual 52, 3) := by decide +kernel
theorem dL_law_236 : decode cL_law 236 = .ok (.if_icmp .eq 156, 3) := by decide +kernel
theorem dL_law_239 : decode cL_law 239 = .ok (.iconst 0, 1) := by decide +kernel
theorem dL_law_240 : decode cL_law 240 = .ok (.ireturn, 1) := by decide +kernel
theorem dL_law_241 : decode cL_law 241 = .ok (.aload_n 1, 1) := by decide +kernel
theorem dL_law_242 : decode cL_law 242 = .ok (.aload_n 0, 1) := by decide +kernel
theorem dL_law_243 : decode cL_law 243 = .ok (.iload_n 3, 1) := by decide +kernel
theorem dL_law_244 : decode cL_law 244 = .ok (.iconst 1, 1) := by decide +kernel
theorem dL_law_245 : decode cL_law 245 = .ok (.iadd, 1) := by decide +kernel
theorem dL_law_246 : decode cL_law 246 = .ok (.iaload, 1) := by decide +kernel
theorem dL_law_247 : decode cL_law 247 = .ok (.aload_n 0, 1) := by decide +kernel
theorem dL_law_248 : decode cL_law 248 = .ok (.iload_n 3, 1) := by decide +kernel
theorem dL_law_249 : decode cL_law 249 = .ok (.iconst 2, 1) := by decide +kernel
theorem dL_law_250 : decode cL_law 250 = .ok (.iadd, 1) := by decide +kernel
theorem dL_law_251 : decode cL_law 251 = .ok (.iaload, 1) := by decide +kernel
theorem dL_law_252 : decode cL_law 252 = .ok (.invokevirtual 53, 3) := by decide +kernel
theorem dL_law_255 : decode cL_law 255 = .ok (.aload_n 2, 1) := by decide +kernel
theorem dL_law_256 : decode cL_law 256 = .ok (.aload_n 0, 1) := by decide +kernel
theorem dL_law_257 : decode cL_law 257 = .ok (.iload_n 3, 1) := by decide +kernel
theorem dL_law_258 : decode cL_law 258 = .ok (.iconst 1, 1) := by decide +kernel
theorem dL_law_259 : decode cL_law 259 = .ok (.iadd, 1) := by decide +kernel
theorem dL_law_260 : decode cL_law 260 = .ok (.iaload, 1) := by decide +kernel
theorem dL_law_261 : decode cL_law 261 = .ok (.aload_n 0, 1) := by decide +kernel
theorem dL_law_262 : decode cL_law 262 = .ok (.iload_n 3, 1) := by decide +kernel
theorem dL_law_263 : decode cL_law 263 = .ok (.iconst 2, 1) := by decide +kernel
theorem dL_law_264 : decode cL_law 264 = .ok (.iadd, 1) := by decide +kernel
theorem dL_law_265 : decode cL_law 265 = .ok (.iaload, 1) := by decide +kernel
theorem dL_law_266 : decode cL_law 266 = .ok (.invokevirtual 57, 3) := by decide +kernel
theorem dL_law_269 : decode cL_law 269 = .ok (.if_icmp .eq 123, 3) := by decide +kernel
theorem dL_law_272 : decode cL_law 272 = .ok (.iconst 0, 1) := by decide +kernel
theorem dL_law_273 : decode cL_law 273 = .ok (.ireturn, 1) := by decide +kernel
theorem dL_law_274 : decode cL_law 274 = .ok (.aload_n 1, 1) := by decide +kernel
theorem dL_law_275 : decode cL_law 275 = .ok (.invokevirtual 58, 3) := by decide +kernel
theorem dL_law_278 : decode cL_law 278 = .ok (.aload_n 2, 1) := by decide +kernel
theorem dL_law_279 : decode cL_law 279 = .ok (.invokevirtual 61, 3) := by decide +kernel
theorem dL_law_282 : decode cL_law 282 = .ok (.if_icmp .eq 110, 3) := by decide +kernel
theorem dL_law_285 : decode cL_law 285 = .ok (.iconst 0, 1) := by decide +kernel
theorem dL_law_286 : decode cL_law 286 = .ok (.ireturn, 1) := by decide +kernel
theorem dL_law_287 : decode cL_law 287 = .ok (.aload_n 1, 1) := by decide +kernel
theorem dL_law_288 : decode cL_law 288 = .ok (.aload_n 0, 1) := by decide +kernel
theorem dL_law_289 : decode cL_law 289 = .ok (.iload_n 3, 1) := by decide +kernel
theorem dL_law_290 : decode cL_law 290 = .ok (.iconst 1, 1) := by decide +kernel
theorem dL_law_291 : decode cL_law 291 = .ok (.iadd, 1) := by decide +kernel
theorem dL_law_292 : decode cL_law 292 = .ok (.iaload, 1) := by decide +kernel
theorem dL_law_293 : decode cL_law 293 = .ok (.invokevirtual 62, 3) := by decide +kernel
theorem dL_law_296 : decode cL_law 296 = .ok (.aload_n 2, 1) := by decide +kernel
theorem dL_law_297 : decode cL_law 297 = .ok (.aload_n 0, 1) := by decide +kernel
theorem dL_law_298 : decode cL_law 298 = .ok (.iload_n 3, 1) := by decide +kernel
theorem dL_law_299 : decode cL_law 299 = .ok (.iconst 1, 1) := by decide +kernel
theorem dL_law_300 : decode cL_law 300 = .ok (.iadd, 1) := by decide +kernel
theorem dL_law_301 : decode cL_law 301 = .ok (.iaload, 1) := by decide +kernel
theorem dL_law_302 : decode cL_law 302 = .ok (.invokevirtual 65, 3) := by decide +kernel
theorem dL_law_305 : decode cL_law 305 = .ok (.if_icmp .eq 87, 3) := by decide +kernel
theorem dL_law_308 : decode cL_law 308 = .ok (.iconst 0, 1) := by decide +kernel
theorem dL_law_309 : decode cL_law 309 = .ok (.ireturn, 1) := by decide +kernel
theorem dL_law_310 : decode cL_law 310 = .ok (.aload_n 1, 1) := by decide +kernel
theorem dL_law_311 : decode cL_law 311 = .ok (.aload_n 0, 1) := by decide +kernel
theorem dL_law_312 : decode cL_law 312 = .ok (.iload_n 3, 1) := by decide +kernel
theorem dL_law_313 : decode cL_law 313 = .ok (.iconst 1, 1) := by decide +kernel
theorem dL_law_314 : decode cL_law 314 = .ok (.iadd, 1) := by decide +kernel
theorem dL_law_315 : decode cL_law 315 = .ok (.iaload, 1) := by decide +kernel
theorem dL_law_316 : decode cL_law 316 = .ok (.invokevirtual 66, 3) := by decide +kernel
theorem dL_law_319 : decode cL_law 319 = .ok (.aload_n 2, 1) := by decide +kernel
theorem dL_law_320 : decode cL_law 320 = .ok (.aload_n 0, 1) := by decide +kernel
theorem dL_law_321 : decode cL_law 321 = .ok (.iload_n 3, 1) := by decide +kernel
theorem dL_law_322 : decode cL_law 322 = .ok (.iconst 1, 1) := by decide +kernel
theorem dL_law_323 : decode cL_law 323 = .ok (.iadd, 1) := by decide +kernel
theorem dL_law_324 : decode cL_law 324 = .ok (.iaload, 1) := by decide +kernel
theorem dL_law_325 : decode cL_law 325 = .ok (.invokevirtual 69, 3) := by decide +kernel
theorem dL_law_328 : decode cL_law 328 = .ok (.if_icmp .eq 64, 3) := by decide +kernel
theorem dL_law_331 : decode cL_law 331 = .ok (.iconst 0, 1) := by decide +kernel
theorem dL_law_332 : decode cL_law 332 = .ok (.ireturn, 1) := by decide +kernel
theorem dL_law_333 : decode cL_law 333 = .ok (.aload_n 1, 1) := by decide +kernel
theorem dL_law_334 : decode cL_law 334 = .ok (.aload_n 0, 1) := by decide +kernel
theorem dL_law_335 : decode cL_law 335 = .ok (.iload_n 3, 1) := by decide +kernel
theorem dL_law_336 : decode cL_law 336 = .ok (.iconst 1, 1) := by decide +kernel
theorem dL_law_337 : decode cL_law 337 = .ok (.iadd, 1) := by decide +kernel
theorem dL_law_338 : decode cL_law 338 = .ok (.iaload, 1) := by decide +kernel
theorem dL_law_339 : decode cL_law 339 = .ok (.invokevirtual 70, 3) := by decide +kernel
theorem dL_law_342 : decode cL_law 342 = .ok (.aload_n 2, 1) := by decide +kernel
theorem dL_law_343 : decode cL_law 343 = .ok (.aload_n 0, 1) := by decide +kernel
theorem dL_law_344 : decode cL_law 344 = .ok (.iload_n 3, 1) := by decide +kernel
theorem dL_law_345 : decode cL_law 345 = .ok (.iconst 1, 1) := by decide +kernel
theorem dL_law_346 : decode cL_law 346 = .ok (.iadd, 1) := by decide +kernel
theorem dL_law_347 : decode cL_law 347 = .ok (.iaload, 1) := by decide +kernel
theorem dL_law_348 : decode cL_law 348 = .ok (.invokevirtual 73, 3) := by decide +kernel
theorem dL_law_351 : decode cL_law 351 = .ok (.if_icmp .eq 41, 3) := by decide +kernel
theorem dL_law_354 : decode cL_law 354 = .ok (.iconst 0, 1) := by decide +kernel
theorem dL_law_355 : decode cL_law 355 = .ok (.ireturn, 1) := by decide +kernel
theorem dL_law_356 : decode cL_law 356 = .ok (.aload_n 1, 1) := by decide +kernel
theorem dL_law_357 : decode cL_law 357 = .ok (.invokevirtual 74, 3) := by decide +kernel
theorem dL_law_360 : decode cL_law 360 = .ok (.aload_n 2, 1) := by decide +kernel
theorem dL_law_361 : decode cL_law 361 = .ok (.invokevirtual 77, 3) := by decide +kernel
theorem dL_law_364 : decode cL_law 364 = .ok (.if_icmp .eq 28, 3) := by decide +kernel
theorem dL_law_367 : decode cL_law 367 = .ok (.iconst 0, 1) := by decide +kernel
theorem dL_law_368 : decode cL_law 368 = .ok (.ireturn, 1) := by decide +kernel
theorem dL_law_369 : decode cL_law 369 = .ok (.aload_n 1, 1) := by decide +kernel
theorem dL_law_370 : decode cL_law 370 = .ok (.aload_n 0, 1) := by decide +kernel
theorem dL_law_371 : decode cL_law 371 = .ok (.iload_n 3, 1) := by decide +kernel
theorem dL_law_372 : decode cL_law 372 = .ok (.iconst 1, 1) := by decide +kernel
theorem dL_law_373 : decode cL_law 373 = .ok (.iadd, 1) := by decide +kernel
theorem dL_law_374 : decode cL_law 374 = .ok (.iaload, 1) := by decide +kernel
theorem dL_law_375 : decode cL_law 375 = .ok (.invokevirtual 78, 3) := by decide +kernel
theorem dL_law_378 : decode cL_law 378 = .ok (.aload_n 2, 1) := by decide +kernel
theorem dL_law_379 : decode cL_law 379 = .ok (.aload_n 0, 1) := by decide +kernel
theorem dL_law_380 : decode cL_law 380 = .ok (.iload_n 3, 1) := by decide +kernel
theorem dL_law_381 : decode cL_law 381 = .ok (.iconst 1, 1) := by decide +kernel
theorem dL_law_382 : decode cL_law 382 = .ok (.iadd, 1) := by decide +kernel
theorem dL_law_383 : decode cL_law 383 = .ok (.iaload, 1) := by decide +kernel
theorem dL_law_384 : decode cL_law 384 = .ok (.invokevirtual 81, 3) := by decide +kernel
theorem dL_law_387 : decode cL_law 387 = .ok (.if_icmp .eq 5, 3) := by decide +kernel
theorem dL_law_390 : decode cL_law 390 = .ok (.iconst 0, 1) := by decide +kernel
theorem dL_law_391 : decode cL_law 391 = .ok (.ireturn, 1) := by decide +kernel
theorem dL_law_392 : decode cL_law 392 = .ok (.iinc 3 3, 3) := by decide +kernel
theorem dL_law_395 : decode cL_law 395 = .ok (.goto (-367), 3) := by decide +kernel
theorem dL_law_398 : decode cL_law 398 = .ok (.iconst 1, 1) := by decide +kernel
theorem dL_law_399 : decode cL_law 399 = .ok (.ireturn, 1) := by decide +kernel
end
section
/-! rows over a judgement Z: 'Z w lv pc st': from every heap that holds the world w, with the values lv in the frame's places, at pc with stack st, the machine comes to its end -/
set_option maxRecDepth 100000
abbrev vwCl : List vw_C := [(RX1, TX1, 16), (RX2, TX2, 6)]
abbrev zz_J : Type := va_W → List (Nat × Value) → Nat → List Value → Prop
def zz_at (p : Program) (l : Launch) (e : Env) (R : Room) (s : State) (m : MethodId) (args : Array Value) (below : List Frame) (meth : Method) (c : Code) (D : va_G) (A : Nat → Prop) (nL cells slots : Nat) (Q : State → Prop) : zz_J :=
  fun w lv pc st => ∀ (H : Heap) (locs : List Loc) (ls : Array Slot), va_P D vwCl w H → va_D A w → va_S A s.heap H locs → lv_has ls nL lv → W p l e R s m args below meth c H locs cells slots Q (F0 m pc ls st)
/-- the fixed things of a method's run, hidden -/
def Cx (l : Launch) (R : Room) (D : va_G) (tys : List (ClassId × FieldType)) (own : String) (cc : ByteArray) (nL : Nat) (Z : zz_J) : Prop :=
  ∃ (p : Program) (e : Env) (s : State) (m : MethodId) (args : Array Value) (below : List Frame) (meth : Method) (c : Code) (A : Nat → Prop) (cells slots : Nat) (Q : State → Prop),
    Z = zz_at p l e R s m args below meth c D A nL cells slots Q ∧ p.tables.exec = Jvm.exec ∧ c.code = cc ∧ c.maxLocals = nL ∧ s.vm.findClass own = some m.cls ∧ (∀ w ∈ lw_all, w.before args s = true) ∧ va_K D vwCl tys s ∧ (∀ q : Nat, s.heap.size ≤ q → A q) ∧ cells ≤ R.cells ∧ slots ≤ R.slots
theorem nI_b : ∀ a, a < 128 → (nI a).toInt8.toInt32 = nI a := by decide +kernel
theorem nI_nb {a : Nat} (h : a < 128) : vp_nar .byte (nI a) = nI a := by rw [vp_nar_byte]; exact nI_b a h
theorem nI_inc (a : Nat) : nI a + Int32.ofInt 1 = nI (a + 1) := by
  rw [show Int32.ofInt 1 = (1 : Int32) by decide]; exact nI_1 a
theorem nI_dec (a : Nat) : nI (a + 1) + Int32.ofInt (-1) = nI a := by
  rw [show Int32.ofInt (-1) = (-1 : Int32) by decide]; exact pk_m1 a
theorem nI_eq0 {a : Nat} (h : a < 2 ^ 31) : nI a = 0 ↔ a = 0 := by
  rw [← nI_0]; exact nI_eq h (by decide)
theorem upd_nI (f : Nat → Nat) (k v : Nat) : upd (fun j => nI (f j)) k (nI v) = fun j => nI (va_up f k v j) := by
  funext j
  simp only [upd, va_up]
  split <;> rfl
section
variable {l : Launch} {R : Room} {D : va_G} {tys : List (ClassId × FieldType)} {own : String} {cc : ByteArray} {nL : Nat} {Z : zz_J} {w w' : va_W} {lv lv' : List (Nat × Value)} {pc : Nat} {st : List Value}
theorem r_iconst (C : Cx l R D tys own cc nL Z) {n : Int} {v : Int32} (hdg : decode cc pc = .ok (.iconst n, 1)) (hv : Int32.ofInt n = v) (kk : Z w lv (pc + 1) (.int v :: st)) : Z w lv pc st := by
  obtain ⟨p, e, s, m, args, below, meth, c, A, cells, slots, Q, rfl, hx, hb, hml, hown, hts, hK, hA, hc, hs⟩ := C
  intro H locs ls hP hD hS hl
  exact lv_iconst hx hb hdg hv (kk H locs ls hP hD hS hl)
theorem r_bipush (C : Cx l R D tys own cc nL Z) {n : Int} {v : Int32} (hdg : decode cc pc = .ok (.bipush n, 2)) (hv : (Int8.ofInt n).toInt32 = v) (kk : Z w lv (pc + 2) (.int v :: st)) : Z w lv pc st := by
  obtain ⟨p, e, s, m, args, below, meth, c, A, cells, slots, Q, rfl, hx, hb, hml, hown, hts, hK, hA, hc, hs⟩ := C
  intro H locs ls hP hD hS hl
  exact lv_bipush hx hb hdg hv (kk H locs ls hP hD hS hl)
theorem r_iload_n (C : Cx l R D tys own cc nL Z) {k : Fin 4} {x : Int32} (j : Nat) (hdg : decode cc pc = .ok (.iload_n k, 1)) (hj : lv[j]? = some ((k : Nat), .int x)) (kk : Z w lv (pc + 1) (.int x :: st)) : Z w lv pc st := by
  obtain ⟨p, e, s, m, args, below, meth, c, A, cells, slots, Q, rfl, hx, hb, hml, hown, hts, hK, hA, hc, hs⟩ := C
  intro H locs ls hP hD hS hl
  exact lv_iload_n hx hb hdg rfl (lv_at hl j hj) (kk H locs ls hP hD hS hl)
theorem r_iload (C : Cx l R D tys own cc nL Z) {i : Nat} {x : Int32} (j : Nat) (hdg : decode cc pc = .ok (.iload i, 2)) (hj : lv[j]? = some (i, .int x)) (kk : Z w lv (pc + 2) (.int x :: st)) : Z w lv pc st := by
  obtain ⟨p, e, s, m, args, below, meth, c, A, cells, slots, Q, rfl, hx, hb, hml, hown, hts, hK, hA, hc, hs⟩ := C
  intro H locs ls hP hD hS hl
  exact lv_iload hx hb hdg (lv_at hl j hj) (kk H locs ls hP hD hS hl)
theorem r_aload_n (C : Cx l R D tys own cc nL Z) {k : Fin 4} {x : Nat} (j : Nat) (hdg : decode cc pc = .ok (.aload_n k, 1)) (hj : lv[j]? = some ((k : Nat), .ref x)) (kk : Z w lv (pc + 1) (.ref x :: st)) : Z w lv pc st := by
  obtain ⟨p, e, s, m, args, below, meth, c, A, cells, slots, Q, rfl, hx, hb, hml, hown, hts, hK, hA, hc, hs⟩ := C
  intro H locs ls hP hD hS hl
  exact lv_aload_n hx hb hdg rfl (lv_at hl j hj) (kk H locs ls hP hD hS hl)
/-- the values behind a store, by their places: 0 the new one, 1.. those that stay -/
def zz_st (lv : List (Nat × Value)) (i : Nat) (v : Value) : List (Nat × Value) := (i, v) :: lv.filter (fun q => !(q.1 == i) && !(q.1 + 1 == i && q.2.category == 2))
theorem r_istore_n (C : Cx l R D tys own cc nL Z) {k : Fin 4} {x : Int32} (ks : List Nat) (hdg : decode cc pc = .ok (.istore_n k, 1)) (hn : (k : Nat) < nL) (hl' : lv_pick (zz_st lv (k : Nat) (.int x)) ks = lv') (kk : Z w lv' (pc + 1) st) : Z w lv pc (.int x :: st) := by
  obtain ⟨p, e, s, m, args, below, meth, c, A, cells, slots, Q, rfl, hx, hb, hml, hown, hts, hK, hA, hc, hs⟩ := C
  intro H locs ls hP hD hS hl
  exact lv_istore_n hx hb hdg rfl hl hn rfl (fun ls' h => kk H locs ls' hP hD hS (lv_sub h ks hl'))
theorem r_istore (C : Cx l R D tys own cc nL Z) {i : Nat} {x : Int32} (ks : List Nat) (hdg : decode cc pc = .ok (.istore i, 2)) (hn : i < nL) (hl' : lv_pick (zz_st lv i (.int x)) ks = lv') (kk : Z w lv' (pc + 2) st) : Z w lv pc (.int x :: st) := by
  obtain ⟨p, e, s, m, args, below, meth, c, A, cells, slots, Q, rfl, hx, hb, hml, hown, hts, hK, hA, hc, hs⟩ := C
  intro H locs ls hP hD hS hl
  exact lv_istore hx hb hdg hl hn rfl (fun ls' h => kk H locs ls' hP hD hS (lv_sub h ks hl'))
theorem r_iinc (C : Cx l R D tys own cc nL Z) {i k : Nat} {n : Int} {x v : Int32} (ks : List Nat) (hdg : decode cc pc = .ok (.iinc i n, 3)) (hk : lv[k]? = some (i, .int x)) (hv : x + Int32.ofInt n = v) (hn : i < nL) (hl' : lv_pick (zz_st lv i (.int v)) ks = lv') (kk : Z w lv' (pc + 3) st) : Z w lv pc st := by
  obtain ⟨p, e, s, m, args, below, meth, c, A, cells, slots, Q, rfl, hx, hb, hml, hown, hts, hK, hA, hc, hs⟩ := C
  intro H locs ls hP hD hS hl
  exact lv_iinc hx hb hdg hl hk hv hn rfl (fun ls' h => kk H locs ls' hP hD hS (lv_sub h ks hl'))
/-- fewer values, in any order -/
theorem r_fewer (C : Cx l R D tys own cc nL Z) (ks : List Nat) (hl' : lv_pick lv ks = lv') (kk : Z w lv' pc st) : Z w lv pc st := by
  obtain ⟨p, e, s, m, args, below, meth, c, A, cells, slots, Q, rfl, hx, hb, hml, hown, hts, hK, hA, hc, hs⟩ := C
  intro H locs ls hP hD hS hl
  exact kk H locs ls hP hD hS (lv_sub hl ks hl')
theorem r_iadd (C : Cx l R D tys own cc nL Z) {a b : Nat} (hdg : decode cc pc = .ok (.iadd, 1)) (kk : Z w lv (pc + 1) (.int (nI (a + b)) :: st)) : Z w lv pc (.int (nI b) :: .int (nI a) :: st) := by
  obtain ⟨p, e, s, m, args, below, meth, c, A, cells, slots, Q, rfl, hx, hb, hml, hown, hts, hK, hA, hc, hs⟩ := C
  intro H locs ls hP hD hS hl
  exact lv_iadd hx hb hdg (by rw [nI_add]; exact kk H locs ls hP hD hS hl)
theorem r_iaddI (C : Cx l R D tys own cc nL Z) {x y z : Int32} (hdg : decode cc pc = .ok (.iadd, 1)) (hz : x + y = z) (kk : Z w lv (pc + 1) (.int z :: st)) : Z w lv pc (.int y :: .int x :: st) := by
  obtain ⟨p, e, s, m, args, below, meth, c, A, cells, slots, Q, rfl, hx, hb, hml, hown, hts, hK, hA, hc, hs⟩ := C
  intro H locs ls hP hD hS hl
  exact lv_iadd hx hb hdg (by rw [hz]; exact kk H locs ls hP hD hS hl)
theorem r_isub (C : Cx l R D tys own cc nL Z) {a b : Nat} (hdg : decode cc pc = .ok (.isub, 1)) (h : b ≤ a) (kk : Z w lv (pc + 1) (.int (nI (a - b)) :: st)) : Z w lv pc (.int (nI b) :: .int (nI a) :: st) := by
  obtain ⟨p, e, s, m, args, below, meth, c, A, cells, slots, Q, rfl, hx, hb, hml, hown, hts, hK, hA, hc, hs⟩ := C
  intro H locs ls hP hD hS hl
  exact lv_isub hx hb hdg (by rw [pk_sub h]; exact kk H locs ls hP hD hS hl)
theorem r_isubI (C : Cx l R D tys own cc nL Z) {x y z : Int32} (hdg : decode cc pc = .ok (.isub, 1)) (hz : x - y = z) (kk : Z w lv (pc + 1) (.int z :: st)) : Z w lv pc (.int y :: .int x :: st) := by
  obtain ⟨p, e, s, m, args, below, meth, c, A, cells, slots, Q, rfl, hx, hb, hml, hown, hts, hK, hA, hc, hs⟩ := C
  intro H locs ls hP hD hS hl
  exact lv_isub hx hb hdg (by rw [hz]; exact kk H locs ls hP hD hS hl)
theorem r_imul (C : Cx l R D tys own cc nL Z) {a b : Nat} (hdg : decode cc pc = .ok (.imul, 1)) (kk : Z w lv (pc + 1) (.int (nI (a * b)) :: st)) : Z w lv pc (.int (nI b) :: .int (nI a) :: st) := by
  obtain ⟨p, e, s, m, args, below, meth, c, A, cells, slots, Q, rfl, hx, hb, hml, hown, hts, hK, hA, hc, hs⟩ := C
  intro H locs ls hP hD hS hl
  exact lv_imul hx hb hdg (by rw [pk_mul]; exact kk H locs ls hP hD hS hl)
theorem r_irem (C : Cx l R D tys own cc nL Z) {a b : Nat} (hdg : decode cc pc = .ok (.irem, 1)) (ha : a < 2 ^ 31) (h0 : 0 < b) (h1 : b < 2 ^ 31) (kk : Z w lv (pc + 1) (.int (nI (a % b)) :: st)) : Z w lv pc (.int (nI b) :: .int (nI a) :: st) := by
  obtain ⟨p, e, s, m, args, below, meth, c, A, cells, slots, Q, rfl, hx, hb, hml, hown, hts, hK, hA, hc, hs⟩ := C
  intro H locs ls hP hD hS hl
  exact lv_irem hx hb hdg (nI_ne0 h0 h1) (by rw [pk_rem ha h0 h1]; exact kk H locs ls hP hD hS hl)
theorem r_idiv (C : Cx l R D tys own cc nL Z) {a b : Nat} (hdg : decode cc pc = .ok (.idiv, 1)) (ha : a < 2 ^ 31) (h0 : 0 < b) (h1 : b < 2 ^ 31) (kk : Z w lv (pc + 1) (.int (nI (a / b)) :: st)) : Z w lv pc (.int (nI b) :: .int (nI a) :: st) := by
  obtain ⟨p, e, s, m, args, below, meth, c, A, cells, slots, Q, rfl, hx, hb, hml, hown, hts, hK, hA, hc, hs⟩ := C
  intro H locs ls hP hD hS hl
  exact lv_idiv hx hb hdg (nI_ne0 h0 h1) (by rw [pk_div ha h0 h1]; exact kk H locs ls hP hD hS hl)
theorem r_iand (C : Cx l R D tys own cc nL Z) {x y z : Int32} (hdg : decode cc pc = .ok (.iand, 1)) (hz : x &&& y = z) (kk : Z w lv (pc + 1) (.int z :: st)) : Z w lv pc (.int y :: .int x :: st) := by
  obtain ⟨p, e, s, m, args, below, meth, c, A, cells, slots, Q, rfl, hx, hb, hml, hown, hts, hK, hA, hc, hs⟩ := C
  intro H locs ls hP hD hS hl
  exact lv_iand hx hb hdg (by rw [hz]; exact kk H locs ls hP hD hS hl)
theorem r_i2b (C : Cx l R D tys own cc nL Z) {a : Nat} (hdg : decode cc pc = .ok (.i2b, 1)) (ha : a < 128) (kk : Z w lv (pc + 1) (.int (nI a) :: st)) : Z w lv pc (.int (nI a) :: st) := by
  obtain ⟨p, e, s, m, args, below, meth, c, A, cells, slots, Q, rfl, hx, hb, hml, hown, hts, hK, hA, hc, hs⟩ := C
  intro H locs ls hP hD hS hl
  exact lv_i2b hx hb hdg (nI_b a ha) (kk H locs ls hP hD hS hl)
theorem r_dup (C : Cx l R D tys own cc nL Z) {a : Nat} (hdg : decode cc pc = .ok (.dup, 1)) (kk : Z w lv (pc + 1) (.ref a :: .ref a :: st)) : Z w lv pc (.ref a :: st) := by
  obtain ⟨p, e, s, m, args, below, meth, c, A, cells, slots, Q, rfl, hx, hb, hml, hown, hts, hK, hA, hc, hs⟩ := C
  intro H locs ls hP hD hS hl
  exact lv_dup hx hb hdg rfl (kk H locs ls hP hD hS hl)
theorem r_goto (C : Cx l R D tys own cc nL Z) {off : Int} (tgt : Nat) (hdg : decode cc pc = .ok (.goto off, 3)) (ht : (pc : Int) + off = (tgt : Int)) (kk : Z w lv tgt st) : Z w lv pc st := by
  obtain ⟨p, e, s, m, args, below, meth, c, A, cells, slots, Q, rfl, hx, hb, hml, hown, hts, hK, hA, hc, hs⟩ := C
  intro H locs ls hP hD hS hl
  exact lv_goto hx hb hdg ht (kk H locs ls hP hD hS hl)
/-- a value by another name -/
theorem r_top {a b : Nat} (h : a = b) (kk : Z w lv pc (.int (nI b) :: st)) : Z w lv pc (.int (nI a) :: st) := by rw [h]; exact kk
theorem r_topI {a b : Int32} (h : a = b) (kk : Z w lv pc (.int b :: st)) : Z w lv pc (.int a :: st) := by rw [h]; exact kk
theorem r_w (h : w = w') (kk : Z w' lv pc st) : Z w lv pc st := by rw [h]; exact kk
theorem r_icmp_eqI (C : Cx l R D tys own cc nL Z) {x y : Int32} {off : Int} (tgt : Nat) (hdg : decode cc pc = .ok (.if_icmp .eq off, 3)) (ht : (pc : Int) + off = (tgt : Int)) (kt : x = y → Z w lv tgt st) (kf : ¬ x = y → Z w lv (pc + 3) st) : Z w lv pc (.int y :: .int x :: st) := by
  obtain ⟨p, e, s, m, args, below, meth, c, A, cells, slots, Q, rfl, hx, hb, hml, hown, hts, hK, hA, hc, hs⟩ := C
  intro H locs ls hP hD hS hl
  exact lv_icmp_eq hx hb hdg ht (fun h => kt h H locs ls hP hD hS hl) (fun h => kf h H locs ls hP hD hS hl)
theorem r_icmp_eq (C : Cx l R D tys own cc nL Z) {a b : Nat} {off : Int} (tgt : Nat) (hdg : decode cc pc = .ok (.if_icmp .eq off, 3)) (ht : (pc : Int) + off = (tgt : Int)) (ha : a < 2 ^ 31) (hb : b < 2 ^ 31) (kt : a = b → Z w lv tgt st) (kf : a ≠ b → Z w lv (pc + 3) st) : Z w lv pc (.int (nI b) :: .int (nI a) :: st) :=
  r_icmp_eqI C tgt hdg ht (fun h => kt ((nI_eq ha hb).mp h)) (fun h => kf (fun q => h ((nI_eq ha hb).mpr q)))
theorem r_icmp_neI (C : Cx l R D tys own cc nL Z) {x y : Int32} {off : Int} (tgt : Nat) (hdg : decode cc pc = .ok (.if_icmp .ne off, 3)) (ht : (pc : Int) + off = (tgt : Int)) (kt : ¬ x = y → Z w lv tgt st) (kf : x = y → Z w lv (pc + 3) st) : Z w lv pc (.int y :: .int x :: st) := by
  obtain ⟨p, e, s, m, args, below, meth, c, A, cells, slots, Q, rfl, hx, hb, hml, hown, hts, hK, hA, hc, hs⟩ := C
  intro H locs ls hP hD hS hl
  exact lv_icmp_ne hx hb hdg ht (fun h => kt h H locs ls hP hD hS hl) (fun h => kf h H locs ls hP hD hS hl)
theorem r_icmp_ne (C : Cx l R D tys own cc nL Z) {a b : Nat} {off : Int} (tgt : Nat) (hdg : decode cc pc = .ok (.if_icmp .ne off, 3)) (ht : (pc : Int) + off = (tgt : Int)) (ha : a < 2 ^ 31) (hb : b < 2 ^ 31) (kt : a ≠ b → Z w lv tgt st) (kf : a = b → Z w lv (pc + 3) st) : Z w lv pc (.int (nI b) :: .int (nI a) :: st) :=
  r_icmp_neI C tgt hdg ht (fun h => kt (fun q => h ((nI_eq ha hb).mpr q))) (fun h => kf ((nI_eq ha hb).mp h))
theorem r_icmp_ltI (C : Cx l R D tys own cc nL Z) {x y : Int32} {off : Int} (tgt : Nat) (hdg : decode cc pc = .ok (.if_icmp .lt off, 3)) (ht : (pc : Int) + off = (tgt : Int)) (kt : x < y → Z w lv tgt st) (kf : ¬ x < y → Z w lv (pc + 3) st) : Z w lv pc (.int y :: .int x :: st) := by
  obtain ⟨p, e, s, m, args, below, meth, c, A, cells, slots, Q, rfl, hx, hb, hml, hown, hts, hK, hA, hc, hs⟩ := C
  intro H locs ls hP hD hS hl
  exact lv_icmp_lt hx hb hdg ht (fun h => kt h H locs ls hP hD hS hl) (fun h => kf h H locs ls hP hD hS hl)
theorem r_icmp_lt (C : Cx l R D tys own cc nL Z) {a b : Nat} {off : Int} (tgt : Nat) (hdg : decode cc pc = .ok (.if_icmp .lt off, 3)) (ht : (pc : Int) + off = (tgt : Int)) (ha : a < 2 ^ 31) (hb : b < 2 ^ 31) (kt : a < b → Z w lv tgt st) (kf : b ≤ a → Z w lv (pc + 3) st) : Z w lv pc (.int (nI b) :: .int (nI a) :: st) :=
  r_icmp_ltI C tgt hdg ht (fun h => kt ((nI_ltI ha hb).mp h)) (fun h => kf (by have h2 := mt (nI_ltI ha hb).mpr h; omega))
theorem r_icmp_geI (C : Cx l R D tys own cc nL Z) {x y : Int32} {off : Int} (tgt : Nat) (hdg : decode cc pc = .ok (.if_icmp .ge off, 3)) (ht : (pc : Int) + off = (tgt : Int)) (kt : y ≤ x → Z w lv tgt st) (kf : ¬ y ≤ x → Z w lv (pc + 3) st) : Z w lv pc (.int y :: .int x :: st) := by
  obtain ⟨p, e, s, m, args, below, meth, c, A, cells, slots, Q, rfl, hx, hb, hml, hown, hts, hK, hA, hc, hs⟩ := C
  intro H locs ls hP hD hS hl
  exact lv_icmp_ge hx hb hdg ht (fun h => kt h H locs ls hP hD hS hl) (fun h => kf h H locs ls hP hD hS hl)
theorem r_icmp_ge (C : Cx l R D tys own cc nL Z) {a b : Nat} {off : Int} (tgt : Nat) (hdg : decode cc pc = .ok (.if_icmp .ge off, 3)) (ht : (pc : Int) + off = (tgt : Int)) (ha : a < 2 ^ 31) (hb : b < 2 ^ 31) (kt : b ≤ a → Z w lv tgt st) (kf : a < b → Z w lv (pc + 3) st) : Z w lv pc (.int (nI b) :: .int (nI a) :: st) :=
  r_icmp_geI C tgt hdg ht (fun h => kt ((nI_leI hb ha).mp h)) (fun h => kf (by have h2 := mt (nI_leI hb ha).mpr h; omega))
theorem r_icmp_gtI (C : Cx l R D tys own cc nL Z) {x y : Int32} {off : Int} (tgt : Nat) (hdg : decode cc pc = .ok (.if_icmp .gt off, 3)) (ht : (pc : Int) + off = (tgt : Int)) (kt : y < x → Z w lv tgt st) (kf : ¬ y < x → Z w lv (pc + 3) st) : Z w lv pc (.int y :: .int x :: st) := by
  obtain ⟨p, e, s, m, args, below, meth, c, A, cells, slots, Q, rfl, hx, hb, hml, hown, hts, hK, hA, hc, hs⟩ := C
  intro H locs ls hP hD hS hl
  exact lv_icmp_gt hx hb hdg ht (fun h => kt h H locs ls hP hD hS hl) (fun h => kf h H locs ls hP hD hS hl)
theorem r_icmp_gt (C : Cx l R D tys own cc nL Z) {a b : Nat} {off : Int} (tgt : Nat) (hdg : decode cc pc = .ok (.if_icmp .gt off, 3)) (ht : (pc : Int) + off = (tgt : Int)) (ha : a < 2 ^ 31) (hb : b < 2 ^ 31) (kt : b < a → Z w lv tgt st) (kf : a ≤ b → Z w lv (pc + 3) st) : Z w lv pc (.int (nI b) :: .int (nI a) :: st) :=
  r_icmp_gtI C tgt hdg ht (fun h => kt ((nI_ltI hb ha).mp h)) (fun h => kf (by have h2 := mt (nI_ltI hb ha).mpr h; omega))
theorem r_icmp_leI (C : Cx l R D tys own cc nL Z) {x y : Int32} {off : Int} (tgt : Nat) (hdg : decode cc pc = .ok (.if_icmp .le off, 3)) (ht : (pc : Int) + off = (tgt : Int)) (kt : x ≤ y → Z w lv tgt st) (kf : ¬ x ≤ y → Z w lv (pc + 3) st) : Z w lv pc (.int y :: .int x :: st) := by
  obtain ⟨p, e, s, m, args, below, meth, c, A, cells, slots, Q, rfl, hx, hb, hml, hown, hts, hK, hA, hc, hs⟩ := C
  intro H locs ls hP hD hS hl
  exact lv_icmp_le hx hb hdg ht (fun h => kt h H locs ls hP hD hS hl) (fun h => kf h H locs ls hP hD hS hl)
theorem r_icmp_le (C : Cx l R D tys own cc nL Z) {a b : Nat} {off : Int} (tgt : Nat) (hdg : decode cc pc = .ok (.if_icmp .le off, 3)) (ht : (pc : Int) + off = (tgt : Int)) (ha : a < 2 ^ 31) (hb : b < 2 ^ 31) (kt : a ≤ b → Z w lv tgt st) (kf : b < a → Z w lv (pc + 3) st) : Z w lv pc (.int (nI b) :: .int (nI a) :: st) :=
  r_icmp_leI C tgt hdg ht (fun h => kt ((nI_leI ha hb).mp h)) (fun h => kf (by have h2 := mt (nI_leI ha hb).mpr h; omega))
theorem r_if_eqI (C : Cx l R D tys own cc nL Z) {x : Int32} {off : Int} (tgt : Nat) (hdg : decode cc pc = .ok (.ifCond .eq off, 3)) (ht : (pc : Int) + off = (tgt : Int)) (kt : x = 0 → Z w lv tgt st) (kf : ¬ x = 0 → Z w lv (pc + 3) st) : Z w lv pc (.int x :: st) := by
  obtain ⟨p, e, s, m, args, below, meth, c, A, cells, slots, Q, rfl, hx, hb, hml, hown, hts, hK, hA, hc, hs⟩ := C
  intro H locs ls hP hD hS hl
  exact lv_if_eq hx hb hdg ht (fun h => kt h H locs ls hP hD hS hl) (fun h => kf h H locs ls hP hD hS hl)
theorem r_if_neI (C : Cx l R D tys own cc nL Z) {x : Int32} {off : Int} (tgt : Nat) (hdg : decode cc pc = .ok (.ifCond .ne off, 3)) (ht : (pc : Int) + off = (tgt : Int)) (kt : ¬ x = 0 → Z w lv tgt st) (kf : x = 0 → Z w lv (pc + 3) st) : Z w lv pc (.int x :: st) := by
  obtain ⟨p, e, s, m, args, below, meth, c, A, cells, slots, Q, rfl, hx, hb, hml, hown, hts, hK, hA, hc, hs⟩ := C
  intro H locs ls hP hD hS hl
  exact lv_if_ne hx hb hdg ht (fun h => kt h H locs ls hP hD hS hl) (fun h => kf h H locs ls hP hD hS hl)
theorem r_if_ltI (C : Cx l R D tys own cc nL Z) {x : Int32} {off : Int} (tgt : Nat) (hdg : decode cc pc = .ok (.ifCond .lt off, 3)) (ht : (pc : Int) + off = (tgt : Int)) (kt : x < 0 → Z w lv tgt st) (kf : ¬ x < 0 → Z w lv (pc + 3) st) : Z w lv pc (.int x :: st) := by
  obtain ⟨p, e, s, m, args, below, meth, c, A, cells, slots, Q, rfl, hx, hb, hml, hown, hts, hK, hA, hc, hs⟩ := C
  intro H locs ls hP hD hS hl
  exact lv_if_lt hx hb hdg ht (fun h => kt h H locs ls hP hD hS hl) (fun h => kf h H locs ls hP hD hS hl)
theorem r_if_geI (C : Cx l R D tys own cc nL Z) {x : Int32} {off : Int} (tgt : Nat) (hdg : decode cc pc = .ok (.ifCond .ge off, 3)) (ht : (pc : Int) + off = (tgt : Int)) (kt : 0 ≤ x → Z w lv tgt st) (kf : ¬ 0 ≤ x → Z w lv (pc + 3) st) : Z w lv pc (.int x :: st) := by
  obtain ⟨p, e, s, m, args, below, meth, c, A, cells, slots, Q, rfl, hx, hb, hml, hown, hts, hK, hA, hc, hs⟩ := C
  intro H locs ls hP hD hS hl
  exact lv_if_ge hx hb hdg ht (fun h => kt h H locs ls hP hD hS hl) (fun h => kf h H locs ls hP hD hS hl)
theorem r_if_gtI (C : Cx l R D tys own cc nL Z) {x : Int32} {off : Int} (tgt : Nat) (hdg : decode cc pc = .ok (.ifCond .gt off, 3)) (ht : (pc : Int) + off = (tgt : Int)) (kt : 0 < x → Z w lv tgt st) (kf : ¬ 0 < x → Z w lv (pc + 3) st) : Z w lv pc (.int x :: st) := by
  obtain ⟨p, e, s, m, args, below, meth, c, A, cells, slots, Q, rfl, hx, hb, hml, hown, hts, hK, hA, hc, hs⟩ := C
  intro H locs ls hP hD hS hl
  exact lv_if_gt hx hb hdg ht (fun h => kt h H locs ls hP hD hS hl) (fun h => kf h H locs ls hP hD hS hl)
theorem r_if_leI (C : Cx l R D tys own cc nL Z) {x : Int32} {off : Int} (tgt : Nat) (hdg : decode cc pc = .ok (.ifCond .le off, 3)) (ht : (pc : Int) + off = (tgt : Int)) (kt : x ≤ 0 → Z w lv tgt st) (kf : ¬ x ≤ 0 → Z w lv (pc + 3) st) : Z w lv pc (.int x :: st) := by
  obtain ⟨p, e, s, m, args, below, meth, c, A, cells, slots, Q, rfl, hx, hb, hml, hown, hts, hK, hA, hc, hs⟩ := C
  intro H locs ls hP hD hS hl
  exact lv_if_le hx hb hdg ht (fun h => kt h H locs ls hP hD hS hl) (fun h => kf h H locs ls hP hD hS hl)
theorem r_if_eq (C : Cx l R D tys own cc nL Z) {a : Nat} {off : Int} (tgt : Nat) (hdg : decode cc pc = .ok (.ifCond .eq off, 3)) (ht : (pc : Int) + off = (tgt : Int)) (ha : a < 2 ^ 31) (kt : a = 0 → Z w lv tgt st) (kf : a ≠ 0 → Z w lv (pc + 3) st) : Z w lv pc (.int (nI a) :: st) :=
  r_if_eqI C tgt hdg ht (fun h => kt ((nI_eq0 ha).mp h)) (fun h => kf (fun q => h ((nI_eq0 ha).mpr q)))
theorem r_if_ne (C : Cx l R D tys own cc nL Z) {a : Nat} {off : Int} (tgt : Nat) (hdg : decode cc pc = .ok (.ifCond .ne off, 3)) (ht : (pc : Int) + off = (tgt : Int)) (ha : a < 2 ^ 31) (kt : a ≠ 0 → Z w lv tgt st) (kf : a = 0 → Z w lv (pc + 3) st) : Z w lv pc (.int (nI a) :: st) :=
  r_if_neI C tgt hdg ht (fun h => kt (fun q => h ((nI_eq0 ha).mpr q))) (fun h => kf ((nI_eq0 ha).mp h))
theorem r_if_lt (C : Cx l R D tys own cc nL Z) {a : Nat} {off : Int} (tgt : Nat) (hdg : decode cc pc = .ok (.ifCond .lt off, 3)) (ht : (pc : Int) + off = (tgt : Int)) (ha : a < 2 ^ 31) (kf : Z w lv (pc + 3) st) : Z w lv pc (.int (nI a) :: st) :=
  r_if_ltI C tgt hdg ht (fun h => absurd h (nI_pos ha)) (fun _ => kf)
/-- a field read -/
theorem r_get (C : Cx l R D tys own cc nL Z) {index ci N : Nat} {CC : String} {T : u_T} {a q0 : Nat} {fs : List Value} {v : Value} (k : Nat) (hk : k < N) (hin : ∀ w ∈ u_ws CC T N, w ∈ lw_all) (he : w[q0]? = some (a, .inr (ci, fs))) (hc : vwCl[ci]? = some (CC, T, N)) (hlink : Cond.fieldLink own index (T k).1 (T k).2.1 (T k).2.2.1 ∈ lw_all) (hv : fs[k]? = some v) (hdg : decode cc pc = .ok (.getfield index, 3)) (kk : Z w lv (pc + 3) (v :: st)) : Z w lv pc (.ref a :: st) := by
  obtain ⟨p, e, s, m, args, below, meth, c, A, cells, slots, Q, rfl, hx, hb, hml, hown, hts, hK, hA, hcc, hs⟩ := C
  intro H locs ls hP hD hS hl
  exact va_get hx hb hts hin hown hK hP q0 he hc k hk (hts _ hlink) (fun _ h => h) hv hdg (kk H locs ls hP hD hS hl)
/-- a field written (not final) -/
theorem r_put (C : Cx l R D tys own cc nL Z) {index ci N : Nat} {CC : String} {T : u_T} {a q0 : Nat} {fs : List Value} {v : Value} {ty : FieldType} (k : Nat) (hk : k < N) (hin : ∀ w ∈ u_ws CC T N, w ∈ lw_all) (ty0 : Nat → FieldType) (hty : ∀ k, k < N → parseFieldDescriptor (T k).2.2.1 = some (ty0 k)) (hnm : ∀ a, a < N → ∀ b, b < N → a ≠ b → (T a).2.1 ≠ (T b).2.1) (he : w[q0]? = some (a, .inr (ci, fs))) (hc : vwCl[ci]? = some (CC, T, N)) (hlink : Cond.fieldLink own index (T k).1 (T k).2.1 (T k).2.2.1 ∈ lw_all) (hfin : (T k).2.2.2 = false) (hd : parseFieldDescriptor (T k).2.2.1 = some ty) (hn : narrow ty v = v) (hfit : fits ty v = true) (hl' : k < fs.length) (hw : w.set q0 (a, .inr (ci, fs.set k v)) = w') (hdg : decode cc pc = .ok (.putfield index, 3)) (kk : Z w' lv (pc + 3) st) : Z w lv pc (v :: .ref a :: st) := by
  obtain ⟨p, e, s, m, args, below, meth, c, A, cells, slots, Q, rfl, hx, hb, hml, hown, hts, hK, hA, hcc, hs⟩ := C
  intro H locs ls hP hD hS hl
  subst hw
  exact va_put hx hb hts hin ty0 hty hnm hown hK hP hD hS q0 he hc k hk (hts _ hlink) (fun _ h => h) hfin hd hn hfit hl' hdg (fun H1 locs1 hP1 hD1 hS1 => kk H1 locs1 ls hP1 hD1 hS1 hl)
theorem r_bald (C : Cx l R D tys own cc nL Z) {a n i : Nat} {cA : ClassId} {f : Nat → Int32} {v : Int32} (q0 t0 : Nat) (ha : w[q0]? = some (a, .inl (cA, n, .inl f))) (ht : tys[t0]? = some (cA, .byte)) (hi : i < n) (hn : n < 2 ^ 31) (hv : f i = v) (hdg : decode cc pc = .ok (.baload, 1)) (kk : Z w lv (pc + 1) (.int v :: st)) : Z w lv pc (.int (nI i) :: .ref a :: st) := by
  obtain ⟨p, e, s, m, args, below, meth, c, A, cells, slots, Q, rfl, hx, hb, hml, hown, hts, hK, hA, hcc, hs⟩ := C
  intro H locs ls hP hD hS hl
  exact va_bald hx hb hK hP q0 t0 ha ht (vp_in_nI hi hn) hdg (by rw [nI_clamp (by omega), hv]; exact kk H locs ls hP hD hS hl)
theorem r_iald (C : Cx l R D tys own cc nL Z) {a n i : Nat} {cA : ClassId} {f : Nat → Int32} {v : Int32} (q0 t0 : Nat) (ha : w[q0]? = some (a, .inl (cA, n, .inl f))) (ht : tys[t0]? = some (cA, .int)) (hi : i < n) (hn : n < 2 ^ 31) (hv : f i = v) (hdg : decode cc pc = .ok (.iaload, 1)) (kk : Z w lv (pc + 1) (.int v :: st)) : Z w lv pc (.int (nI i) :: .ref a :: st) := by
  obtain ⟨p, e, s, m, args, below, meth, c, A, cells, slots, Q, rfl, hx, hb, hml, hown, hts, hK, hA, hcc, hs⟩ := C
  intro H locs ls hP hD hS hl
  exact va_iald hx hb hK hP q0 t0 ha ht (vp_in_nI hi hn) hdg (by rw [nI_clamp (by omega), hv]; exact kk H locs ls hP hD hS hl)
theorem r_bast (C : Cx l R D tys own cc nL Z) {a n i : Nat} {x : Int32} {cA : ClassId} {f : Nat → Int32} (q0 t0 : Nat) (ha : w[q0]? = some (a, .inl (cA, n, .inl f))) (ht : tys[t0]? = some (cA, .byte)) (hi : i < n) (hn : n < 2 ^ 31) (hx' : vp_nar .byte x = x) (hw : w.set q0 (a, .inl (cA, n, .inl (upd f i x))) = w') (hdg : decode cc pc = .ok (.bastore, 1)) (kk : Z w' lv (pc + 1) st) : Z w lv pc (.int x :: .int (nI i) :: .ref a :: st) := by
  obtain ⟨p, e, s, m, args, below, meth, c, A, cells, slots, Q, rfl, hx, hb, hml, hown, hts, hK, hA, hcc, hs⟩ := C
  intro H locs ls hP hD hS hl
  subst hw
  refine va_bast hx hb hK hP hD hS q0 t0 ha ht (vp_in_nI hi hn) hdg (fun H1 locs1 hP1 hD1 hS1 => ?_)
  rw [nI_clamp (by omega), hx'] at hP1 hD1
  exact kk H1 locs1 ls hP1 hD1 hS1 hl
theorem r_iast (C : Cx l R D tys own cc nL Z) {a n i : Nat} {x : Int32} {cA : ClassId} {f : Nat → Int32} (q0 t0 : Nat) (ha : w[q0]? = some (a, .inl (cA, n, .inl f))) (ht : tys[t0]? = some (cA, .int)) (hi : i < n) (hn : n < 2 ^ 31) (hw : w.set q0 (a, .inl (cA, n, .inl (upd f i x))) = w') (hdg : decode cc pc = .ok (.iastore, 1)) (kk : Z w' lv (pc + 1) st) : Z w lv pc (.int x :: .int (nI i) :: .ref a :: st) := by
  obtain ⟨p, e, s, m, args, below, meth, c, A, cells, slots, Q, rfl, hx, hb, hml, hown, hts, hK, hA, hcc, hs⟩ := C
  intro H locs ls hP hD hS hl
  subst hw
  refine va_iast hx hb hK hP hD hS q0 t0 ha ht (vp_in_nI hi hn) hdg (fun H1 locs1 hP1 hD1 hS1 => ?_)
  rw [nI_clamp (by omega)] at hP1 hD1
  exact kk H1 locs1 ls hP1 hD1 hS1 hl
/-- an array by another function that agrees on its places -/
theorem r_re (C : Cx l R D tys own cc nL Z) {a n : Nat} {cA : ClassId} {f g : Nat → Int32} (q0 : Nat) (ha : w[q0]? = some (a, .inl (cA, n, .inl f))) (hfg : ∀ j, j < n → f j = g j) (hw : w.set q0 (a, .inl (cA, n, .inl g)) = w') (kk : Z w' lv pc st) : Z w lv pc st := by
  obtain ⟨p, e, s, m, args, below, meth, c, A, cells, slots, Q, rfl, hx, hb, hml, hown, hts, hK, hA, hcc, hs⟩ := C
  intro H locs ls hP hD hS hl
  subst hw
  refine kk H locs ls (hP.set hD ha ?_ (fun _ _ => rfl)) (hD.set ha) hS hl
  show H[a]? = some (vp_cell _ _)
  rw [show H[a]? = some (vp_cell cA (n, .inl f)) from hP q0 _ ha, vp_cell_i, vp_cell_i]
  congr 1
  unfold arrV
  congr 1
  apply Array.ext
  · simp
  · intro i h1 h2
    simp at h1
    simp [hfg i h1]
end
/-! contracts -/
def MI (l : Launch) (D : va_G) (tys : List (ClassId × FieldType)) (y : MethodName) (bytes : ByteArray) (maxL : Nat) (ret : FieldType) (rm : Room) (av : List Value) (w : va_W) {S : Type} (post : Int32 → S → Prop) (w' : S → va_W) : Prop :=
  ∀ sz : Nat, Met l y (ws_ y bytes maxL (some ret)) rm (va_Pc av (fun U => U.heap.size = sz ∧ va_P D vwCl w U.heap ∧ va_K D vwCl tys U ∧ va_D (fun _ => True) w)) (va_Qi post (fun u t => va_P D vwCl (w' u) t.heap ∧ va_K D vwCl tys t ∧ va_D (va_A w sz) (w' u)) (va_A w sz)) 0 0 (va_A w sz)
def MV (l : Launch) (D : va_G) (tys : List (ClassId × FieldType)) (y : MethodName) (bytes : ByteArray) (maxL : Nat) (rm : Room) (av : List Value) (w : va_W) {S : Type} (post : S → Prop) (w' : S → va_W) : Prop :=
  ∀ sz : Nat, Met l y (ws_ y bytes maxL none) rm (va_Pc av (fun U => U.heap.size = sz ∧ va_P D vwCl w U.heap ∧ va_K D vwCl tys U ∧ va_D (fun _ => True) w)) (va_Qv post (fun u t => va_P D vwCl (w' u) t.heap ∧ va_K D vwCl tys t ∧ va_D (va_A w sz) (w' u)) (va_A w sz)) 0 0 (va_A w sz)
theorem MI_of {l : Launch} {D : va_G} {tys : List (ClassId × FieldType)} {y : MethodName} {bytes : ByteArray} {maxL : Nat} {ret : FieldType} {rm : Room} {av : List Value} {w : va_W} {S : Type} {post : Int32 → S → Prop} {w' : S → va_W} (own : String) (hy : plainName y.cls = true) (ho : y.cls = own) (hav : (lg_sl av).length ≤ maxL) (lv : List (Nat × Value)) (hlv : lv_args 0 av = lv)
    (h : ∀ Z : zz_J, Cx l rm D tys own bytes maxL Z → (∀ (u : S) (r : Int32) (lv : List (Nat × Value)) (pc : Nat), decode bytes pc = .ok (.ireturn, 1) → narrow ret (.int r) = .int r → post r u → Z (w' u) lv pc [.int r]) → Z w lv 0 []) : MI l D tys y bytes maxL ret rm av w post w' := by
  intro sz
  refine Met.ofW (cc := bytes) (maxL := maxL) (ret := some ret) hy rfl ?_
  intro p e s m args below meth c s₁ B hml hv
  obtain ⟨rfl, hsz, hP, hK, hD0⟩ := hv
  have hts := atoms_spec (ws := ws_ y bytes maxL (some ret)) B.pre
  have hts : ∀ w ∈ lw_all, w.before _ s = true := fun w h => hts w (List.mem_cons_of_mem _ h)
  have hown : s.vm.findClass y.cls = some m.cls := findClass_of_methodNamed B.named
  rw [ho] at hown
  have hlocks := B.notSynchronized
  subst hsz
  have hD := hD0.self (sz := s.heap.size)
  generalize hAe : va_A w s.heap.size = A at hD ⊢
  have hA : ∀ q : Nat, s.heap.size ≤ q → A q := fun q h => by rw [← hAe]; exact Or.inr h
  have hl := lv_entry av (n := maxL) hav
  rw [lg_entry_eq]
  rw [hlv] at hl
  exact h (zz_at p l e rm s m av.toArray below meth c D A maxL 0 0 (MQ below (va_Qi post (fun u t => va_P D vwCl (w' u) t.heap ∧ va_K D vwCl tys t ∧ va_D A (w' u)) A) av.toArray s 0 0 A)) ⟨p, e, s, m, av.toArray, below, meth, c, A, 0, 0, _, rfl, B.exec, B.bytes, hml, hown, hts, hK, hA, Nat.zero_le _, Nat.zero_le _⟩
    (fun u r lv pc hdg hn hp H locs ls hP hD hS hl => W.zret (v := r) B.exec B.bytes B.returns hn (fun t ht hW => ⟨⟨r, u, rfl, hp, by rw [ht]; exact hP, va_K.moved hW.alike hK, hD⟩, hS.F ht⟩) hS.2.2 hdg hlocks)
    s.heap [] _ hP hD va_S.rf hl
theorem MV_of {l : Launch} {D : va_G} {tys : List (ClassId × FieldType)} {y : MethodName} {bytes : ByteArray} {maxL : Nat} {rm : Room} {av : List Value} {w : va_W} {S : Type} {post : S → Prop} {w' : S → va_W} (own : String) (hy : plainName y.cls = true) (ho : y.cls = own) (hav : (lg_sl av).length ≤ maxL) (lv : List (Nat × Value)) (hlv : lv_args 0 av = lv)
    (h : ∀ Z : zz_J, Cx l rm D tys own bytes maxL Z → (∀ (u : S) (lv : List (Nat × Value)) (pc : Nat), decode bytes pc = .ok (.return_, 1) → post u → Z (w' u) lv pc []) → Z w lv 0 []) : MV l D tys y bytes maxL rm av w post w' := by
  intro sz
  refine Met.ofW (cc := bytes) (maxL := maxL) (ret := none) hy rfl ?_
  intro p e s m args below meth c s₁ B hml hv
  obtain ⟨rfl, hsz, hP, hK, hD0⟩ := hv
  have hts := atoms_spec (ws := ws_ y bytes maxL none) B.pre
  have hts : ∀ w ∈ lw_all, w.before _ s = true := fun w h => hts w (List.mem_cons_of_mem _ h)
  have hown : s.vm.findClass y.cls = some m.cls := findClass_of_methodNamed B.named
  rw [ho] at hown
  have hlocks := B.notSynchronized
  subst hsz
  have hD := hD0.self (sz := s.heap.size)
  generalize hAe : va_A w s.heap.size = A at hD ⊢
  have hA : ∀ q : Nat, s.heap.size ≤ q → A q := fun q h => by rw [← hAe]; exact Or.inr h
  have hl := lv_entry av (n := maxL) hav
  rw [lg_entry_eq]
  rw [hlv] at hl
  exact h (zz_at p l e rm s m av.toArray below meth c D A maxL 0 0 (MQ below (va_Qv post (fun u t => va_P D vwCl (w' u) t.heap ∧ va_K D vwCl tys t ∧ va_D A (w' u)) A) av.toArray s 0 0 A)) ⟨p, e, s, m, av.toArray, below, meth, c, A, 0, 0, _, rfl, B.exec, B.bytes, hml, hown, hts, hK, hA, Nat.zero_le _, Nat.zero_le _⟩
    (fun u lv pc hdg hp H locs ls hP hD hS hl => W.vret B.exec B.bytes B.returns (fun t ht hW => ⟨⟨u, rfl, hp, by rw [ht]; exact hP, va_K.moved hW.alike hK, hD⟩, hS.F ht⟩) hS.2.2 hdg hlocks)
    s.heap [] _ hP hD va_S.rf hl
section
variable {l : Launch} {R : Room} {D : va_G} {tys : List (ClassId × FieldType)} {own : String} {cc : ByteArray} {nL : Nat} {Z : zz_J} {w : va_W} {lv : List (Nat × Value)} {pc : Nat} {st : List Value}
variable {y : MethodName} {bytes : ByteArray} {maxL index nA : Nat} {rm : Room} {S : Type} {w' : S → va_W} {b ci N : Nat} {CC : String} {T : u_T} {fs As rest : List Value}
/-- a call on the whole world, with an int as its answer -/
theorem r_calli (C : Cx l R D tys own cc nL Z) {ret : FieldType} {post : Int32 → S → Prop} (As : List Value) (hM : MI l D tys y bytes maxL ret rm (.ref b :: As) w post w') (hst : st = As.reverse ++ .ref b :: rest) (hG : GoodIn lw_all (wsV own index CC y (ws_ y bytes maxL (some ret)))) (hd : y.cls = CC ∧ y.cls ≠ "java/lang/invoke/MethodHandle" ∧ y.cls ≠ "java/lang/invoke/VarHandle" ∧ (parseMethodDescriptor y.desc).map (fun d => d.parameters.length) = some nA) (hnA : As.length = nA)
    (h0 : rm.cells = 0 ∧ rm.slots = 0) (hR : rm.frames + 1 ≤ R.frames ∧ 8 + (maxL + 11) + rm.locals ≤ R.locals) (hcl : vwCl[ci]? = some (CC, T, N)) (hw0 : w[0]? = some (b, .inr (ci, fs))) (hrest : (rest.map fun v => v.category).sum ≤ 8) (hdg : decode cc pc = .ok (.invokevirtual index, 3))
    (kk : ∀ (r : Int32) (u : S), post r u → Z (w' u) lv (pc + 3) (.int r :: rest)) : Z w lv pc st := by
  obtain ⟨p, e, s, m, args, below, meth, c, A, cells, slots, Q, rfl, hx, hb, hml, hown, hts, hK, hA, hcc, hs⟩ := C
  intro H locs ls hP hD hS hl
  subst hst
  have hFc : ∀ q, va_A w H.size q → A q := by
    rintro q (⟨k, e, h⟩ | h)
    · exact hD.2 k _ h
    · exact hA q (Nat.le_trans hS.1 h)
  refine va_calli (va_runV (As := As) (rest := rest) ⟨hx, hb, hml, hown, hts⟩ (hM H.size) (cwV nA hts hG rfl h0.1 h0.2 hd hR) ⟨fun a U g mk q => by obtain ⟨q0, q1, qP, qK, qD⟩ := q; exact ⟨q0, q1, qP, va_K.moved (u := U) (U := U.calling g mk a) (Vm.Alike.refl U.vm) qK, qD⟩, va_recv hK hP (ci := ci) (q0 := 0) hcl hw0, fun U hU hW => ⟨rfl, by rw [hU], by rw [hU]; exact hP, va_K.moved hW.alike hK, hD.weaken (fun _ _ _ _ => trivial)⟩⟩ rfl hnA hl.1 rfl (lv_room hrest) hdg ⟨hcc, hs⟩) hS (fun q _ h => hFc q h) hFc (fun r u t H1 locs1 ht hvm hpost hB hz1 hk1 hS1 => ?_)
  exact kk r u hpost H1 locs1 ls (by rw [← ht]; exact hB.1) (hB.2.2.weaken (fun k q _ h => hFc q.1 h)) hS1 hl
theorem r_callv (C : Cx l R D tys own cc nL Z) {post : S → Prop} (As : List Value) (hM : MV l D tys y bytes maxL rm (.ref b :: As) w post w') (hst : st = As.reverse ++ .ref b :: rest) (hG : GoodIn lw_all (wsV own index CC y (ws_ y bytes maxL none))) (hd : y.cls = CC ∧ y.cls ≠ "java/lang/invoke/MethodHandle" ∧ y.cls ≠ "java/lang/invoke/VarHandle" ∧ (parseMethodDescriptor y.desc).map (fun d => d.parameters.length) = some nA) (hnA : As.length = nA)
    (h0 : rm.cells = 0 ∧ rm.slots = 0) (hR : rm.frames + 1 ≤ R.frames ∧ 8 + (maxL + 11) + rm.locals ≤ R.locals) (hcl : vwCl[ci]? = some (CC, T, N)) (hw0 : w[0]? = some (b, .inr (ci, fs))) (hrest : (rest.map fun v => v.category).sum ≤ 8) (hdg : decode cc pc = .ok (.invokevirtual index, 3))
    (kk : ∀ (u : S), post u → Z (w' u) lv (pc + 3) rest) : Z w lv pc st := by
  obtain ⟨p, e, s, m, args, below, meth, c, A, cells, slots, Q, rfl, hx, hb, hml, hown, hts, hK, hA, hcc, hs⟩ := C
  intro H locs ls hP hD hS hl
  subst hst
  have hFc : ∀ q, va_A w H.size q → A q := by
    rintro q (⟨k, e, h⟩ | h)
    · exact hD.2 k _ h
    · exact hA q (Nat.le_trans hS.1 h)
  refine va_callv (va_runV (As := As) (rest := rest) ⟨hx, hb, hml, hown, hts⟩ (hM H.size) (cwV nA hts hG rfl h0.1 h0.2 hd hR) ⟨fun a U g mk q => by obtain ⟨q0, q1, qP, qK, qD⟩ := q; exact ⟨q0, q1, qP, va_K.moved (u := U) (U := U.calling g mk a) (Vm.Alike.refl U.vm) qK, qD⟩, va_recv hK hP (ci := ci) (q0 := 0) hcl hw0, fun U hU hW => ⟨rfl, by rw [hU], by rw [hU]; exact hP, va_K.moved hW.alike hK, hD.weaken (fun _ _ _ _ => trivial)⟩⟩ rfl hnA hl.1 rfl (lv_room hrest) hdg ⟨hcc, hs⟩) hS (fun q _ h => hFc q h) hFc (fun u t H1 locs1 ht hvm hpost hB hz1 hk1 hS1 => ?_)
  exact kk u hpost H1 locs1 ls (by rw [← ht]; exact hB.1) (hB.2.2.weaken (fun k q _ h => hFc q.1 h)) hS1 hl
end
/-- loops: up to N, and down to 0 -/
theorem nd_up {P : Nat → Prop} (N : Nat) (h0 : P N) (hs : ∀ i, i < N → P (i + 1) → P i) : ∀ i, i ≤ N → P i := by
  intro i hi
  obtain ⟨k, rfl⟩ : ∃ k, N = i + k := ⟨N - i, by omega⟩
  clear hi
  induction k generalizing i with
  | zero => exact h0
  | succ k ih =>
    refine hs i (by omega) ?_
    refine ih (i + 1) ?_ ?_
    · rw [show i + 1 + k = i + (k + 1) by omega]; exact h0
    · intro j hj h
      exact hs j (by omega) h
end
section
/-! the class' world: its object and its eight arrays -/
set_option maxRecDepth 100000
def LWo (ad : Nat → Nat) (q lim size wsz rows cols rank rl : Nat) : List Value := [.int (nI q), .int (nI lim), .ref (ad 1), .int (nI size), .ref (ad 2), .int (nI wsz), .ref (ad 3), .ref (ad 4), .ref (ad 5), .ref (ad 6), .int (nI rows), .int (nI cols), .int (nI rank), .ref (ad 7), .int (nI rl), .ref (ad 8)]
def LW (ad : Nat → Nat) (dB : ClassId) (q lim size wsz rows cols rank rl : Nat) (sym work poly old copy : Nat → Nat) (M : Nat → Nat → Nat) (piv reg : Nat → Nat) : va_W :=
  [(ad 0, .inr (0, LWo ad q lim size wsz rows cols rank rl)), (ad 1, .inl (dB, 12, .inl (fun j => nI (sym j)))), (ad 2, .inl (dB, 64, .inl (fun j => nI (work j)))), (ad 3, .inl (dB, 32, .inl (fun j => nI (poly j)))), (ad 4, .inl (dB, 32, .inl (fun j => nI (old j)))), (ad 5, .inl (dB, 32, .inl (fun j => nI (copy j)))), (ad 6, .inl (dB, 196, .inl (fun j => nI (M (j / 14) (j % 14))))), (ad 7, .inl (dB, 14, .inl (fun j => nI (piv j) - 1))), (ad 8, .inl (dB, 14, .inl (fun j => nI (reg j))))]
/-- a cell of the equations written -/
def up2 (M : Nat → Nat → Nat) (i c v : Nat) : Nat → Nat → Nat := fun a b => if a = i ∧ b = c then v else M a b
theorem upd_M (M : Nat → Nat → Nat) (i c v : Nat) (hc : c < 14) : upd (fun j => nI (M (j / 14) (j % 14))) (i * 14 + c) (nI v) = fun j => nI (up2 M i c v (j / 14) (j % 14)) := by
  funext j
  simp only [upd, up2]
  by_cases h : j = i * 14 + c
  · rw [if_pos h, if_pos (by omega)]
  · rw [if_neg h, if_neg (by omega)]
theorem upd_piv (f : Nat → Nat) (k v : Nat) : upd (fun j => nI (f j) - 1) k (nI v - 1) = fun j => nI (va_up f k v j) - 1 := by
  funext j
  simp only [upd, va_up]
  split <;> rfl
theorem piv_some (r : Nat) : nI (r + 1) - 1 = nI r := by rw [← nI_1]; grind
theorem piv_none : nI 0 - 1 = -1 := by decide
theorem nar_m1 : vp_nar .byte (-1) = -1 := by decide
section
variable {l : Launch} {R : Room} {D : va_G} {dB : ClassId} {cc : ByteArray} {nL : Nat} {Z : zz_J} {lv : List (Nat × Value)} {pc : Nat} {st : List Value} {ad : Nat → Nat} {q lim size wsz rows cols rank rl : Nat} {sym work poly old copy : Nat → Nat} {M : Nat → Nat → Nat} {piv reg : Nat → Nat}
theorem Lg_q (C : Cx l R D [(dB, .byte)] RX1 cc nL Z) (hdg : decode cc pc = .ok (.getfield 34, 3)) (kk : Z (LW ad dB q lim size wsz rows cols rank rl sym work poly old copy M piv reg) lv (pc + 3) (.int (nI q) :: st)) : Z (LW ad dB q lim size wsz rows cols rank rl sym work poly old copy M piv reg) lv pc (.ref (ad 0) :: st) :=
  r_get C (q0 := 0) (ci := 0) 0 (by decide) in_X1 rfl rfl q36 rfl hdg kk
theorem Lg_limit (C : Cx l R D [(dB, .byte)] RX1 cc nL Z) (hdg : decode cc pc = .ok (.getfield 38, 3)) (kk : Z (LW ad dB q lim size wsz rows cols rank rl sym work poly old copy M piv reg) lv (pc + 3) (.int (nI lim) :: st)) : Z (LW ad dB q lim size wsz rows cols rank rl sym work poly old copy M piv reg) lv pc (.ref (ad 0) :: st) :=
  r_get C (q0 := 0) (ci := 0) 1 (by decide) in_X1 rfl rfl q37 rfl hdg kk
theorem Lg_symbols (C : Cx l R D [(dB, .byte)] RX1 cc nL Z) (hdg : decode cc pc = .ok (.getfield 7, 3)) (kk : Z (LW ad dB q lim size wsz rows cols rank rl sym work poly old copy M piv reg) lv (pc + 3) (.ref (ad 1) :: st)) : Z (LW ad dB q lim size wsz rows cols rank rl sym work poly old copy M piv reg) lv pc (.ref (ad 0) :: st) :=
  r_get C (q0 := 0) (ci := 0) 2 (by decide) in_X1 rfl rfl q38 rfl hdg kk
theorem Lg_size (C : Cx l R D [(dB, .byte)] RX1 cc nL Z) (hdg : decode cc pc = .ok (.getfield 45, 3)) (kk : Z (LW ad dB q lim size wsz rows cols rank rl sym work poly old copy M piv reg) lv (pc + 3) (.int (nI size) :: st)) : Z (LW ad dB q lim size wsz rows cols rank rl sym work poly old copy M piv reg) lv pc (.ref (ad 0) :: st) :=
  r_get C (q0 := 0) (ci := 0) 3 (by decide) in_X1 rfl rfl q39 rfl hdg kk
theorem Lg_work (C : Cx l R D [(dB, .byte)] RX1 cc nL Z) (hdg : decode cc pc = .ok (.getfield 13, 3)) (kk : Z (LW ad dB q lim size wsz rows cols rank rl sym work poly old copy M piv reg) lv (pc + 3) (.ref (ad 2) :: st)) : Z (LW ad dB q lim size wsz rows cols rank rl sym work poly old copy M piv reg) lv pc (.ref (ad 0) :: st) :=
  r_get C (q0 := 0) (ci := 0) 4 (by decide) in_X1 rfl rfl q40 rfl hdg kk
theorem Lg_workSize (C : Cx l R D [(dB, .byte)] RX1 cc nL Z) (hdg : decode cc pc = .ok (.getfield 48, 3)) (kk : Z (LW ad dB q lim size wsz rows cols rank rl sym work poly old copy M piv reg) lv (pc + 3) (.int (nI wsz) :: st)) : Z (LW ad dB q lim size wsz rows cols rank rl sym work poly old copy M piv reg) lv pc (.ref (ad 0) :: st) :=
  r_get C (q0 := 0) (ci := 0) 5 (by decide) in_X1 rfl rfl q41 rfl hdg kk
theorem Lg_poly (C : Cx l R D [(dB, .byte)] RX1 cc nL Z) (hdg : decode cc pc = .ok (.getfield 16, 3)) (kk : Z (LW ad dB q lim size wsz rows cols rank rl sym work poly old copy M piv reg) lv (pc + 3) (.ref (ad 3) :: st)) : Z (LW ad dB q lim size wsz rows cols rank rl sym work poly old copy M piv reg) lv pc (.ref (ad 0) :: st) :=
  r_get C (q0 := 0) (ci := 0) 6 (by decide) in_X1 rfl rfl q42 rfl hdg kk
theorem Lg_old (C : Cx l R D [(dB, .byte)] RX1 cc nL Z) (hdg : decode cc pc = .ok (.getfield 19, 3)) (kk : Z (LW ad dB q lim size wsz rows cols rank rl sym work poly old copy M piv reg) lv (pc + 3) (.ref (ad 4) :: st)) : Z (LW ad dB q lim size wsz rows cols rank rl sym work poly old copy M piv reg) lv pc (.ref (ad 0) :: st) :=
  r_get C (q0 := 0) (ci := 0) 7 (by decide) in_X1 rfl rfl q43 rfl hdg kk
theorem Lg_copy (C : Cx l R D [(dB, .byte)] RX1 cc nL Z) (hdg : decode cc pc = .ok (.getfield 22, 3)) (kk : Z (LW ad dB q lim size wsz rows cols rank rl sym work poly old copy M piv reg) lv (pc + 3) (.ref (ad 5) :: st)) : Z (LW ad dB q lim size wsz rows cols rank rl sym work poly old copy M piv reg) lv pc (.ref (ad 0) :: st) :=
  r_get C (q0 := 0) (ci := 0) 8 (by decide) in_X1 rfl rfl q44 rfl hdg kk
theorem Lg_cells (C : Cx l R D [(dB, .byte)] RX1 cc nL Z) (hdg : decode cc pc = .ok (.getfield 25, 3)) (kk : Z (LW ad dB q lim size wsz rows cols rank rl sym work poly old copy M piv reg) lv (pc + 3) (.ref (ad 6) :: st)) : Z (LW ad dB q lim size wsz rows cols rank rl sym work poly old copy M piv reg) lv pc (.ref (ad 0) :: st) :=
  r_get C (q0 := 0) (ci := 0) 9 (by decide) in_X1 rfl rfl q45 rfl hdg kk
theorem Lg_rows (C : Cx l R D [(dB, .byte)] RX1 cc nL Z) (hdg : decode cc pc = .ok (.getfield 93, 3)) (kk : Z (LW ad dB q lim size wsz rows cols rank rl sym work poly old copy M piv reg) lv (pc + 3) (.int (nI rows) :: st)) : Z (LW ad dB q lim size wsz rows cols rank rl sym work poly old copy M piv reg) lv pc (.ref (ad 0) :: st) :=
  r_get C (q0 := 0) (ci := 0) 10 (by decide) in_X1 rfl rfl q46 rfl hdg kk
theorem Lg_columns (C : Cx l R D [(dB, .byte)] RX1 cc nL Z) (hdg : decode cc pc = .ok (.getfield 66, 3)) (kk : Z (LW ad dB q lim size wsz rows cols rank rl sym work poly old copy M piv reg) lv (pc + 3) (.int (nI cols) :: st)) : Z (LW ad dB q lim size wsz rows cols rank rl sym work poly old copy M piv reg) lv pc (.ref (ad 0) :: st) :=
  r_get C (q0 := 0) (ci := 0) 11 (by decide) in_X1 rfl rfl q47 rfl hdg kk
theorem Lg_rank (C : Cx l R D [(dB, .byte)] RX1 cc nL Z) (hdg : decode cc pc = .ok (.getfield 63, 3)) (kk : Z (LW ad dB q lim size wsz rows cols rank rl sym work poly old copy M piv reg) lv (pc + 3) (.int (nI rank) :: st)) : Z (LW ad dB q lim size wsz rows cols rank rl sym work poly old copy M piv reg) lv pc (.ref (ad 0) :: st) :=
  r_get C (q0 := 0) (ci := 0) 12 (by decide) in_X1 rfl rfl q48 rfl hdg kk
theorem Lg_pivotRow (C : Cx l R D [(dB, .byte)] RX1 cc nL Z) (hdg : decode cc pc = .ok (.getfield 28, 3)) (kk : Z (LW ad dB q lim size wsz rows cols rank rl sym work poly old copy M piv reg) lv (pc + 3) (.ref (ad 7) :: st)) : Z (LW ad dB q lim size wsz rows cols rank rl sym work poly old copy M piv reg) lv pc (.ref (ad 0) :: st) :=
  r_get C (q0 := 0) (ci := 0) 13 (by decide) in_X1 rfl rfl q49 rfl hdg kk
theorem Lg_registerLength (C : Cx l R D [(dB, .byte)] RX1 cc nL Z) (hdg : decode cc pc = .ok (.getfield 69, 3)) (kk : Z (LW ad dB q lim size wsz rows cols rank rl sym work poly old copy M piv reg) lv (pc + 3) (.int (nI rl) :: st)) : Z (LW ad dB q lim size wsz rows cols rank rl sym work poly old copy M piv reg) lv pc (.ref (ad 0) :: st) :=
  r_get C (q0 := 0) (ci := 0) 14 (by decide) in_X1 rfl rfl q50 rfl hdg kk
theorem Lg_register (C : Cx l R D [(dB, .byte)] RX1 cc nL Z) (hdg : decode cc pc = .ok (.getfield 31, 3)) (kk : Z (LW ad dB q lim size wsz rows cols rank rl sym work poly old copy M piv reg) lv (pc + 3) (.ref (ad 8) :: st)) : Z (LW ad dB q lim size wsz rows cols rank rl sym work poly old copy M piv reg) lv pc (.ref (ad 0) :: st) :=
  r_get C (q0 := 0) (ci := 0) 15 (by decide) in_X1 rfl rfl q51 rfl hdg kk
theorem Lp_size (C : Cx l R D [(dB, .byte)] RX1 cc nL Z) {x : Nat} (hdg : decode cc pc = .ok (.putfield 45, 3)) (kk : Z (LW ad dB q lim x wsz rows cols rank rl sym work poly old copy M piv reg) lv (pc + 3) st) : Z (LW ad dB q lim size wsz rows cols rank rl sym work poly old copy M piv reg) lv pc (.int (nI x) :: .ref (ad 0) :: st) :=
  r_put C (q0 := 0) (ci := 0) (ty := .int) 3 (by decide) in_X1 tyX1 tyX1_ok nmX1 rfl rfl q39 rfl (by decide +kernel) rfl rfl (Nat.le_of_ble_eq_true rfl) rfl hdg kk
theorem Lp_workSize (C : Cx l R D [(dB, .byte)] RX1 cc nL Z) {x : Nat} (hdg : decode cc pc = .ok (.putfield 48, 3)) (kk : Z (LW ad dB q lim size x rows cols rank rl sym work poly old copy M piv reg) lv (pc + 3) st) : Z (LW ad dB q lim size wsz rows cols rank rl sym work poly old copy M piv reg) lv pc (.int (nI x) :: .ref (ad 0) :: st) :=
  r_put C (q0 := 0) (ci := 0) (ty := .int) 5 (by decide) in_X1 tyX1 tyX1_ok nmX1 rfl rfl q41 rfl (by decide +kernel) rfl rfl (Nat.le_of_ble_eq_true rfl) rfl hdg kk
theorem Lp_rows (C : Cx l R D [(dB, .byte)] RX1 cc nL Z) {x : Nat} (hdg : decode cc pc = .ok (.putfield 93, 3)) (kk : Z (LW ad dB q lim size wsz x cols rank rl sym work poly old copy M piv reg) lv (pc + 3) st) : Z (LW ad dB q lim size wsz rows cols rank rl sym work poly old copy M piv reg) lv pc (.int (nI x) :: .ref (ad 0) :: st) :=
  r_put C (q0 := 0) (ci := 0) (ty := .int) 10 (by decide) in_X1 tyX1 tyX1_ok nmX1 rfl rfl q46 rfl (by decide +kernel) rfl rfl (Nat.le_of_ble_eq_true rfl) rfl hdg kk
theorem Lp_columns (C : Cx l R D [(dB, .byte)] RX1 cc nL Z) {x : Nat} (hdg : decode cc pc = .ok (.putfield 66, 3)) (kk : Z (LW ad dB q lim size wsz rows x rank rl sym work poly old copy M piv reg) lv (pc + 3) st) : Z (LW ad dB q lim size wsz rows cols rank rl sym work poly old copy M piv reg) lv pc (.int (nI x) :: .ref (ad 0) :: st) :=
  r_put C (q0 := 0) (ci := 0) (ty := .int) 11 (by decide) in_X1 tyX1 tyX1_ok nmX1 rfl rfl q47 rfl (by decide +kernel) rfl rfl (Nat.le_of_ble_eq_true rfl) rfl hdg kk
theorem Lp_rank (C : Cx l R D [(dB, .byte)] RX1 cc nL Z) {x : Nat} (hdg : decode cc pc = .ok (.putfield 63, 3)) (kk : Z (LW ad dB q lim size wsz rows cols x rl sym work poly old copy M piv reg) lv (pc + 3) st) : Z (LW ad dB q lim size wsz rows cols rank rl sym work poly old copy M piv reg) lv pc (.int (nI x) :: .ref (ad 0) :: st) :=
  r_put C (q0 := 0) (ci := 0) (ty := .int) 12 (by decide) in_X1 tyX1 tyX1_ok nmX1 rfl rfl q48 rfl (by decide +kernel) rfl rfl (Nat.le_of_ble_eq_true rfl) rfl hdg kk
theorem Lp_registerLength (C : Cx l R D [(dB, .byte)] RX1 cc nL Z) {x : Nat} (hdg : decode cc pc = .ok (.putfield 69, 3)) (kk : Z (LW ad dB q lim size wsz rows cols rank x sym work poly old copy M piv reg) lv (pc + 3) st) : Z (LW ad dB q lim size wsz rows cols rank rl sym work poly old copy M piv reg) lv pc (.int (nI x) :: .ref (ad 0) :: st) :=
  r_put C (q0 := 0) (ci := 0) (ty := .int) 14 (by decide) in_X1 tyX1 tyX1_ok nmX1 rfl rfl q50 rfl (by decide +kernel) rfl rfl (Nat.le_of_ble_eq_true rfl) rfl hdg kk
theorem Ll_sym (C : Cx l R D [(dB, .byte)] RX1 cc nL Z) {i : Nat} (hdg : decode cc pc = .ok (.baload, 1)) (hi : i < 12) (kk : Z (LW ad dB q lim size wsz rows cols rank rl sym work poly old copy M piv reg) lv (pc + 1) (.int (nI (sym i)) :: st)) : Z (LW ad dB q lim size wsz rows cols rank rl sym work poly old copy M piv reg) lv pc (.int (nI i) :: .ref (ad 1) :: st) :=
  r_bald C 1 0 rfl rfl hi (by decide) rfl hdg kk
theorem Ls_sym (C : Cx l R D [(dB, .byte)] RX1 cc nL Z) {i v : Nat} (hdg : decode cc pc = .ok (.bastore, 1)) (hi : i < 12) (hv : v < 128) (kk : Z (LW ad dB q lim size wsz rows cols rank rl (va_up sym i v) work poly old copy M piv reg) lv (pc + 1) st) : Z (LW ad dB q lim size wsz rows cols rank rl sym work poly old copy M piv reg) lv pc (.int (nI v) :: .int (nI i) :: .ref (ad 1) :: st) :=
  r_bast C 1 0 rfl rfl hi (by decide) (nI_nb hv) (by rw [upd_nI]; rfl) hdg kk
theorem Lr_sym (C : Cx l R D [(dB, .byte)] RX1 cc nL Z) (g : Nat → Nat) (h : ∀ j, j < 12 → sym j = g j) (kk : Z (LW ad dB q lim size wsz rows cols rank rl g work poly old copy M piv reg) lv pc st) : Z (LW ad dB q lim size wsz rows cols rank rl sym work poly old copy M piv reg) lv pc st :=
  r_re C (g := fun j => nI (g j)) 1 rfl (fun j hj => by show nI (sym j) = nI (g j); rw [h j hj]) rfl kk
theorem Ll_work (C : Cx l R D [(dB, .byte)] RX1 cc nL Z) {i : Nat} (hdg : decode cc pc = .ok (.baload, 1)) (hi : i < 64) (kk : Z (LW ad dB q lim size wsz rows cols rank rl sym work poly old copy M piv reg) lv (pc + 1) (.int (nI (work i)) :: st)) : Z (LW ad dB q lim size wsz rows cols rank rl sym work poly old copy M piv reg) lv pc (.int (nI i) :: .ref (ad 2) :: st) :=
  r_bald C 2 0 rfl rfl hi (by decide) rfl hdg kk
theorem Ls_work (C : Cx l R D [(dB, .byte)] RX1 cc nL Z) {i v : Nat} (hdg : decode cc pc = .ok (.bastore, 1)) (hi : i < 64) (hv : v < 128) (kk : Z (LW ad dB q lim size wsz rows cols rank rl sym (va_up work i v) poly old copy M piv reg) lv (pc + 1) st) : Z (LW ad dB q lim size wsz rows cols rank rl sym work poly old copy M piv reg) lv pc (.int (nI v) :: .int (nI i) :: .ref (ad 2) :: st) :=
  r_bast C 2 0 rfl rfl hi (by decide) (nI_nb hv) (by rw [upd_nI]; rfl) hdg kk
theorem Lr_work (C : Cx l R D [(dB, .byte)] RX1 cc nL Z) (g : Nat → Nat) (h : ∀ j, j < 64 → work j = g j) (kk : Z (LW ad dB q lim size wsz rows cols rank rl sym g poly old copy M piv reg) lv pc st) : Z (LW ad dB q lim size wsz rows cols rank rl sym work poly old copy M piv reg) lv pc st :=
  r_re C (g := fun j => nI (g j)) 2 rfl (fun j hj => by show nI (work j) = nI (g j); rw [h j hj]) rfl kk
theorem Ll_poly (C : Cx l R D [(dB, .byte)] RX1 cc nL Z) {i : Nat} (hdg : decode cc pc = .ok (.baload, 1)) (hi : i < 32) (kk : Z (LW ad dB q lim size wsz rows cols rank rl sym work poly old copy M piv reg) lv (pc + 1) (.int (nI (poly i)) :: st)) : Z (LW ad dB q lim size wsz rows cols rank rl sym work poly old copy M piv reg) lv pc (.int (nI i) :: .ref (ad 3) :: st) :=
  r_bald C 3 0 rfl rfl hi (by decide) rfl hdg kk
theorem Ls_poly (C : Cx l R D [(dB, .byte)] RX1 cc nL Z) {i v : Nat} (hdg : decode cc pc = .ok (.bastore, 1)) (hi : i < 32) (hv : v < 128) (kk : Z (LW ad dB q lim size wsz rows cols rank rl sym work (va_up poly i v) old copy M piv reg) lv (pc + 1) st) : Z (LW ad dB q lim size wsz rows cols rank rl sym work poly old copy M piv reg) lv pc (.int (nI v) :: .int (nI i) :: .ref (ad 3) :: st) :=
  r_bast C 3 0 rfl rfl hi (by decide) (nI_nb hv) (by rw [upd_nI]; rfl) hdg kk
theorem Lr_poly (C : Cx l R D [(dB, .byte)] RX1 cc nL Z) (g : Nat → Nat) (h : ∀ j, j < 32 → poly j = g j) (kk : Z (LW ad dB q lim size wsz rows cols rank rl sym work g old copy M piv reg) lv pc st) : Z (LW ad dB q lim size wsz rows cols rank rl sym work poly old copy M piv reg) lv pc st :=
  r_re C (g := fun j => nI (g j)) 3 rfl (fun j hj => by show nI (poly j) = nI (g j); rw [h j hj]) rfl kk
theorem Ll_old (C : Cx l R D [(dB, .byte)] RX1 cc nL Z) {i : Nat} (hdg : decode cc pc = .ok (.baload, 1)) (hi : i < 32) (kk : Z (LW ad dB q lim size wsz rows cols rank rl sym work poly old copy M piv reg) lv (pc + 1) (.int (nI (old i)) :: st)) : Z (LW ad dB q lim size wsz rows cols rank rl sym work poly old copy M piv reg) lv pc (.int (nI i) :: .ref (ad 4) :: st) :=
  r_bald C 4 0 rfl rfl hi (by decide) rfl hdg kk
theorem Ls_old (C : Cx l R D [(dB, .byte)] RX1 cc nL Z) {i v : Nat} (hdg : decode cc pc = .ok (.bastore, 1)) (hi : i < 32) (hv : v < 128) (kk : Z (LW ad dB q lim size wsz rows cols rank rl sym work poly (va_up old i v) copy M piv reg) lv (pc + 1) st) : Z (LW ad dB q lim size wsz rows cols rank rl sym work poly old copy M piv reg) lv pc (.int (nI v) :: .int (nI i) :: .ref (ad 4) :: st) :=
  r_bast C 4 0 rfl rfl hi (by decide) (nI_nb hv) (by rw [upd_nI]; rfl) hdg kk
theorem Lr_old (C : Cx l R D [(dB, .byte)] RX1 cc nL Z) (g : Nat → Nat) (h : ∀ j, j < 32 → old j = g j) (kk : Z (LW ad dB q lim size wsz rows cols rank rl sym work poly g copy M piv reg) lv pc st) : Z (LW ad dB q lim size wsz rows cols rank rl sym work poly old copy M piv reg) lv pc st :=
  r_re C (g := fun j => nI (g j)) 4 rfl (fun j hj => by show nI (old j) = nI (g j); rw [h j hj]) rfl kk
theorem Ll_copy (C : Cx l R D [(dB, .byte)] RX1 cc nL Z) {i : Nat} (hdg : decode cc pc = .ok (.baload, 1)) (hi : i < 32) (kk : Z (LW ad dB q lim size wsz rows cols rank rl sym work poly old copy M piv reg) lv (pc + 1) (.int (nI (copy i)) :: st)) : Z (LW ad dB q lim size wsz rows cols rank rl sym work poly old copy M piv reg) lv pc (.int (nI i) :: .ref (ad 5) :: st) :=
  r_bald C 5 0 rfl rfl hi (by decide) rfl hdg kk
theorem Ls_copy (C : Cx l R D [(dB, .byte)] RX1 cc nL Z) {i v : Nat} (hdg : decode cc pc = .ok (.bastore, 1)) (hi : i < 32) (hv : v < 128) (kk : Z (LW ad dB q lim size wsz rows cols rank rl sym work poly old (va_up copy i v) M piv reg) lv (pc + 1) st) : Z (LW ad dB q lim size wsz rows cols rank rl sym work poly old copy M piv reg) lv pc (.int (nI v) :: .int (nI i) :: .ref (ad 5) :: st) :=
  r_bast C 5 0 rfl rfl hi (by decide) (nI_nb hv) (by rw [upd_nI]; rfl) hdg kk
theorem Lr_copy (C : Cx l R D [(dB, .byte)] RX1 cc nL Z) (g : Nat → Nat) (h : ∀ j, j < 32 → copy j = g j) (kk : Z (LW ad dB q lim size wsz rows cols rank rl sym work poly old g M piv reg) lv pc st) : Z (LW ad dB q lim size wsz rows cols rank rl sym work poly old copy M piv reg) lv pc st :=
  r_re C (g := fun j => nI (g j)) 5 rfl (fun j hj => by show nI (copy j) = nI (g j); rw [h j hj]) rfl kk
theorem Ll_reg (C : Cx l R D [(dB, .byte)] RX1 cc nL Z) {i : Nat} (hdg : decode cc pc = .ok (.baload, 1)) (hi : i < 14) (kk : Z (LW ad dB q lim size wsz rows cols rank rl sym work poly old copy M piv reg) lv (pc + 1) (.int (nI (reg i)) :: st)) : Z (LW ad dB q lim size wsz rows cols rank rl sym work poly old copy M piv reg) lv pc (.int (nI i) :: .ref (ad 8) :: st) :=
  r_bald C 8 0 rfl rfl hi (by decide) rfl hdg kk
theorem Ls_reg (C : Cx l R D [(dB, .byte)] RX1 cc nL Z) {i v : Nat} (hdg : decode cc pc = .ok (.bastore, 1)) (hi : i < 14) (hv : v < 128) (kk : Z (LW ad dB q lim size wsz rows cols rank rl sym work poly old copy M piv (va_up reg i v)) lv (pc + 1) st) : Z (LW ad dB q lim size wsz rows cols rank rl sym work poly old copy M piv reg) lv pc (.int (nI v) :: .int (nI i) :: .ref (ad 8) :: st) :=
  r_bast C 8 0 rfl rfl hi (by decide) (nI_nb hv) (by rw [upd_nI]; rfl) hdg kk
theorem Lr_reg (C : Cx l R D [(dB, .byte)] RX1 cc nL Z) (g : Nat → Nat) (h : ∀ j, j < 14 → reg j = g j) (kk : Z (LW ad dB q lim size wsz rows cols rank rl sym work poly old copy M piv g) lv pc st) : Z (LW ad dB q lim size wsz rows cols rank rl sym work poly old copy M piv reg) lv pc st :=
  r_re C (g := fun j => nI (g j)) 8 rfl (fun j hj => by show nI (reg j) = nI (g j); rw [h j hj]) rfl kk
theorem Ll_M (C : Cx l R D [(dB, .byte)] RX1 cc nL Z) {i c x : Nat} (hdg : decode cc pc = .ok (.baload, 1)) (hx : x = i * 14 + c) (hi : i < 14) (hc : c < 14) (kk : Z (LW ad dB q lim size wsz rows cols rank rl sym work poly old copy M piv reg) lv (pc + 1) (.int (nI (M i c)) :: st)) : Z (LW ad dB q lim size wsz rows cols rank rl sym work poly old copy M piv reg) lv pc (.int (nI x) :: .ref (ad 6) :: st) :=
  r_bald C (i := x) 6 0 rfl rfl (by omega) (by decide) (by show nI (M (x / 14) (x % 14)) = _; rw [show x / 14 = i by omega, show x % 14 = c by omega]) hdg kk
theorem Ls_M (C : Cx l R D [(dB, .byte)] RX1 cc nL Z) {i c x v : Nat} (hdg : decode cc pc = .ok (.bastore, 1)) (hx : x = i * 14 + c) (hi : i < 14) (hc : c < 14) (hv : v < 128) (kk : Z (LW ad dB q lim size wsz rows cols rank rl sym work poly old copy (up2 M i c v) piv reg) lv (pc + 1) st) : Z (LW ad dB q lim size wsz rows cols rank rl sym work poly old copy M piv reg) lv pc (.int (nI v) :: .int (nI x) :: .ref (ad 6) :: st) :=
  r_bast C (i := x) 6 0 rfl rfl (by omega) (by decide) (nI_nb hv) (by rw [hx, upd_M M i c v hc]; rfl) hdg kk
theorem Ll_piv (C : Cx l R D [(dB, .byte)] RX1 cc nL Z) {i : Nat} (hdg : decode cc pc = .ok (.baload, 1)) (hi : i < 14) (kk : Z (LW ad dB q lim size wsz rows cols rank rl sym work poly old copy M piv reg) lv (pc + 1) (.int (nI (piv i) - 1) :: st)) : Z (LW ad dB q lim size wsz rows cols rank rl sym work poly old copy M piv reg) lv pc (.int (nI i) :: .ref (ad 7) :: st) :=
  r_bald C 7 0 rfl rfl hi (by decide) rfl hdg kk
theorem Ls_piv (C : Cx l R D [(dB, .byte)] RX1 cc nL Z) {i v : Nat} (hdg : decode cc pc = .ok (.bastore, 1)) (hi : i < 14) (hv : v < 128) (kk : Z (LW ad dB q lim size wsz rows cols rank rl sym work poly old copy M (va_up piv i (v + 1)) reg) lv (pc + 1) st) : Z (LW ad dB q lim size wsz rows cols rank rl sym work poly old copy M piv reg) lv pc (.int (nI v) :: .int (nI i) :: .ref (ad 7) :: st) :=
  r_bast C 7 0 rfl rfl hi (by decide) (nI_nb hv) (by rw [← piv_some v, upd_piv]; rfl) hdg kk
theorem Ls_piv0 (C : Cx l R D [(dB, .byte)] RX1 cc nL Z) {i : Nat} (hdg : decode cc pc = .ok (.bastore, 1)) (hi : i < 14) (kk : Z (LW ad dB q lim size wsz rows cols rank rl sym work poly old copy M (va_up piv i 0) reg) lv (pc + 1) st) : Z (LW ad dB q lim size wsz rows cols rank rl sym work poly old copy M piv reg) lv pc (.int (-1) :: .int (nI i) :: .ref (ad 7) :: st) :=
  r_bast C 7 0 rfl rfl hi (by decide) nar_m1 (by rw [← piv_none, upd_piv]; rfl) hdg kk
theorem Lr_M (C : Cx l R D [(dB, .byte)] RX1 cc nL Z) (g : Nat → Nat → Nat) (h : ∀ i c, i < 14 → c < 14 → M i c = g i c) (kk : Z (LW ad dB q lim size wsz rows cols rank rl sym work poly old copy g piv reg) lv pc st) : Z (LW ad dB q lim size wsz rows cols rank rl sym work poly old copy M piv reg) lv pc st :=
  r_re C (g := fun j => nI (g (j / 14) (j % 14))) 6 rfl (fun j hj => by show nI (M (j / 14) (j % 14)) = nI (g (j / 14) (j % 14)); rw [h _ _ (by omega) (by omega)]) rfl kk
end
/-! the reference's world -/
def MW (ad : Nat → Nat) (dI : ClassId) (q lim n : Nat) (s row c : Nat → Nat) : va_W :=
  [(ad 0, .inr (1, [.int (nI q), .int (nI lim), .int (nI n), .ref (ad 1), .ref (ad 2), .ref (ad 3)])), (ad 1, .inl (dI, 12, .inl (fun j => nI (s j)))), (ad 2, .inl (dI, 60, .inl (fun j => nI (row j)))), (ad 3, .inl (dI, 14, .inl (fun j => nI (c j))))]
section
variable {l : Launch} {R : Room} {D : va_G} {dI : ClassId} {cc : ByteArray} {nL : Nat} {Z : zz_J} {lv : List (Nat × Value)} {pc : Nat} {st : List Value} {ad : Nat → Nat} {q lim n : Nat} {s row c : Nat → Nat}
theorem Mg_q (C : Cx l R D [(dI, .int)] RX2 cc nL Z) (hdg : decode cc pc = .ok (.getfield 19, 3)) (kk : Z (MW ad dI q lim n s row c) lv (pc + 3) (.int (nI q) :: st)) : Z (MW ad dI q lim n s row c) lv pc (.ref (ad 0) :: st) :=
  r_get C (q0 := 0) (ci := 1) 0 (by decide) in_X2 rfl rfl q219 rfl hdg kk
theorem Mg_limit (C : Cx l R D [(dI, .int)] RX2 cc nL Z) (hdg : decode cc pc = .ok (.getfield 23, 3)) (kk : Z (MW ad dI q lim n s row c) lv (pc + 3) (.int (nI lim) :: st)) : Z (MW ad dI q lim n s row c) lv pc (.ref (ad 0) :: st) :=
  r_get C (q0 := 0) (ci := 1) 1 (by decide) in_X2 rfl rfl q220 rfl hdg kk
theorem Mg_n (C : Cx l R D [(dI, .int)] RX2 cc nL Z) (hdg : decode cc pc = .ok (.getfield 26, 3)) (kk : Z (MW ad dI q lim n s row c) lv (pc + 3) (.int (nI n) :: st)) : Z (MW ad dI q lim n s row c) lv pc (.ref (ad 0) :: st) :=
  r_get C (q0 := 0) (ci := 1) 2 (by decide) in_X2 rfl rfl q221 rfl hdg kk
theorem Mp_n (C : Cx l R D [(dI, .int)] RX2 cc nL Z) {x : Nat} (hdg : decode cc pc = .ok (.putfield 26, 3)) (kk : Z (MW ad dI q lim x s row c) lv (pc + 3) st) : Z (MW ad dI q lim n s row c) lv pc (.int (nI x) :: .ref (ad 0) :: st) :=
  r_put C (q0 := 0) (ci := 1) (ty := .int) 2 (by decide) in_X2 tyX2 tyX2_ok nmX2 rfl rfl q221 rfl (by decide +kernel) rfl rfl (Nat.le_of_ble_eq_true rfl) rfl hdg kk
theorem Mg_s (C : Cx l R D [(dI, .int)] RX2 cc nL Z) (hdg : decode cc pc = .ok (.getfield 7, 3)) (kk : Z (MW ad dI q lim n s row c) lv (pc + 3) (.ref (ad 1) :: st)) : Z (MW ad dI q lim n s row c) lv pc (.ref (ad 0) :: st) :=
  r_get C (q0 := 0) (ci := 1) 3 (by decide) in_X2 rfl rfl q222 rfl hdg kk
theorem Mg_row (C : Cx l R D [(dI, .int)] RX2 cc nL Z) (hdg : decode cc pc = .ok (.getfield 13, 3)) (kk : Z (MW ad dI q lim n s row c) lv (pc + 3) (.ref (ad 2) :: st)) : Z (MW ad dI q lim n s row c) lv pc (.ref (ad 0) :: st) :=
  r_get C (q0 := 0) (ci := 1) 4 (by decide) in_X2 rfl rfl q223 rfl hdg kk
theorem Mg_c (C : Cx l R D [(dI, .int)] RX2 cc nL Z) (hdg : decode cc pc = .ok (.getfield 16, 3)) (kk : Z (MW ad dI q lim n s row c) lv (pc + 3) (.ref (ad 3) :: st)) : Z (MW ad dI q lim n s row c) lv pc (.ref (ad 0) :: st) :=
  r_get C (q0 := 0) (ci := 1) 5 (by decide) in_X2 rfl rfl q224 rfl hdg kk
theorem Ml_s (C : Cx l R D [(dI, .int)] RX2 cc nL Z) {i : Nat} (hdg : decode cc pc = .ok (.iaload, 1)) (hi : i < 12) (kk : Z (MW ad dI q lim n s row c) lv (pc + 1) (.int (nI (s i)) :: st)) : Z (MW ad dI q lim n s row c) lv pc (.int (nI i) :: .ref (ad 1) :: st) :=
  r_iald C 1 0 rfl rfl hi (by decide) rfl hdg kk
theorem Ms_s (C : Cx l R D [(dI, .int)] RX2 cc nL Z) {i v : Nat} (hdg : decode cc pc = .ok (.iastore, 1)) (hi : i < 12) (kk : Z (MW ad dI q lim n (va_up s i v) row c) lv (pc + 1) st) : Z (MW ad dI q lim n s row c) lv pc (.int (nI v) :: .int (nI i) :: .ref (ad 1) :: st) :=
  r_iast C 1 0 rfl rfl hi (by decide) (by rw [upd_nI]; rfl) hdg kk
theorem Mr_s (C : Cx l R D [(dI, .int)] RX2 cc nL Z) (g : Nat → Nat) (h : ∀ j, j < 12 → s j = g j) (kk : Z (MW ad dI q lim n g row c) lv pc st) : Z (MW ad dI q lim n s row c) lv pc st :=
  r_re C (g := fun j => nI (g j)) 1 rfl (fun j hj => by show nI (s j) = nI (g j); rw [h j hj]) rfl kk
theorem Ml_row (C : Cx l R D [(dI, .int)] RX2 cc nL Z) {i : Nat} (hdg : decode cc pc = .ok (.iaload, 1)) (hi : i < 60) (kk : Z (MW ad dI q lim n s row c) lv (pc + 1) (.int (nI (row i)) :: st)) : Z (MW ad dI q lim n s row c) lv pc (.int (nI i) :: .ref (ad 2) :: st) :=
  r_iald C 2 0 rfl rfl hi (by decide) rfl hdg kk
theorem Ms_row (C : Cx l R D [(dI, .int)] RX2 cc nL Z) {i v : Nat} (hdg : decode cc pc = .ok (.iastore, 1)) (hi : i < 60) (kk : Z (MW ad dI q lim n s (va_up row i v) c) lv (pc + 1) st) : Z (MW ad dI q lim n s row c) lv pc (.int (nI v) :: .int (nI i) :: .ref (ad 2) :: st) :=
  r_iast C 2 0 rfl rfl hi (by decide) (by rw [upd_nI]; rfl) hdg kk
theorem Mr_row (C : Cx l R D [(dI, .int)] RX2 cc nL Z) (g : Nat → Nat) (h : ∀ j, j < 60 → row j = g j) (kk : Z (MW ad dI q lim n s g c) lv pc st) : Z (MW ad dI q lim n s row c) lv pc st :=
  r_re C (g := fun j => nI (g j)) 2 rfl (fun j hj => by show nI (row j) = nI (g j); rw [h j hj]) rfl kk
theorem Ml_c (C : Cx l R D [(dI, .int)] RX2 cc nL Z) {i : Nat} (hdg : decode cc pc = .ok (.iaload, 1)) (hi : i < 14) (kk : Z (MW ad dI q lim n s row c) lv (pc + 1) (.int (nI (c i)) :: st)) : Z (MW ad dI q lim n s row c) lv pc (.int (nI i) :: .ref (ad 3) :: st) :=
  r_iald C 3 0 rfl rfl hi (by decide) rfl hdg kk
theorem Ms_c (C : Cx l R D [(dI, .int)] RX2 cc nL Z) {i v : Nat} (hdg : decode cc pc = .ok (.iastore, 1)) (hi : i < 14) (kk : Z (MW ad dI q lim n s row (va_up c i v)) lv (pc + 1) st) : Z (MW ad dI q lim n s row c) lv pc (.int (nI v) :: .int (nI i) :: .ref (ad 3) :: st) :=
  r_iast C 3 0 rfl rfl hi (by decide) (by rw [upd_nI]; rfl) hdg kk
theorem Mr_c (C : Cx l R D [(dI, .int)] RX2 cc nL Z) (g : Nat → Nat) (h : ∀ j, j < 14 → c j = g j) (kk : Z (MW ad dI q lim n s row g) lv pc st) : Z (MW ad dI q lim n s row c) lv pc st :=
  r_re C (g := fun j => nI (g j)) 3 rfl (fun j hj => by show nI (c j) = nI (g j); rw [h j hj]) rfl kk
end
end
section
/-! what the private methods compute, in plain numbers -/
theorem nd_lo {P : Nat → Prop} (lo N : Nat) (h0 : P N) (hs : ∀ i, lo ≤ i → i < N → P (i + 1) → P i) : ∀ i, lo ≤ i → i ≤ N → P i := by
  intro i hl hi
  exact nd_up (P := fun i => lo ≤ i → P i) N (fun _ => h0) (fun j hj ih hlj => hs j hlj hj (ih (by omega))) i hi hl
abbrev rmk (k : Nat) : Room := { frames := k, cells := 0, slots := 0, locals := 40 * k }
/-- a symbol out of an int: -/
def okS (q : Nat) (v : Int32) : Prop := 0 ≤ v.toInt ∧ v.toInt < q
def sy (v : Int32) : Nat := v.toInt.toNat
theorem sy_nI {v : Int32} (h : 0 ≤ v.toInt) : v = nI (sy v) := by
  have h2 : ¬ v < 0 := by
    intro h3
    rw [Int32.lt_iff_toInt_lt] at h3
    exact absurd h3 (by rw [show (0 : Int32).toInt = 0 by decide]; omega)
  obtain ⟨j, hj, rfl⟩ := nI_of h2
  unfold sy
  rw [nI_toInt hj]
  rfl
def invTo (q v : Nat) : Nat → Nat
  | 0 => 1
  | k + 1 => if 2 ≤ k ∧ v * k % q = 1 then k else invTo q v k
def inv (q v : Nat) : Nat := invTo q v q
theorem invTo_2 (q v : Nat) : invTo q v 2 = 1 := by
  simp [invTo]
/-- the sum over t < n of p t * s (k - t) -/
def dsum (p s : Nat → Nat) (k : Nat) : Nat → Nat
  | 0 => 0
  | n + 1 => dsum p s k n + p n * s (k - n)
/-- the sum over i in 1..n of c i * s (j - i) -/
def rsum (c s : Nat → Nat) (j : Nat) : Nat → Nat
  | 0 => 0
  | n + 1 => rsum c s j n + c (n + 1) * s (j - (n + 1))
theorem mul_le16 {a b : Nat} (ha : a < 5) (hb : b < 5) : a * b ≤ 16 := Nat.mul_le_mul (show a ≤ 4 by omega) (show b ≤ 4 by omega)
theorem dsum_le {p s : Nat → Nat} {k : Nat} : ∀ n, (∀ t, t < n → p t < 5) → (∀ t, t < n → s (k - t) < 5) → dsum p s k n ≤ 16 * n
  | 0, _, _ => Nat.le_refl 0
  | n + 1, hp, hs => by
    have h1 := dsum_le (p := p) (s := s) (k := k) n (fun t ht => hp t (by omega)) (fun t ht => hs t (by omega))
    have h2 := mul_le16 (hp n (by omega)) (hs n (by omega))
    simp only [dsum]
    omega
theorem rsum_le {c s : Nat → Nat} {j : Nat} : ∀ n, (∀ t, 1 ≤ t → t ≤ n → c t < 5) → (∀ t, 1 ≤ t → t ≤ n → s (j - t) < 5) → rsum c s j n ≤ 16 * n
  | 0, _, _ => Nat.le_refl 0
  | n + 1, hp, hs => by
    have h1 := rsum_le (c := c) (s := s) (j := j) n (fun t h1 ht => hp t h1 (by omega)) (fun t h1 ht => hs t h1 (by omega))
    have h2 := mul_le16 (hp (n + 1) (by omega) (by omega)) (hs (n + 1) (by omega) (by omega))
    simp only [rsum]
    omega
/-- take: the symbols from fr on -/
def tkF (sym work : Nat → Nat) (fr k : Nat) : Nat → Nat := fun j => if j < k - fr then sym (fr + j) else work j
theorem tkF_0 (sym work : Nat → Nat) (fr : Nat) : tkF sym work fr fr = work := by
  funext j
  simp [tkF]
theorem tkF_s (sym work : Nat → Nat) (fr k : Nat) (h : fr ≤ k) : va_up (tkF sym work fr k) (k - fr) (sym k) = tkF sym work fr (k + 1) := by
  funext j
  simp only [va_up, tkF]
  by_cases h1 : j = k - fr
  · rw [if_pos h1, if_pos (by omega), show fr + j = k by omega]
  · rw [if_neg h1]
    by_cases h2 : j < k - fr
    · rw [if_pos h2, if_pos (by omega)]
    · rw [if_neg h2, if_neg (by omega)]
/-- a copy of the first i places -/
def cpF (f g : Nat → Nat) (i : Nat) : Nat → Nat := fun j => if j < i then f j else g j
theorem cpF_0 (f g : Nat → Nat) : cpF f g 0 = g := by
  funext j
  simp [cpF]
theorem cpF_s (f g : Nat → Nat) (i : Nat) : va_up (cpF f g i) i (f i) = cpF f g (i + 1) := by
  funext j
  simp only [va_up, cpF]
  by_cases h1 : j = i
  · rw [if_pos h1, if_pos (by omega), h1]
  · rw [if_neg h1]
    by_cases h2 : j < i
    · rw [if_pos h2, if_pos (by omega)]
    · rw [if_neg h2, if_neg (by omega)]
/-- mend: share times the old polynomial, moved up, taken away -/
def mdF (q : Nat) (P B : Nat → Nat) (share shift : Nat) : Nat → Nat := fun j => if shift ≤ j then (P j + q * q - share * B (j - shift)) % q else P j
def mdI (q : Nat) (P B : Nat → Nat) (share shift i : Nat) : Nat → Nat := fun j => if shift ≤ j ∧ j < i then (P j + q * q - share * B (j - shift)) % q else P j
theorem mdI_0 (q : Nat) (P B : Nat → Nat) (share shift : Nat) : mdI q P B share shift shift = P := by
  funext j
  simp only [mdI]
  rw [if_neg (by omega)]
theorem mdI_at (q : Nat) (P B : Nat → Nat) (share shift i : Nat) : mdI q P B share shift i i = P i := by
  simp only [mdI]
  rw [if_neg (by omega)]
theorem mdI_s (q : Nat) (P B : Nat → Nat) (share shift i : Nat) (h : shift ≤ i) : va_up (mdI q P B share shift i) i ((P i + q * q - share * B (i - shift)) % q) = mdI q P B share shift (i + 1) := by
  funext j
  simp only [va_up, mdI]
  by_cases h1 : j = i
  · rw [if_pos h1, if_pos (by omega), h1]
  · rw [if_neg h1]
    by_cases h2 : shift ≤ j ∧ j < i
    · rw [if_pos h2, if_pos (by omega)]
    · rw [if_neg h2, if_neg (by omega)]
theorem mdI_e (q : Nat) (P B : Nat → Nat) (share shift : Nat) (j : Nat) (hj : j < 32) : mdI q P B share shift 32 j = mdF q P B share shift j := by
  simp only [mdI, mdF]
  by_cases h : shift ≤ j
  · rw [if_pos ⟨h, hj⟩, if_pos h]
  · rw [if_neg (fun q => h q.1), if_neg h]
/-- two rows of the equations exchanged in the columns below k -/
def swI (M : Nat → Nat → Nat) (a b k : Nat) : Nat → Nat → Nat := fun i j => if j < k then (if i = a then M b j else if i = b then M a j else M i j) else M i j
theorem swI_0 (M : Nat → Nat → Nat) (a b : Nat) : swI M a b 0 = M := by
  funext i j
  simp [swI]
theorem swI_at (M : Nat → Nat → Nat) (a b k i : Nat) : swI M a b k i k = M i k := by
  simp [swI]
theorem swI_s (M : Nat → Nat → Nat) (a b k : Nat) : up2 (up2 (swI M a b k) a k (M b k)) b k (M a k) = swI M a b (k + 1) := by
  funext i j
  simp only [up2, swI]
  by_cases hj : j = k
  · subst hj
    by_cases hb : i = b
    · subst hb
      by_cases ha : i = a
      · subst ha; simp
      · simp [ha]
    · by_cases ha : i = a
      · subst ha; simp [hb]
      · simp [ha, hb]
  · have h : (j < k + 1) = (j < k) := by apply propext; omega
    simp [hj, h]
def scI (q : Nat) (M : Nat → Nat → Nat) (r f k : Nat) : Nat → Nat → Nat := fun i j => if i = r ∧ j < k then M i j * f % q else M i j
theorem scI_0 (q : Nat) (M : Nat → Nat → Nat) (r f : Nat) : scI q M r f 0 = M := by
  funext i j
  simp [scI]
theorem scI_at (q : Nat) (M : Nat → Nat → Nat) (r f k i : Nat) : scI q M r f k i k = M i k := by
  simp [scI]
theorem scI_s (q : Nat) (M : Nat → Nat → Nat) (r f k : Nat) : up2 (scI q M r f k) r k (M r k * f % q) = scI q M r f (k + 1) := by
  funext i j
  simp only [up2, scI]
  by_cases hj : j = k
  · subst hj
    by_cases hi : i = r
    · subst hi; simp
    · simp [hi]
  · have h : (j < k + 1) = (j < k) := by apply propext; omega
    simp [hj, h]
def sbI (q : Nat) (M : Nat → Nat → Nat) (a r f k : Nat) : Nat → Nat → Nat := fun i j => if i = a ∧ j < k then (M i j + q * q - f * M r j) % q else M i j
theorem sbI_0 (q : Nat) (M : Nat → Nat → Nat) (a r f : Nat) : sbI q M a r f 0 = M := by
  funext i j
  simp [sbI]
theorem sbI_at (q : Nat) (M : Nat → Nat → Nat) (a r f k i : Nat) : sbI q M a r f k i k = M i k := by
  simp [sbI]
theorem sbI_s (q : Nat) (M : Nat → Nat → Nat) (a r f k : Nat) : up2 (sbI q M a r f k) a k ((M a k + q * q - f * M r k) % q) = sbI q M a r f (k + 1) := by
  funext i j
  simp only [up2, sbI]
  by_cases hj : j = k
  · subst hj
    by_cases hi : i = a
    · subst hi; simp
    · simp [hi]
  · have h : (j < k + 1) = (j < k) := by apply propext; omega
    simp [hj, h]
/-- the column c cleared by row r in the rows below n -/
def ccI (q : Nat) (M : Nat → Nat → Nat) (r c cols n : Nat) : Nat → Nat → Nat := fun i j => if i < n ∧ i ≠ r ∧ j < cols + 1 then (M i j + q * q - M i c * M r j) % q else M i j
theorem ccI_0 (q : Nat) (M : Nat → Nat → Nat) (r c cols : Nat) : ccI q M r c cols 0 = M := by
  funext i j
  simp [ccI]
theorem ccI_at (q : Nat) (M : Nat → Nat → Nat) (r c cols n j : Nat) : ccI q M r c cols n n j = M n j := by
  simp [ccI]
theorem ccI_r (q : Nat) (M : Nat → Nat → Nat) (r c cols n j : Nat) : ccI q M r c cols n r j = M r j := by
  simp [ccI]
theorem ccI_s (q : Nat) (M : Nat → Nat → Nat) (r c cols n : Nat) (h : n ≠ r) : sbI q (ccI q M r c cols n) n r (M n c) (cols + 1) = ccI q M r c cols (n + 1) := by
  funext i j
  simp only [sbI]
  by_cases hi : i = n
  · subst hi
    rw [ccI_at, ccI_r]
    simp only [ccI]
    by_cases hj : j < cols + 1
    · rw [if_pos ⟨trivial, hj⟩, if_pos ⟨by omega, h, hj⟩]
    · rw [if_neg (fun z => hj z.2), if_neg (fun z => hj z.2.2)]
  · rw [if_neg (fun z => hi z.1)]
    simp only [ccI]
    have e : (i < n + 1) = (i < n) := by apply propext; omega
    simp only [e]
theorem ccI_sr (q : Nat) (M : Nat → Nat → Nat) (r c cols : Nat) : ccI q M r c cols r = ccI q M r c cols (r + 1) := by
  funext i j
  simp only [ccI]
  by_cases hi : i = r
  · subst hi; simp
  · have e : (i < r + 1) = (i < r) := by apply propext; omega
    simp only [e]
theorem ccI_s0 (q : Nat) (M : Nat → Nat → Nat) (r c cols n : Nat) (h : M n c = 0) (hM : ∀ j, j < cols + 1 → M n j < q) : ccI q M r c cols n = ccI q M r c cols (n + 1) := by
  funext i j
  by_cases hi : i = n
  · subst hi
    rw [ccI_at]
    simp only [ccI]
    by_cases hj : i < i + 1 ∧ i ≠ r ∧ j < cols + 1
    · rw [if_pos hj, h, Nat.zero_mul, Nat.sub_zero, Nat.add_mul_mod_self_left, Nat.mod_eq_of_lt (hM j hj.2.2)]
    · rw [if_neg hj]
  · simp only [ccI]
    have e : (i < n + 1) = (i < n) := by apply propext; omega
    simp only [e]
theorem wrap_ar {a b m : Nat} (h : b ≤ a + m) : nI a - nI b + nI m = nI (a + m - b) := by
  rw [← pk_sub h, ← nI_add]
  grind
end
section
/-! the private methods that call nothing, and those that call these -/
set_option maxRecDepth 100000
set_option maxHeartbeats 4000000 in
theorem m_wrap {l : Launch} {D : va_G} {dB : ClassId} {ad : Nat → Nat} {q lim size wsz rows cols rank rl : Nat} {sym work poly old copy : Nat → Nat} {M : Nat → Nat → Nat} {piv reg : Nat → Nat} {a b : Nat} (hq0 : 0 < q) (hq5 : q ≤ 5) (ha : a < 1000) (hb : b ≤ q * q) : MI l D [(dB, .byte)] yX1_wrap cX1_wrap 2 .int (rmk 0) [.ref (ad 0), .int (nI a - nI b)] (LW ad dB q lim size wsz rows cols rank rl sym work poly old copy M piv reg) (fun (r : Int32) (u : Unit) => r = nI ((a + q * q - b) % q)) (fun u => (LW ad dB q lim size wsz rows cols rank rl sym work poly old copy M piv reg)) := by
  refine MI_of RX1 (by decide) rfl (Nat.le_of_ble_eq_true rfl) [(0, .ref (ad 0)), (1, .int (nI a - nI b))] rfl ?_
  intro Z C hret
  have hqq : q * q ≤ 25 := Nat.mul_le_mul hq5 hq5
  refine r_iload_n C 1 dX1_wrap_0 rfl ?_
  refine r_aload_n C 0 dX1_wrap_1 rfl ?_
  refine Lg_q C dX1_wrap_2 ?_
  refine r_aload_n C 0 dX1_wrap_5 rfl ?_
  refine Lg_q C dX1_wrap_6 ?_
  refine r_imul C dX1_wrap_9 ?_
  refine r_iaddI C (z := (nI (a + q * q - b))) dX1_wrap_10 (wrap_ar (by omega)) ?_
  refine r_aload_n C 0 dX1_wrap_11 rfl ?_
  refine Lg_q C dX1_wrap_12 ?_
  refine r_irem C dX1_wrap_15 (by omega) (by omega) (by omega) ?_
  exact hret () _ _ _ dX1_wrap_16 rfl rfl
set_option maxHeartbeats 4000000 in
theorem m_inverse {l : Launch} {D : va_G} {dB : ClassId} {ad : Nat → Nat} {q lim size wsz rows cols rank rl : Nat} {sym work poly old copy : Nat → Nat} {M : Nat → Nat → Nat} {piv reg : Nat → Nat} {v : Nat} (hq2 : 2 ≤ q) (hq5 : q ≤ 5) (hv : v < 128) : MI l D [(dB, .byte)] yX1_inverse cX1_inverse 4 .int (rmk 0) [.ref (ad 0), .int (nI v)] (LW ad dB q lim size wsz rows cols rank rl sym work poly old copy M piv reg) (fun (r : Int32) (u : Unit) => r = nI (inv q v)) (fun u => (LW ad dB q lim size wsz rows cols rank rl sym work poly old copy M piv reg)) := by
  refine MI_of RX1 (by decide) rfl (Nat.le_of_ble_eq_true rfl) [(0, .ref (ad 0)), (1, .int (nI v))] rfl ?_
  intro Z C hret
  refine r_iconst C (v := nI 1) dX1_inverse_0 (by decide) ?_
  refine r_istore_n C (lv' := [(0, .ref (ad 0)), (1, .int (nI v)), (2, .int (nI 1))]) [1, 2, 0] dX1_inverse_1 (by decide) rfl ?_
  refine r_iconst C (v := nI 2) dX1_inverse_2 (by decide) ?_
  refine r_istore_n C (lv' := [(0, .ref (ad 0)), (1, .int (nI v)), (2, .int (nI 1)), (3, .int (nI 2))]) [1, 2, 3, 0] dX1_inverse_3 (by decide) rfl ?_
  have lp4 : ∀ k, 2 ≤ k → k ≤ q → Z (LW ad dB q lim size wsz rows cols rank rl sym work poly old copy M piv reg) [(0, .ref (ad 0)), (1, .int (nI v)), (2, .int (nI (invTo q v k))), (3, .int (nI k))] 4 [] := by
    refine nd_lo 2 q ?_ ?_
    · show Z (LW ad dB q lim size wsz rows cols rank rl sym work poly old copy M piv reg) [(0, .ref (ad 0)), (1, .int (nI v)), (2, .int (nI (invTo q v q))), (3, .int (nI q))] 4 []
      refine r_iload_n C 3 dX1_inverse_4 rfl ?_
      refine r_aload_n C 0 dX1_inverse_5 rfl ?_
      refine Lg_q C dX1_inverse_6 ?_
      refine r_icmp_ge C 32 dX1_inverse_9 (by decide) (by omega) (by omega) (fun hc9 => ?_) (fun hc9 => absurd hc9 (by omega))
      refine r_iload_n C 2 dX1_inverse_32 rfl ?_
      exact hret () _ _ _ dX1_inverse_33 rfl rfl
    · intro k hlk hk ih 
      have hvk : v * k ≤ 128 * 5 := Nat.mul_le_mul (by omega) (by omega)
      refine r_iload_n C 3 dX1_inverse_4 rfl ?_
      refine r_aload_n C 0 dX1_inverse_5 rfl ?_
      refine Lg_q C dX1_inverse_6 ?_
      refine r_icmp_ge C 32 dX1_inverse_9 (by decide) (by omega) (by omega) (fun hc9 => absurd hc9 (by omega)) (fun hc9 => ?_)
      refine r_iload_n C 1 dX1_inverse_12 rfl ?_
      refine r_iload_n C 3 dX1_inverse_13 rfl ?_
      refine r_imul C dX1_inverse_14 ?_
      refine r_aload_n C 0 dX1_inverse_15 rfl ?_
      refine Lg_q C dX1_inverse_16 ?_
      refine r_irem C dX1_inverse_19 (by omega) (by omega) (by omega) ?_
      refine r_iconst C (v := nI 1) dX1_inverse_20 (by decide) ?_
      refine r_icmp_ne C 26 dX1_inverse_21 (by decide) (by have := Nat.mod_lt (v * k) (show 0 < q by omega); omega) (by omega) (fun hc21 => ?_) (fun hc21 => ?_)
      · refine r_iinc C (k := 3) (v := (nI (k + 1))) (lv' := [(0, .ref (ad 0)), (1, .int (nI v)), (2, .int (nI (invTo q v k))), (3, .int (nI (k + 1)))]) [1, 2, 3, 0] dX1_inverse_26 rfl (nI_inc _) (by decide) rfl ?_
        refine r_goto C 4 dX1_inverse_29 (by decide) ?_
        rw [show invTo q v (k + 1) = invTo q v k from if_neg (fun h => hc21 h.2)] at ih
        exact ih
      · refine r_iload_n C 3 dX1_inverse_24 rfl ?_
        refine r_istore_n C (lv' := [(0, .ref (ad 0)), (1, .int (nI v)), (2, .int (nI k)), (3, .int (nI k))]) [1, 2, 0, 3] dX1_inverse_25 (by decide) rfl ?_
        refine r_iinc C (k := 3) (v := (nI (k + 1))) (lv' := [(0, .ref (ad 0)), (1, .int (nI v)), (2, .int (nI k)), (3, .int (nI (k + 1)))]) [1, 2, 3, 0] dX1_inverse_26 rfl (nI_inc _) (by decide) rfl ?_
        refine r_goto C 4 dX1_inverse_29 (by decide) ?_
        rw [show invTo q v (k + 1) = k from if_pos ⟨hlk, hc21⟩] at ih
        exact ih
  have hz := lp4 2 (by omega) (by omega)
  rw [invTo_2] at hz
  exact hz
set_option maxHeartbeats 4000000 in
theorem m_isSymbol {l : Launch} {D : va_G} {dB : ClassId} {ad : Nat → Nat} {q lim size wsz rows cols rank rl : Nat} {sym work poly old copy : Nat → Nat} {M : Nat → Nat → Nat} {piv reg : Nat → Nat} {v : Int32} (hq5 : q ≤ 5) : MI l D [(dB, .byte)] yX1_isSymbol cX1_isSymbol 2 .boolean (rmk 0) [.ref (ad 0), .int v] (LW ad dB q lim size wsz rows cols rank rl sym work poly old copy M piv reg) (fun (r : Int32) (u : Unit) => (r = 1 ∧ okS q v) ∨ (r = 0 ∧ ¬ okS q v)) (fun u => (LW ad dB q lim size wsz rows cols rank rl sym work poly old copy M piv reg)) := by
  refine MI_of RX1 (by decide) rfl (Nat.le_of_ble_eq_true rfl) [(0, .ref (ad 0)), (1, .int v)] rfl ?_
  intro Z C hret
  refine r_iload_n C 1 dX1_isSymbol_0 rfl ?_
  refine r_if_ltI C 16 dX1_isSymbol_1 (by decide) (fun hc1 => ?_) (fun hc1 => ?_)
  · have hno : ¬ okS q v := fun h => by have h1 := h.1; rw [Int32.lt_iff_toInt_lt, show (0 : Int32).toInt = 0 by decide] at hc1; omega
    refine r_iconst C (v := nI 0) dX1_isSymbol_16 (by decide) ?_
    exact hret () _ _ _ dX1_isSymbol_17 rfl (Or.inr ⟨by decide, hno⟩)
  · refine r_iload_n C 1 dX1_isSymbol_4 rfl ?_
    refine r_aload_n C 0 dX1_isSymbol_5 rfl ?_
    refine Lg_q C dX1_isSymbol_6 ?_
    refine r_icmp_geI C 16 dX1_isSymbol_9 (by decide) (fun hc9 => ?_) (fun hc9 => ?_)
    · have hno : ¬ okS q v := fun h => by have h1 := h.2; rw [Int32.le_iff_toInt_le, nI_toInt (by omega)] at hc9; omega
      refine r_iconst C (v := nI 0) dX1_isSymbol_16 (by decide) ?_
      exact hret () _ _ _ dX1_isSymbol_17 rfl (Or.inr ⟨by decide, hno⟩)
    · have hyes : okS q v := by
        refine ⟨?_, ?_⟩
        · rw [Int32.lt_iff_toInt_lt, show (0 : Int32).toInt = 0 by decide] at hc1; omega
        · rw [Int32.le_iff_toInt_le, nI_toInt (by omega)] at hc9; omega
      refine r_iconst C (v := nI 1) dX1_isSymbol_12 (by decide) ?_
      refine r_goto C 17 dX1_isSymbol_13 (by decide) ?_
      exact hret () _ _ _ dX1_isSymbol_17 rfl (Or.inl ⟨by decide, hyes⟩)
set_option maxHeartbeats 4000000 in
theorem m_take {l : Launch} {D : va_G} {dB : ClassId} {ad : Nat → Nat} {q lim size wsz rows cols rank rl : Nat} {sym work poly old copy : Nat → Nat} {M : Nat → Nat → Nat} {piv reg : Nat → Nat} {fr to : Nat} (hft : fr ≤ to) (hto : to ≤ 12) (hsym : ∀ j, sym j < 5) : MV l D [(dB, .byte)] yX1_take cX1_take 4 (rmk 0) [.ref (ad 0), .int (nI fr), .int (nI to)] (LW ad dB q lim size wsz rows cols rank rl sym work poly old copy M piv reg) (fun (u : Unit) => True) (fun u => (LW ad dB q lim size (to - fr) rows cols rank rl sym (tkF sym work fr to) poly old copy M piv reg)) := by
  refine MV_of RX1 (by decide) rfl (Nat.le_of_ble_eq_true rfl) [(0, .ref (ad 0)), (1, .int (nI fr)), (2, .int (nI to))] rfl ?_
  intro Z C hret
  refine r_aload_n C 0 dX1_take_0 rfl ?_
  refine r_iconst C (v := nI 0) dX1_take_1 (by decide) ?_
  refine Lp_workSize C dX1_take_2 ?_
  refine r_iload_n C 1 dX1_take_5 rfl ?_
  refine r_istore_n C (lv' := [(0, .ref (ad 0)), (1, .int (nI fr)), (2, .int (nI to)), (3, .int (nI fr))]) [1, 2, 3, 0] dX1_take_6 (by decide) rfl ?_
  have lp7 : ∀ k, fr ≤ k → k ≤ to → Z (LW ad dB q lim size (k - fr) rows cols rank rl sym (tkF sym work fr k) poly old copy M piv reg) [(0, .ref (ad 0)), (1, .int (nI fr)), (2, .int (nI to)), (3, .int (nI k))] 7 [] := by
    refine nd_lo fr to ?_ ?_
    · show Z (LW ad dB q lim size (to - fr) rows cols rank rl sym (tkF sym work fr to) poly old copy M piv reg) [(0, .ref (ad 0)), (1, .int (nI fr)), (2, .int (nI to)), (3, .int (nI to))] 7 []
      refine r_iload_n C 3 dX1_take_7 rfl ?_
      refine r_iload_n C 2 dX1_take_8 rfl ?_
      refine r_icmp_ge C 43 dX1_take_9 (by decide) (by omega) (by omega) (fun hc9 => ?_) (fun hc9 => absurd hc9 (by omega))
      exact hret () _ _ dX1_take_43 trivial
    · intro k hlk hk ih 
      refine r_iload_n C 3 dX1_take_7 rfl ?_
      refine r_iload_n C 2 dX1_take_8 rfl ?_
      refine r_icmp_ge C 43 dX1_take_9 (by decide) (by omega) (by omega) (fun hc9 => absurd hc9 (by omega)) (fun hc9 => ?_)
      refine r_aload_n C 0 dX1_take_12 rfl ?_
      refine Lg_work C dX1_take_13 ?_
      refine r_aload_n C 0 dX1_take_16 rfl ?_
      refine Lg_workSize C dX1_take_17 ?_
      refine r_aload_n C 0 dX1_take_20 rfl ?_
      refine Lg_symbols C dX1_take_21 ?_
      refine r_iload_n C 3 dX1_take_24 rfl ?_
      refine Ll_sym C dX1_take_25 (by omega) ?_
      refine Ls_work C dX1_take_26 (by omega) (by have := hsym k; omega) ?_
      refine r_aload_n C 0 dX1_take_27 rfl ?_
      refine r_dup C dX1_take_28 ?_
      refine Lg_workSize C dX1_take_29 ?_
      refine r_iconst C (v := nI 1) dX1_take_32 (by decide) ?_
      refine r_iadd C dX1_take_33 ?_
      refine Lp_workSize C dX1_take_34 ?_
      refine r_iinc C (k := 3) (v := (nI (k + 1))) (lv' := [(0, .ref (ad 0)), (1, .int (nI fr)), (2, .int (nI to)), (3, .int (nI (k + 1)))]) [1, 2, 3, 0] dX1_take_37 rfl (nI_inc _) (by decide) rfl ?_
      refine r_goto C 7 dX1_take_40 (by decide) ?_
      rw [tkF_s sym work fr k hlk, show k - fr + 1 = k + 1 - fr by omega]
      exact ih
  have hz := lp7 fr (Nat.le_refl _) hft
  rw [tkF_0, Nat.sub_self] at hz
  exact hz
set_option maxHeartbeats 4000000 in
theorem m_discrepancy {l : Launch} {D : va_G} {dB : ClassId} {ad : Nat → Nat} {q lim size wsz rows cols rank rl : Nat} {sym work poly old copy : Nat → Nat} {M : Nat → Nat → Nat} {piv reg : Nat → Nat} {kk len : Nat} (hq0 : 0 < q) (hq5 : q ≤ 5) (hlen : len ≤ kk) (hkk : kk < 32) (hp : ∀ j, j < 32 → poly j < 5) (hw : ∀ j, j ≤ kk → work j < 5) : MI l D [(dB, .byte)] yX1_discrepancy cX1_discrepancy 5 .int (rmk 0) [.ref (ad 0), .int (nI kk), .int (nI len)] (LW ad dB q lim size wsz rows cols rank rl sym work poly old copy M piv reg) (fun (r : Int32) (u : Unit) => r = nI (dsum poly work kk (len + 1) % q)) (fun u => (LW ad dB q lim size wsz rows cols rank rl sym work poly old copy M piv reg)) := by
  refine MI_of RX1 (by decide) rfl (Nat.le_of_ble_eq_true rfl) [(0, .ref (ad 0)), (1, .int (nI kk)), (2, .int (nI len))] rfl ?_
  intro Z C hret
  refine r_iconst C (v := nI 0) dX1_discrepancy_0 (by decide) ?_
  refine r_istore_n C (lv' := [(0, .ref (ad 0)), (1, .int (nI kk)), (2, .int (nI len)), (3, .int (nI 0))]) [1, 2, 3, 0] dX1_discrepancy_1 (by decide) rfl ?_
  refine r_iconst C (v := nI 0) dX1_discrepancy_2 (by decide) ?_
  refine r_istore C (lv' := [(0, .ref (ad 0)), (1, .int (nI kk)), (2, .int (nI len)), (3, .int (nI 0)), (4, .int (nI 0))]) [1, 2, 3, 4, 0] dX1_discrepancy_3 (by decide) rfl ?_
  have lp5 : ∀ i, 0 ≤ i → i ≤ len + 1 → Z (LW ad dB q lim size wsz rows cols rank rl sym work poly old copy M piv reg) [(0, .ref (ad 0)), (1, .int (nI kk)), (2, .int (nI len)), (3, .int (nI (dsum poly work kk i))), (4, .int (nI i))] 5 [] := by
    refine nd_lo 0 (len + 1) ?_ ?_
    · show Z (LW ad dB q lim size wsz rows cols rank rl sym work poly old copy M piv reg) [(0, .ref (ad 0)), (1, .int (nI kk)), (2, .int (nI len)), (3, .int (nI (dsum poly work kk (len + 1)))), (4, .int (nI (len + 1)))] 5 []
      refine r_iload C 4 dX1_discrepancy_5 rfl ?_
      refine r_iload_n C 2 dX1_discrepancy_7 rfl ?_
      refine r_icmp_gt C 43 dX1_discrepancy_8 (by decide) (by omega) (by omega) (fun hc8 => ?_) (fun hc8 => absurd hc8 (by omega))
      refine r_iload_n C 3 dX1_discrepancy_43 rfl ?_
      refine r_aload_n C 0 dX1_discrepancy_44 rfl ?_
      refine Lg_q C dX1_discrepancy_45 ?_
      refine r_irem C dX1_discrepancy_48 (by have := dsum_le (p := poly) (s := work) (k := kk) (len + 1) (fun t ht => hp t (by omega)) (fun t ht => hw _ (by omega)); omega) (by omega) (by omega) ?_
      exact hret () _ _ _ dX1_discrepancy_49 rfl rfl
    · intro i hli hi ih 
      refine r_iload C 4 dX1_discrepancy_5 rfl ?_
      refine r_iload_n C 2 dX1_discrepancy_7 rfl ?_
      refine r_icmp_gt C 43 dX1_discrepancy_8 (by decide) (by omega) (by omega) (fun hc8 => absurd hc8 (by omega)) (fun hc8 => ?_)
      refine r_iload C 4 dX1_discrepancy_11 rfl ?_
      refine r_iload_n C 1 dX1_discrepancy_13 rfl ?_
      refine r_icmp_gt C 43 dX1_discrepancy_14 (by decide) (by omega) (by omega) (fun hc14 => absurd hc14 (by omega)) (fun hc14 => ?_)
      refine r_iload_n C 3 dX1_discrepancy_17 rfl ?_
      refine r_aload_n C 0 dX1_discrepancy_18 rfl ?_
      refine Lg_poly C dX1_discrepancy_19 ?_
      refine r_iload C 4 dX1_discrepancy_22 rfl ?_
      refine Ll_poly C dX1_discrepancy_24 (by omega) ?_
      refine r_aload_n C 0 dX1_discrepancy_25 rfl ?_
      refine Lg_work C dX1_discrepancy_26 ?_
      refine r_iload_n C 1 dX1_discrepancy_29 rfl ?_
      refine r_iload C 4 dX1_discrepancy_30 rfl ?_
      refine r_isub C dX1_discrepancy_32 (by omega) ?_
      refine Ll_work C dX1_discrepancy_33 (by omega) ?_
      refine r_imul C dX1_discrepancy_34 ?_
      refine r_iadd C dX1_discrepancy_35 ?_
      refine r_istore_n C (lv' := [(0, .ref (ad 0)), (1, .int (nI kk)), (2, .int (nI len)), (3, .int (nI ((dsum poly work kk i) + ((poly i) * (work (kk - i)))))), (4, .int (nI i))]) [1, 2, 3, 0, 4] dX1_discrepancy_36 (by decide) rfl ?_
      refine r_iinc C (k := 4) (v := (nI (i + 1))) (lv' := [(0, .ref (ad 0)), (1, .int (nI kk)), (2, .int (nI len)), (3, .int (nI ((dsum poly work kk i) + ((poly i) * (work (kk - i)))))), (4, .int (nI (i + 1)))]) [1, 2, 3, 4, 0] dX1_discrepancy_37 rfl (nI_inc _) (by decide) rfl ?_
      refine r_goto C 5 dX1_discrepancy_40 (by decide) ?_
      exact ih
  have hz := lp5 0 (by omega) (by omega)
  exact hz
set_option maxHeartbeats 4000000 in
theorem m_keepCopy {l : Launch} {D : va_G} {dB : ClassId} {ad : Nat → Nat} {q lim size wsz rows cols rank rl : Nat} {sym work poly old copy : Nat → Nat} {M : Nat → Nat → Nat} {piv reg : Nat → Nat}  (hp : ∀ j, j < 32 → poly j < 128) : MV l D [(dB, .byte)] yX1_keepCopy cX1_keepCopy 2 (rmk 0) [.ref (ad 0)] (LW ad dB q lim size wsz rows cols rank rl sym work poly old copy M piv reg) (fun (u : Unit) => True) (fun u => (LW ad dB q lim size wsz rows cols rank rl sym work poly old poly M piv reg)) := by
  refine MV_of RX1 (by decide) rfl (Nat.le_of_ble_eq_true rfl) [(0, .ref (ad 0))] rfl ?_
  intro Z C hret
  refine r_iconst C (v := nI 0) dX1_keepCopy_0 (by decide) ?_
  refine r_istore_n C (lv' := [(0, .ref (ad 0)), (1, .int (nI 0))]) [1, 0] dX1_keepCopy_1 (by decide) rfl ?_
  have lp2 : ∀ i, 0 ≤ i → i ≤ 32 → Z (LW ad dB q lim size wsz rows cols rank rl sym work poly old (cpF poly copy i) M piv reg) [(0, .ref (ad 0)), (1, .int (nI i))] 2 [] := by
    refine nd_lo 0 32 ?_ ?_
    · show Z (LW ad dB q lim size wsz rows cols rank rl sym work poly old (cpF poly copy 32) M piv reg) [(0, .ref (ad 0)), (1, .int (nI 32))] 2 []
      refine r_iload_n C 1 dX1_keepCopy_2 rfl ?_
      refine r_bipush C (v := nI 32) dX1_keepCopy_3 (by decide) ?_
      refine r_icmp_ge C 26 dX1_keepCopy_5 (by decide) (by omega) (by omega) (fun hc5 => ?_) (fun hc5 => absurd hc5 (by omega))
      refine Lr_copy C poly (fun j hj => by simp only [cpF]; rw [if_pos hj]) ?_
      exact hret () _ _ dX1_keepCopy_26 trivial
    · intro i hli hi ih 
      refine r_iload_n C 1 dX1_keepCopy_2 rfl ?_
      refine r_bipush C (v := nI 32) dX1_keepCopy_3 (by decide) ?_
      refine r_icmp_ge C 26 dX1_keepCopy_5 (by decide) (by omega) (by omega) (fun hc5 => absurd hc5 (by omega)) (fun hc5 => ?_)
      refine r_aload_n C 0 dX1_keepCopy_8 rfl ?_
      refine Lg_copy C dX1_keepCopy_9 ?_
      refine r_iload_n C 1 dX1_keepCopy_12 rfl ?_
      refine r_aload_n C 0 dX1_keepCopy_13 rfl ?_
      refine Lg_poly C dX1_keepCopy_14 ?_
      refine r_iload_n C 1 dX1_keepCopy_17 rfl ?_
      refine Ll_poly C dX1_keepCopy_18 (by omega) ?_
      refine Ls_copy C dX1_keepCopy_19 (by omega) (hp i (by omega)) ?_
      refine r_iinc C (k := 1) (v := (nI (i + 1))) (lv' := [(0, .ref (ad 0)), (1, .int (nI (i + 1)))]) [1, 0] dX1_keepCopy_20 rfl (nI_inc _) (by decide) rfl ?_
      refine r_goto C 2 dX1_keepCopy_23 (by decide) ?_
      rw [cpF_s]
      exact ih
  have hz := lp2 0 (by omega) (by omega)
  rw [cpF_0] at hz
  exact hz
set_option maxHeartbeats 4000000 in
theorem m_useCopy {l : Launch} {D : va_G} {dB : ClassId} {ad : Nat → Nat} {q lim size wsz rows cols rank rl : Nat} {sym work poly old copy : Nat → Nat} {M : Nat → Nat → Nat} {piv reg : Nat → Nat}  (hp : ∀ j, j < 32 → copy j < 128) : MV l D [(dB, .byte)] yX1_useCopy cX1_useCopy 2 (rmk 0) [.ref (ad 0)] (LW ad dB q lim size wsz rows cols rank rl sym work poly old copy M piv reg) (fun (u : Unit) => True) (fun u => (LW ad dB q lim size wsz rows cols rank rl sym work poly copy copy M piv reg)) := by
  refine MV_of RX1 (by decide) rfl (Nat.le_of_ble_eq_true rfl) [(0, .ref (ad 0))] rfl ?_
  intro Z C hret
  refine r_iconst C (v := nI 0) dX1_useCopy_0 (by decide) ?_
  refine r_istore_n C (lv' := [(0, .ref (ad 0)), (1, .int (nI 0))]) [1, 0] dX1_useCopy_1 (by decide) rfl ?_
  have lp2 : ∀ i, 0 ≤ i → i ≤ 32 → Z (LW ad dB q lim size wsz rows cols rank rl sym work poly (cpF copy old i) copy M piv reg) [(0, .ref (ad 0)), (1, .int (nI i))] 2 [] := by
    refine nd_lo 0 32 ?_ ?_
    · show Z (LW ad dB q lim size wsz rows cols rank rl sym work poly (cpF copy old 32) copy M piv reg) [(0, .ref (ad 0)), (1, .int (nI 32))] 2 []
      refine r_iload_n C 1 dX1_useCopy_2 rfl ?_
      refine r_bipush C (v := nI 32) dX1_useCopy_3 (by decide) ?_
      refine r_icmp_ge C 26 dX1_useCopy_5 (by decide) (by omega) (by omega) (fun hc5 => ?_) (fun hc5 => absurd hc5 (by omega))
      refine Lr_old C copy (fun j hj => by simp only [cpF]; rw [if_pos hj]) ?_
      exact hret () _ _ dX1_useCopy_26 trivial
    · intro i hli hi ih 
      refine r_iload_n C 1 dX1_useCopy_2 rfl ?_
      refine r_bipush C (v := nI 32) dX1_useCopy_3 (by decide) ?_
      refine r_icmp_ge C 26 dX1_useCopy_5 (by decide) (by omega) (by omega) (fun hc5 => absurd hc5 (by omega)) (fun hc5 => ?_)
      refine r_aload_n C 0 dX1_useCopy_8 rfl ?_
      refine Lg_old C dX1_useCopy_9 ?_
      refine r_iload_n C 1 dX1_useCopy_12 rfl ?_
      refine r_aload_n C 0 dX1_useCopy_13 rfl ?_
      refine Lg_copy C dX1_useCopy_14 ?_
      refine r_iload_n C 1 dX1_useCopy_17 rfl ?_
      refine Ll_copy C dX1_useCopy_18 (by omega) ?_
      refine Ls_old C dX1_useCopy_19 (by omega) (hp i (by omega)) ?_
      refine r_iinc C (k := 1) (v := (nI (i + 1))) (lv' := [(0, .ref (ad 0)), (1, .int (nI (i + 1)))]) [1, 0] dX1_useCopy_20 rfl (nI_inc _) (by decide) rfl ?_
      refine r_goto C 2 dX1_useCopy_23 (by decide) ?_
      rw [cpF_s]
      exact ih
  have hz := lp2 0 (by omega) (by omega)
  rw [cpF_0] at hz
  exact hz
set_option maxHeartbeats 4000000 in
theorem m_mend {l : Launch} {D : va_G} {dB : ClassId} {ad : Nat → Nat} {q lim size wsz rows cols rank rl : Nat} {sym work poly old copy : Nat → Nat} {M : Nat → Nat → Nat} {piv reg : Nat → Nat} {gap last shift : Nat} (hq2 : 2 ≤ q) (hq5 : q ≤ 5) (hsh : shift ≤ 32) (hg : gap < 5) (hla : last < 5) (hinv : inv q last < 5) (hp : ∀ j, poly j < q) (ho : ∀ j, old j < q) : MV l D [(dB, .byte)] yX1_mend cX1_mend 7 (rmk 1) [.ref (ad 0), .int (nI gap), .int (nI last), .int (nI shift)] (LW ad dB q lim size wsz rows cols rank rl sym work poly old copy M piv reg) (fun (u : Unit) => True) (fun u => (LW ad dB q lim size wsz rows cols rank rl sym work (mdF q poly old (gap * inv q last % q) shift) old copy M piv reg)) := by
  refine MV_of RX1 (by decide) rfl (Nat.le_of_ble_eq_true rfl) [(0, .ref (ad 0)), (1, .int (nI gap)), (2, .int (nI last)), (3, .int (nI shift))] rfl ?_
  intro Z C hret
  refine r_iload_n C 1 dX1_mend_0 rfl ?_
  refine r_aload_n C 0 dX1_mend_1 rfl ?_
  refine r_iload_n C 2 dX1_mend_2 rfl ?_
  refine r_calli C (ci := 0) (nA := 1) [.int (nI last)] (m_inverse hq2 hq5 (by omega)) rfl (lw_V q142 q144 qs6 q26 q145) (by decide +kernel) rfl ⟨rfl, rfl⟩ ⟨Nat.le_of_ble_eq_true rfl, Nat.le_of_ble_eq_true rfl⟩ rfl rfl (Nat.le_of_ble_eq_true rfl) dX1_mend_3 (fun r u hu => ?_)
  obtain rfl : _ = _ := hu
  refine r_imul C dX1_mend_6 ?_
  refine r_aload_n C 0 dX1_mend_7 rfl ?_
  refine Lg_q C dX1_mend_8 ?_
  refine r_irem C dX1_mend_11 (by have := mul_le16 hg hinv; omega) (by omega) (by omega) ?_
  refine r_istore C (lv' := [(0, .ref (ad 0)), (1, .int (nI gap)), (2, .int (nI last)), (3, .int (nI shift)), (4, .int (nI ((gap * (inv q last)) % q)))]) [1, 2, 3, 4, 0] dX1_mend_12 (by decide) rfl ?_
  refine r_iload_n C 3 dX1_mend_14 rfl ?_
  refine r_istore C (lv' := [(0, .ref (ad 0)), (1, .int (nI gap)), (2, .int (nI last)), (3, .int (nI shift)), (4, .int (nI ((gap * (inv q last)) % q))), (5, .int (nI shift))]) [1, 2, 3, 4, 5, 0] dX1_mend_15 (by decide) rfl ?_
  have lp17 : ∀ i, shift ≤ i → i ≤ 32 → Z (LW ad dB q lim size wsz rows cols rank rl sym work (mdI q poly old (gap * inv q last % q) shift i) old copy M piv reg) [(0, .ref (ad 0)), (1, .int (nI gap)), (2, .int (nI last)), (3, .int (nI shift)), (4, .int (nI (gap * inv q last % q))), (5, .int (nI i))] 17 [] := by
    refine nd_lo shift 32 ?_ ?_
    · show Z (LW ad dB q lim size wsz rows cols rank rl sym work (mdI q poly old (gap * inv q last % q) shift 32) old copy M piv reg) [(0, .ref (ad 0)), (1, .int (nI gap)), (2, .int (nI last)), (3, .int (nI shift)), (4, .int (nI (gap * inv q last % q))), (5, .int (nI 32))] 17 []
      refine r_iload C 5 dX1_mend_17 rfl ?_
      refine r_bipush C (v := nI 32) dX1_mend_19 (by decide) ?_
      refine r_icmp_ge C 66 dX1_mend_21 (by decide) (by omega) (by omega) (fun hc21 => ?_) (fun hc21 => absurd hc21 (by omega))
      refine Lr_poly C _ (fun j hj => mdI_e q poly old _ shift j hj) ?_
      exact hret () _ _ dX1_mend_66 trivial
    · intro i hli hi ih 
      refine r_iload C 5 dX1_mend_17 rfl ?_
      refine r_bipush C (v := nI 32) dX1_mend_19 (by decide) ?_
      refine r_icmp_ge C 66 dX1_mend_21 (by decide) (by omega) (by omega) (fun hc21 => absurd hc21 (by omega)) (fun hc21 => ?_)
      refine r_aload_n C 0 dX1_mend_24 rfl ?_
      refine Lg_poly C dX1_mend_25 ?_
      refine r_iload C 5 dX1_mend_28 rfl ?_
      refine Ll_poly C dX1_mend_30 (by omega) ?_
      refine r_top (b := poly i) (mdI_at _ _ _ _ _ _) ?_
      refine r_iload C 4 dX1_mend_31 rfl ?_
      refine r_aload_n C 0 dX1_mend_33 rfl ?_
      refine Lg_old C dX1_mend_34 ?_
      refine r_iload C 5 dX1_mend_37 rfl ?_
      refine r_iload_n C 3 dX1_mend_39 rfl ?_
      refine r_isub C dX1_mend_40 (by omega) ?_
      refine Ll_old C dX1_mend_41 (by omega) ?_
      refine r_imul C dX1_mend_42 ?_
      refine r_isubI C (z := (nI (poly i) - nI ((gap * inv q last % q) * old (i - shift)))) dX1_mend_43 rfl ?_
      refine r_istore C (lv' := [(0, .ref (ad 0)), (1, .int (nI gap)), (2, .int (nI last)), (3, .int (nI shift)), (4, .int (nI (gap * inv q last % q))), (5, .int (nI i)), (6, .int (nI (poly i) - nI ((gap * inv q last % q) * old (i - shift))))]) [1, 2, 3, 4, 5, 6, 0] dX1_mend_44 (by decide) rfl ?_
      refine r_aload_n C 0 dX1_mend_46 rfl ?_
      refine Lg_poly C dX1_mend_47 ?_
      refine r_iload C 5 dX1_mend_50 rfl ?_
      refine r_aload_n C 0 dX1_mend_52 rfl ?_
      refine r_iload C 6 dX1_mend_53 rfl ?_
      refine r_calli C (ci := 0) (nA := 1) [.int (nI (poly i) - nI ((gap * inv q last % q) * old (i - shift)))] (m_wrap (by omega) hq5 (a := poly i) (b := (gap * inv q last % q) * old (i - shift)) (by have := hp i; omega) (Nat.mul_le_mul (Nat.le_of_lt (Nat.mod_lt _ (by omega))) (Nat.le_of_lt (ho _)))) rfl (lw_V q146 q148 qs7 q26 q149) (by decide +kernel) rfl ⟨rfl, rfl⟩ ⟨Nat.le_of_ble_eq_true rfl, Nat.le_of_ble_eq_true rfl⟩ rfl rfl (Nat.le_of_ble_eq_true rfl) dX1_mend_55 (fun r u hu => ?_)
      obtain rfl : _ = _ := hu
      refine r_i2b C dX1_mend_58 (by have := Nat.mod_lt (poly i + q * q - (gap * inv q last % q) * old (i - shift)) (show 0 < q by omega); omega) ?_
      refine Ls_poly C dX1_mend_59 (by omega) (by have := Nat.mod_lt (poly i + q * q - (gap * inv q last % q) * old (i - shift)) (show 0 < q by omega); omega) ?_
      refine r_iinc C (k := 5) (v := (nI (i + 1))) (lv' := [(0, .ref (ad 0)), (1, .int (nI gap)), (2, .int (nI last)), (3, .int (nI shift)), (4, .int (nI (gap * inv q last % q))), (5, .int (nI (i + 1))), (6, .int (nI (poly i) - nI ((gap * inv q last % q) * old (i - shift))))]) [1, 2, 3, 4, 5, 0, 6] dX1_mend_60 rfl (nI_inc _) (by decide) rfl ?_
      refine r_goto C 17 dX1_mend_63 (by decide) ?_
      rw [mdI_s _ _ _ _ _ _ hli]
      refine r_fewer C [0, 1, 2, 3, 4, 5] rfl ?_
      exact ih
  have hz := lp17 shift (Nat.le_refl _) hsh
  rw [mdI_0] at hz
  exact hz
set_option maxHeartbeats 4000000 in
theorem m_swap {l : Launch} {D : va_G} {dB : ClassId} {ad : Nat → Nat} {q lim size wsz rows cols rank rl : Nat} {sym work poly old copy : Nat → Nat} {M : Nat → Nat → Nat} {piv reg : Nat → Nat} {a b : Nat} (hc : cols < 14) (hr : rows ≤ 14) (ha : a < rows) (hb : b < rows) (hM : ∀ i j, i < rows → j ≤ cols → M i j < 128) : MV l D [(dB, .byte)] yX1_swap cX1_swap 5 (rmk 0) [.ref (ad 0), .int (nI a), .int (nI b)] (LW ad dB q lim size wsz rows cols rank rl sym work poly old copy M piv reg) (fun (u : Unit) => True) (fun u => (LW ad dB q lim size wsz rows cols rank rl sym work poly old copy (swI M a b (cols + 1)) piv reg)) := by
  refine MV_of RX1 (by decide) rfl (Nat.le_of_ble_eq_true rfl) [(0, .ref (ad 0)), (1, .int (nI a)), (2, .int (nI b))] rfl ?_
  intro Z C hret
  refine r_iconst C (v := nI 0) dX1_swap_0 (by decide) ?_
  refine r_istore_n C (lv' := [(0, .ref (ad 0)), (1, .int (nI a)), (2, .int (nI b)), (3, .int (nI 0))]) [1, 2, 3, 0] dX1_swap_1 (by decide) rfl ?_
  have lp2 : ∀ k, 0 ≤ k → k ≤ cols + 1 → Z (LW ad dB q lim size wsz rows cols rank rl sym work poly old copy (swI M a b k) piv reg) [(0, .ref (ad 0)), (1, .int (nI a)), (2, .int (nI b)), (3, .int (nI k))] 2 [] := by
    refine nd_lo 0 (cols + 1) ?_ ?_
    · show Z (LW ad dB q lim size wsz rows cols rank rl sym work poly old copy (swI M a b (cols + 1)) piv reg) [(0, .ref (ad 0)), (1, .int (nI a)), (2, .int (nI b)), (3, .int (nI (cols + 1)))] 2 []
      refine r_iload_n C 3 dX1_swap_2 rfl ?_
      refine r_aload_n C 0 dX1_swap_3 rfl ?_
      refine Lg_columns C dX1_swap_4 ?_
      refine r_icmp_gt C 64 dX1_swap_7 (by decide) (by omega) (by omega) (fun hc7 => ?_) (fun hc7 => absurd hc7 (by omega))
      exact hret () _ _ dX1_swap_64 trivial
    · intro k hlk hk ih 
      refine r_iload_n C 3 dX1_swap_2 rfl ?_
      refine r_aload_n C 0 dX1_swap_3 rfl ?_
      refine Lg_columns C dX1_swap_4 ?_
      refine r_icmp_gt C 64 dX1_swap_7 (by decide) (by omega) (by omega) (fun hc7 => absurd hc7 (by omega)) (fun hc7 => ?_)
      refine r_aload_n C 0 dX1_swap_10 rfl ?_
      refine Lg_cells C dX1_swap_11 ?_
      refine r_iload_n C 1 dX1_swap_14 rfl ?_
      refine r_bipush C (v := nI 14) dX1_swap_15 (by decide) ?_
      refine r_imul C dX1_swap_17 ?_
      refine r_iload_n C 3 dX1_swap_18 rfl ?_
      refine r_iadd C dX1_swap_19 ?_
      refine Ll_M C (i := a) (c := k) dX1_swap_20 rfl (by omega) (by omega) ?_
      refine r_top (b := M a k) (swI_at _ _ _ _ _) ?_
      refine r_istore C (lv' := [(0, .ref (ad 0)), (1, .int (nI a)), (2, .int (nI b)), (3, .int (nI k)), (4, .int (nI (M a k)))]) [1, 2, 3, 4, 0] dX1_swap_21 (by decide) rfl ?_
      refine r_aload_n C 0 dX1_swap_23 rfl ?_
      refine Lg_cells C dX1_swap_24 ?_
      refine r_iload_n C 1 dX1_swap_27 rfl ?_
      refine r_bipush C (v := nI 14) dX1_swap_28 (by decide) ?_
      refine r_imul C dX1_swap_30 ?_
      refine r_iload_n C 3 dX1_swap_31 rfl ?_
      refine r_iadd C dX1_swap_32 ?_
      refine r_aload_n C 0 dX1_swap_33 rfl ?_
      refine Lg_cells C dX1_swap_34 ?_
      refine r_iload_n C 2 dX1_swap_37 rfl ?_
      refine r_bipush C (v := nI 14) dX1_swap_38 (by decide) ?_
      refine r_imul C dX1_swap_40 ?_
      refine r_iload_n C 3 dX1_swap_41 rfl ?_
      refine r_iadd C dX1_swap_42 ?_
      refine Ll_M C (i := b) (c := k) dX1_swap_43 rfl (by omega) (by omega) ?_
      refine r_top (b := M b k) (swI_at _ _ _ _ _) ?_
      refine Ls_M C (i := a) (c := k) dX1_swap_44 rfl (by omega) (by omega) (hM b k hb (by omega)) ?_
      refine r_aload_n C 0 dX1_swap_45 rfl ?_
      refine Lg_cells C dX1_swap_46 ?_
      refine r_iload_n C 2 dX1_swap_49 rfl ?_
      refine r_bipush C (v := nI 14) dX1_swap_50 (by decide) ?_
      refine r_imul C dX1_swap_52 ?_
      refine r_iload_n C 3 dX1_swap_53 rfl ?_
      refine r_iadd C dX1_swap_54 ?_
      refine r_iload C 4 dX1_swap_55 rfl ?_
      refine Ls_M C (i := b) (c := k) dX1_swap_57 rfl (by omega) (by omega) (hM a k ha (by omega)) ?_
      refine r_iinc C (k := 3) (v := (nI (k + 1))) (lv' := [(0, .ref (ad 0)), (1, .int (nI a)), (2, .int (nI b)), (3, .int (nI (k + 1))), (4, .int (nI (M a k)))]) [1, 2, 3, 0, 4] dX1_swap_58 rfl (nI_inc _) (by decide) rfl ?_
      refine r_goto C 2 dX1_swap_61 (by decide) ?_
      rw [swI_s]
      refine r_fewer C [0, 1, 2, 3] rfl ?_
      exact ih
  have hz := lp2 0 (by omega) (by omega)
  rw [swI_0] at hz
  exact hz
set_option maxHeartbeats 4000000 in
theorem m_scale {l : Launch} {D : va_G} {dB : ClassId} {ad : Nat → Nat} {q lim size wsz rows cols rank rl : Nat} {sym work poly old copy : Nat → Nat} {M : Nat → Nat → Nat} {piv reg : Nat → Nat} {a c : Nat} (hq2 : 2 ≤ q) (hq5 : q ≤ 5) (hc : cols < 14) (hr : rows ≤ 14) (ha : a < rows) (hcc : c ≤ cols) (hf : inv q (M a c) < 5) (hM : ∀ i j, i < rows → j ≤ cols → M i j < 5) : MV l D [(dB, .byte)] yX1_scale cX1_scale 5 (rmk 1) [.ref (ad 0), .int (nI a), .int (nI c)] (LW ad dB q lim size wsz rows cols rank rl sym work poly old copy M piv reg) (fun (u : Unit) => True) (fun u => (LW ad dB q lim size wsz rows cols rank rl sym work poly old copy (scI q M a (inv q (M a c)) (cols + 1)) piv reg)) := by
  refine MV_of RX1 (by decide) rfl (Nat.le_of_ble_eq_true rfl) [(0, .ref (ad 0)), (1, .int (nI a)), (2, .int (nI c))] rfl ?_
  intro Z C hret
  refine r_aload_n C 0 dX1_scale_0 rfl ?_
  refine r_aload_n C 0 dX1_scale_1 rfl ?_
  refine Lg_cells C dX1_scale_2 ?_
  refine r_iload_n C 1 dX1_scale_5 rfl ?_
  refine r_bipush C (v := nI 14) dX1_scale_6 (by decide) ?_
  refine r_imul C dX1_scale_8 ?_
  refine r_iload_n C 2 dX1_scale_9 rfl ?_
  refine r_iadd C dX1_scale_10 ?_
  refine Ll_M C (i := a) (c := c) dX1_scale_11 rfl (by omega) (by omega) ?_
  refine r_calli C (ci := 0) (nA := 1) [.int (nI (M a c))] (m_inverse hq2 hq5 (by have := hM a c ha hcc; omega)) rfl (lw_V q142 q144 qs6 q26 q145) (by decide +kernel) rfl ⟨rfl, rfl⟩ ⟨Nat.le_of_ble_eq_true rfl, Nat.le_of_ble_eq_true rfl⟩ rfl rfl (Nat.le_of_ble_eq_true rfl) dX1_scale_12 (fun r u hu => ?_)
  obtain rfl : _ = _ := hu
  refine r_istore_n C (lv' := [(0, .ref (ad 0)), (1, .int (nI a)), (2, .int (nI c)), (3, .int (nI (inv q (M a c))))]) [1, 2, 3, 0] dX1_scale_15 (by decide) rfl ?_
  refine r_iconst C (v := nI 0) dX1_scale_16 (by decide) ?_
  refine r_istore C (lv' := [(0, .ref (ad 0)), (1, .int (nI a)), (2, .int (nI c)), (3, .int (nI (inv q (M a c)))), (4, .int (nI 0))]) [1, 2, 3, 4, 0] dX1_scale_17 (by decide) rfl ?_
  have lp19 : ∀ k, 0 ≤ k → k ≤ cols + 1 → Z (LW ad dB q lim size wsz rows cols rank rl sym work poly old copy (scI q M a (inv q (M a c)) k) piv reg) [(0, .ref (ad 0)), (1, .int (nI a)), (2, .int (nI c)), (3, .int (nI (inv q (M a c)))), (4, .int (nI k))] 19 [] := by
    refine nd_lo 0 (cols + 1) ?_ ?_
    · show Z (LW ad dB q lim size wsz rows cols rank rl sym work poly old copy (scI q M a (inv q (M a c)) (cols + 1)) piv reg) [(0, .ref (ad 0)), (1, .int (nI a)), (2, .int (nI c)), (3, .int (nI (inv q (M a c)))), (4, .int (nI (cols + 1)))] 19 []
      refine r_iload C 4 dX1_scale_19 rfl ?_
      refine r_aload_n C 0 dX1_scale_21 rfl ?_
      refine Lg_columns C dX1_scale_22 ?_
      refine r_icmp_gt C 66 dX1_scale_25 (by decide) (by omega) (by omega) (fun hc25 => ?_) (fun hc25 => absurd hc25 (by omega))
      exact hret () _ _ dX1_scale_66 trivial
    · intro k hlk hk ih 
      refine r_iload C 4 dX1_scale_19 rfl ?_
      refine r_aload_n C 0 dX1_scale_21 rfl ?_
      refine Lg_columns C dX1_scale_22 ?_
      refine r_icmp_gt C 66 dX1_scale_25 (by decide) (by omega) (by omega) (fun hc25 => absurd hc25 (by omega)) (fun hc25 => ?_)
      refine r_aload_n C 0 dX1_scale_28 rfl ?_
      refine Lg_cells C dX1_scale_29 ?_
      refine r_iload_n C 1 dX1_scale_32 rfl ?_
      refine r_bipush C (v := nI 14) dX1_scale_33 (by decide) ?_
      refine r_imul C dX1_scale_35 ?_
      refine r_iload C 4 dX1_scale_36 rfl ?_
      refine r_iadd C dX1_scale_38 ?_
      refine r_aload_n C 0 dX1_scale_39 rfl ?_
      refine Lg_cells C dX1_scale_40 ?_
      refine r_iload_n C 1 dX1_scale_43 rfl ?_
      refine r_bipush C (v := nI 14) dX1_scale_44 (by decide) ?_
      refine r_imul C dX1_scale_46 ?_
      refine r_iload C 4 dX1_scale_47 rfl ?_
      refine r_iadd C dX1_scale_49 ?_
      refine Ll_M C (i := a) (c := k) dX1_scale_50 rfl (by omega) (by omega) ?_
      refine r_top (b := M a k) (scI_at _ _ _ _ _ _) ?_
      refine r_iload_n C 3 dX1_scale_51 rfl ?_
      refine r_imul C dX1_scale_52 ?_
      refine r_aload_n C 0 dX1_scale_53 rfl ?_
      refine Lg_q C dX1_scale_54 ?_
      refine r_irem C dX1_scale_57 (by have := mul_le16 (hM a k ha (by omega)) hf; omega) (by omega) (by omega) ?_
      refine r_i2b C dX1_scale_58 (by have := Nat.mod_lt (M a k * inv q (M a c)) (show 0 < q by omega); omega) ?_
      refine Ls_M C (i := a) (c := k) dX1_scale_59 rfl (by omega) (by omega) (by have := Nat.mod_lt (M a k * inv q (M a c)) (show 0 < q by omega); omega) ?_
      refine r_iinc C (k := 4) (v := (nI (k + 1))) (lv' := [(0, .ref (ad 0)), (1, .int (nI a)), (2, .int (nI c)), (3, .int (nI (inv q (M a c)))), (4, .int (nI (k + 1)))]) [1, 2, 3, 4, 0] dX1_scale_60 rfl (nI_inc _) (by decide) rfl ?_
      refine r_goto C 19 dX1_scale_63 (by decide) ?_
      rw [scI_s]
      exact ih
  have hz := lp19 0 (by omega) (by omega)
  rw [scI_0] at hz
  exact hz
set_option maxHeartbeats 4000000 in
theorem m_subtract {l : Launch} {D : va_G} {dB : ClassId} {ad : Nat → Nat} {q lim size wsz rows cols rank rl : Nat} {sym work poly old copy : Nat → Nat} {M : Nat → Nat → Nat} {piv reg : Nat → Nat} {a c f : Nat} (hq2 : 2 ≤ q) (hq5 : q ≤ 5) (hcl : cols < 14) (hr : rows ≤ 14) (ha : a < rows) (hc : c < rows) (hac : a ≠ c) (hf : f < q) (hM : ∀ i j, i < rows → j ≤ cols → M i j < q) : MV l D [(dB, .byte)] yX1_subtract cX1_subtract 6 (rmk 1) [.ref (ad 0), .int (nI a), .int (nI c), .int (nI f)] (LW ad dB q lim size wsz rows cols rank rl sym work poly old copy M piv reg) (fun (u : Unit) => True) (fun u => (LW ad dB q lim size wsz rows cols rank rl sym work poly old copy (sbI q M a c f (cols + 1)) piv reg)) := by
  refine MV_of RX1 (by decide) rfl (Nat.le_of_ble_eq_true rfl) [(0, .ref (ad 0)), (1, .int (nI a)), (2, .int (nI c)), (3, .int (nI f))] rfl ?_
  intro Z C hret
  refine r_iconst C (v := nI 0) dX1_subtract_0 (by decide) ?_
  refine r_istore C (lv' := [(0, .ref (ad 0)), (1, .int (nI a)), (2, .int (nI c)), (3, .int (nI f)), (4, .int (nI 0))]) [1, 2, 3, 4, 0] dX1_subtract_1 (by decide) rfl ?_
  have lp3 : ∀ k, 0 ≤ k → k ≤ cols + 1 → Z (LW ad dB q lim size wsz rows cols rank rl sym work poly old copy (sbI q M a c f k) piv reg) [(0, .ref (ad 0)), (1, .int (nI a)), (2, .int (nI c)), (3, .int (nI f)), (4, .int (nI k))] 3 [] := by
    refine nd_lo 0 (cols + 1) ?_ ?_
    · show Z (LW ad dB q lim size wsz rows cols rank rl sym work poly old copy (sbI q M a c f (cols + 1)) piv reg) [(0, .ref (ad 0)), (1, .int (nI a)), (2, .int (nI c)), (3, .int (nI f)), (4, .int (nI (cols + 1)))] 3 []
      refine r_iload C 4 dX1_subtract_3 rfl ?_
      refine r_aload_n C 0 dX1_subtract_5 rfl ?_
      refine Lg_columns C dX1_subtract_6 ?_
      refine r_icmp_gt C 66 dX1_subtract_9 (by decide) (by omega) (by omega) (fun hc9 => ?_) (fun hc9 => absurd hc9 (by omega))
      exact hret () _ _ dX1_subtract_66 trivial
    · intro k hlk hk ih 
      refine r_iload C 4 dX1_subtract_3 rfl ?_
      refine r_aload_n C 0 dX1_subtract_5 rfl ?_
      refine Lg_columns C dX1_subtract_6 ?_
      refine r_icmp_gt C 66 dX1_subtract_9 (by decide) (by omega) (by omega) (fun hc9 => absurd hc9 (by omega)) (fun hc9 => ?_)
      refine r_aload_n C 0 dX1_subtract_12 rfl ?_
      refine Lg_cells C dX1_subtract_13 ?_
      refine r_iload_n C 1 dX1_subtract_16 rfl ?_
      refine r_bipush C (v := nI 14) dX1_subtract_17 (by decide) ?_
      refine r_imul C dX1_subtract_19 ?_
      refine r_iload C 4 dX1_subtract_20 rfl ?_
      refine r_iadd C dX1_subtract_22 ?_
      refine Ll_M C (i := a) (c := k) dX1_subtract_23 rfl (by omega) (by omega) ?_
      refine r_top (b := M a k) (sbI_at _ _ _ _ _ _ _) ?_
      refine r_iload_n C 3 dX1_subtract_24 rfl ?_
      refine r_aload_n C 0 dX1_subtract_25 rfl ?_
      refine Lg_cells C dX1_subtract_26 ?_
      refine r_iload_n C 2 dX1_subtract_29 rfl ?_
      refine r_bipush C (v := nI 14) dX1_subtract_30 (by decide) ?_
      refine r_imul C dX1_subtract_32 ?_
      refine r_iload C 4 dX1_subtract_33 rfl ?_
      refine r_iadd C dX1_subtract_35 ?_
      refine Ll_M C (i := c) (c := k) dX1_subtract_36 rfl (by omega) (by omega) ?_
      refine r_top (b := M c k) (sbI_at _ _ _ _ _ _ _) ?_
      refine r_imul C dX1_subtract_37 ?_
      refine r_isubI C (z := (nI (M a k) - nI (f * M c k))) dX1_subtract_38 rfl ?_
      refine r_istore C (lv' := [(0, .ref (ad 0)), (1, .int (nI a)), (2, .int (nI c)), (3, .int (nI f)), (4, .int (nI k)), (5, .int (nI (M a k) - nI (f * M c k)))]) [1, 2, 3, 4, 5, 0] dX1_subtract_39 (by decide) rfl ?_
      refine r_aload_n C 0 dX1_subtract_41 rfl ?_
      refine Lg_cells C dX1_subtract_42 ?_
      refine r_iload_n C 1 dX1_subtract_45 rfl ?_
      refine r_bipush C (v := nI 14) dX1_subtract_46 (by decide) ?_
      refine r_imul C dX1_subtract_48 ?_
      refine r_iload C 4 dX1_subtract_49 rfl ?_
      refine r_iadd C dX1_subtract_51 ?_
      refine r_aload_n C 0 dX1_subtract_52 rfl ?_
      refine r_iload C 5 dX1_subtract_53 rfl ?_
      refine r_calli C (ci := 0) (nA := 1) [.int (nI (M a k) - nI (f * M c k))] (m_wrap (by omega) hq5 (a := M a k) (b := f * M c k) (by have := hM a k ha (by omega); omega) (Nat.mul_le_mul (Nat.le_of_lt hf) (Nat.le_of_lt (hM c k hc (by omega))))) rfl (lw_V q146 q148 qs7 q26 q149) (by decide +kernel) rfl ⟨rfl, rfl⟩ ⟨Nat.le_of_ble_eq_true rfl, Nat.le_of_ble_eq_true rfl⟩ rfl rfl (Nat.le_of_ble_eq_true rfl) dX1_subtract_55 (fun r u hu => ?_)
      obtain rfl : _ = _ := hu
      refine r_i2b C dX1_subtract_58 (by have := Nat.mod_lt (M a k + q * q - f * M c k) (show 0 < q by omega); omega) ?_
      refine Ls_M C (i := a) (c := k) dX1_subtract_59 rfl (by omega) (by omega) (by have := Nat.mod_lt (M a k + q * q - f * M c k) (show 0 < q by omega); omega) ?_
      refine r_iinc C (k := 4) (v := (nI (k + 1))) (lv' := [(0, .ref (ad 0)), (1, .int (nI a)), (2, .int (nI c)), (3, .int (nI f)), (4, .int (nI (k + 1))), (5, .int (nI (M a k) - nI (f * M c k)))]) [1, 2, 3, 4, 0, 5] dX1_subtract_60 rfl (nI_inc _) (by decide) rfl ?_
      refine r_goto C 3 dX1_subtract_63 (by decide) ?_
      rw [sbI_s]
      refine r_fewer C [0, 1, 2, 3, 4] rfl ?_
      exact ih
  have hz := lp3 0 (by omega) (by omega)
  rw [sbI_0] at hz
  exact hz
set_option maxHeartbeats 4000000 in
theorem m_clearColumn {l : Launch} {D : va_G} {dB : ClassId} {ad : Nat → Nat} {q lim size wsz rows cols rank rl : Nat} {sym work poly old copy : Nat → Nat} {M : Nat → Nat → Nat} {piv reg : Nat → Nat} {a c : Nat} (hq2 : 2 ≤ q) (hq5 : q ≤ 5) (hcl : cols < 14) (hr : rows ≤ 14) (ha : a < rows) (hcc : c ≤ cols) (hM : ∀ i j, i < rows → j ≤ cols → M i j < q) : MV l D [(dB, .byte)] yX1_clearColumn cX1_clearColumn 5 (rmk 2) [.ref (ad 0), .int (nI a), .int (nI c)] (LW ad dB q lim size wsz rows cols rank rl sym work poly old copy M piv reg) (fun (u : Unit) => True) (fun u => (LW ad dB q lim size wsz rows cols rank rl sym work poly old copy (ccI q M a c cols rows) piv reg)) := by
  refine MV_of RX1 (by decide) rfl (Nat.le_of_ble_eq_true rfl) [(0, .ref (ad 0)), (1, .int (nI a)), (2, .int (nI c))] rfl ?_
  intro Z C hret
  refine r_iconst C (v := nI 0) dX1_clearColumn_0 (by decide) ?_
  refine r_istore_n C (lv' := [(0, .ref (ad 0)), (1, .int (nI a)), (2, .int (nI c)), (3, .int (nI 0))]) [1, 2, 3, 0] dX1_clearColumn_1 (by decide) rfl ?_
  have lp2 : ∀ n, 0 ≤ n → n ≤ rows → Z (LW ad dB q lim size wsz rows cols rank rl sym work poly old copy (ccI q M a c cols n) piv reg) [(0, .ref (ad 0)), (1, .int (nI a)), (2, .int (nI c)), (3, .int (nI n))] 2 [] := by
    refine nd_lo 0 rows ?_ ?_
    · show Z (LW ad dB q lim size wsz rows cols rank rl sym work poly old copy (ccI q M a c cols rows) piv reg) [(0, .ref (ad 0)), (1, .int (nI a)), (2, .int (nI c)), (3, .int (nI rows))] 2 []
      refine r_iload_n C 3 dX1_clearColumn_2 rfl ?_
      refine r_aload_n C 0 dX1_clearColumn_3 rfl ?_
      refine Lg_rows C dX1_clearColumn_4 ?_
      refine r_icmp_ge C 47 dX1_clearColumn_7 (by decide) (by omega) (by omega) (fun hc7 => ?_) (fun hc7 => absurd hc7 (by omega))
      exact hret () _ _ dX1_clearColumn_47 trivial
    · intro n hln hn ih 
      refine r_iload_n C 3 dX1_clearColumn_2 rfl ?_
      refine r_aload_n C 0 dX1_clearColumn_3 rfl ?_
      refine Lg_rows C dX1_clearColumn_4 ?_
      refine r_icmp_ge C 47 dX1_clearColumn_7 (by decide) (by omega) (by omega) (fun hc7 => absurd hc7 (by omega)) (fun hc7 => ?_)
      refine r_aload_n C 0 dX1_clearColumn_10 rfl ?_
      refine Lg_cells C dX1_clearColumn_11 ?_
      refine r_iload_n C 3 dX1_clearColumn_14 rfl ?_
      refine r_bipush C (v := nI 14) dX1_clearColumn_15 (by decide) ?_
      refine r_imul C dX1_clearColumn_17 ?_
      refine r_iload_n C 2 dX1_clearColumn_18 rfl ?_
      refine r_iadd C dX1_clearColumn_19 ?_
      refine Ll_M C (i := n) (c := c) dX1_clearColumn_20 rfl (by omega) (by omega) ?_
      refine r_top (b := M n c) (ccI_at _ _ _ _ _ _ _) ?_
      refine r_istore C (lv' := [(0, .ref (ad 0)), (1, .int (nI a)), (2, .int (nI c)), (3, .int (nI n)), (4, .int (nI (M n c)))]) [1, 2, 3, 4, 0] dX1_clearColumn_21 (by decide) rfl ?_
      refine r_iload_n C 3 dX1_clearColumn_23 rfl ?_
      refine r_iload_n C 1 dX1_clearColumn_24 rfl ?_
      refine r_icmp_eq C 41 dX1_clearColumn_25 (by decide) (by omega) (by omega) (fun hc25 => ?_) (fun hc25 => ?_)
      · rw [show ccI q M a c cols n = ccI q M a c cols (n + 1) by rw [hc25]; exact ccI_sr q M a c cols]
        refine r_iinc C (k := 3) (v := (nI (n + 1))) (lv' := [(0, .ref (ad 0)), (1, .int (nI a)), (2, .int (nI c)), (3, .int (nI (n + 1))), (4, .int (nI (M n c)))]) [1, 2, 3, 0, 4] dX1_clearColumn_41 rfl (nI_inc _) (by decide) rfl ?_
        refine r_goto C 2 dX1_clearColumn_44 (by decide) ?_
        refine r_fewer C [0, 1, 2, 3] rfl ?_
        exact ih
      · refine r_iload C 4 dX1_clearColumn_28 rfl ?_
        refine r_if_eq C 41 dX1_clearColumn_30 (by decide) (by have := hM n c (by omega) hcc; omega) (fun hc30 => ?_) (fun hc30 => ?_)
        · rw [ccI_s0 q M a c cols n hc30 (fun j hj => hM n j (by omega) (by omega))]
          refine r_iinc C (k := 3) (v := (nI (n + 1))) (lv' := [(0, .ref (ad 0)), (1, .int (nI a)), (2, .int (nI c)), (3, .int (nI (n + 1))), (4, .int (nI (M n c)))]) [1, 2, 3, 0, 4] dX1_clearColumn_41 rfl (nI_inc _) (by decide) rfl ?_
          refine r_goto C 2 dX1_clearColumn_44 (by decide) ?_
          refine r_fewer C [0, 1, 2, 3] rfl ?_
          exact ih
        · refine r_aload_n C 0 dX1_clearColumn_33 rfl ?_
          refine r_iload_n C 3 dX1_clearColumn_34 rfl ?_
          refine r_iload_n C 1 dX1_clearColumn_35 rfl ?_
          refine r_iload C 4 dX1_clearColumn_36 rfl ?_
          have hMn : ∀ i j, i < rows → j ≤ cols → ccI q M a c cols n i j < q := fun i j hi hj => by
            simp only [ccI]
            split
            · exact Nat.mod_lt _ (by omega)
            · exact hM i j hi hj
          refine r_callv C (ci := 0) (nA := 3) [.int (nI n), .int (nI a), .int (nI (M n c))] (m_subtract hq2 hq5 hcl hr (by omega) ha hc25 (hM n c (by omega) hcc) hMn) rfl (lw_V q182 q184 qs15 q26 q185) (by decide +kernel) rfl ⟨rfl, rfl⟩ ⟨Nat.le_of_ble_eq_true rfl, Nat.le_of_ble_eq_true rfl⟩ rfl rfl (Nat.le_of_ble_eq_true rfl) dX1_clearColumn_38 (fun u hu => ?_)
          rw [ccI_s q M a c cols n hc25]
          refine r_iinc C (k := 3) (v := (nI (n + 1))) (lv' := [(0, .ref (ad 0)), (1, .int (nI a)), (2, .int (nI c)), (3, .int (nI (n + 1))), (4, .int (nI (M n c)))]) [1, 2, 3, 0, 4] dX1_clearColumn_41 rfl (nI_inc _) (by decide) rfl ?_
          refine r_goto C 2 dX1_clearColumn_44 (by decide) ?_
          refine r_fewer C [0, 1, 2, 3] rfl ?_
          exact ih
  have hz := lp2 0 (by omega) (by omega)
  rw [ccI_0] at hz
  exact hz
set_option maxHeartbeats 4000000 in
theorem m_rowWith {l : Launch} {D : va_G} {dB : ClassId} {ad : Nat → Nat} {q lim size wsz rows cols rank rl : Nat} {sym work poly old copy : Nat → Nat} {M : Nat → Nat → Nat} {piv reg : Nat → Nat} {c : Nat} (hcl : cols < 14) (hr : rows ≤ 14) (hrk : rank ≤ rows) (hcc : c ≤ cols) (hM : ∀ i j, i < rows → j ≤ cols → M i j < 128) : MI l D [(dB, .byte)] yX1_rowWith cX1_rowWith 3 .int (rmk 0) [.ref (ad 0), .int (nI c)] (LW ad dB q lim size wsz rows cols rank rl sym work poly old copy M piv reg) (fun (r : Int32) (u : Unit) => (∃ j, rank ≤ j ∧ j < rows ∧ M j c ≠ 0 ∧ r = nI j) ∨ (r = -1 ∧ ∀ j, rank ≤ j → j < rows → M j c = 0)) (fun u => (LW ad dB q lim size wsz rows cols rank rl sym work poly old copy M piv reg)) := by
  refine MI_of RX1 (by decide) rfl (Nat.le_of_ble_eq_true rfl) [(0, .ref (ad 0)), (1, .int (nI c))] rfl ?_
  intro Z C hret
  refine r_aload_n C 0 dX1_rowWith_0 rfl ?_
  refine Lg_rank C dX1_rowWith_1 ?_
  refine r_istore_n C (lv' := [(0, .ref (ad 0)), (1, .int (nI c)), (2, .int (nI rank))]) [1, 2, 0] dX1_rowWith_4 (by decide) rfl ?_
  have lp5 : ∀ j, rank ≤ j → j ≤ rows → (∀ i, rank ≤ i → i < j → M i c = 0) → Z (LW ad dB q lim size wsz rows cols rank rl sym work poly old copy M piv reg) [(0, .ref (ad 0)), (1, .int (nI c)), (2, .int (nI j))] 5 [] := by
    refine nd_lo rank rows ?_ ?_
    · intro hI
      show Z (LW ad dB q lim size wsz rows cols rank rl sym work poly old copy M piv reg) [(0, .ref (ad 0)), (1, .int (nI c)), (2, .int (nI rows))] 5 []
      refine r_iload_n C 2 dX1_rowWith_5 rfl ?_
      refine r_aload_n C 0 dX1_rowWith_6 rfl ?_
      refine Lg_rows C dX1_rowWith_7 ?_
      refine r_icmp_ge C 35 dX1_rowWith_10 (by decide) (by omega) (by omega) (fun hc10 => ?_) (fun hc10 => absurd hc10 (by omega))
      refine r_iconst C (v := -1) dX1_rowWith_35 (by decide) ?_
      exact hret () _ _ _ dX1_rowWith_36 rfl (Or.inr ⟨rfl, hI⟩)
    · intro j hlj hj ih hI
      refine r_iload_n C 2 dX1_rowWith_5 rfl ?_
      refine r_aload_n C 0 dX1_rowWith_6 rfl ?_
      refine Lg_rows C dX1_rowWith_7 ?_
      refine r_icmp_ge C 35 dX1_rowWith_10 (by decide) (by omega) (by omega) (fun hc10 => absurd hc10 (by omega)) (fun hc10 => ?_)
      refine r_aload_n C 0 dX1_rowWith_13 rfl ?_
      refine Lg_cells C dX1_rowWith_14 ?_
      refine r_iload_n C 2 dX1_rowWith_17 rfl ?_
      refine r_bipush C (v := nI 14) dX1_rowWith_18 (by decide) ?_
      refine r_imul C dX1_rowWith_20 ?_
      refine r_iload_n C 1 dX1_rowWith_21 rfl ?_
      refine r_iadd C dX1_rowWith_22 ?_
      refine Ll_M C (i := j) (c := c) dX1_rowWith_23 rfl (by omega) (by omega) ?_
      refine r_if_eq C 29 dX1_rowWith_24 (by decide) (by have := hM j c (by omega) hcc; omega) (fun hc24 => ?_) (fun hc24 => ?_)
      · refine r_iinc C (k := 2) (v := (nI (j + 1))) (lv' := [(0, .ref (ad 0)), (1, .int (nI c)), (2, .int (nI (j + 1)))]) [1, 2, 0] dX1_rowWith_29 rfl (nI_inc _) (by decide) rfl ?_
        refine r_goto C 5 dX1_rowWith_32 (by decide) ?_
        exact ih (fun i h1 h2 => by rcases Nat.lt_or_ge i j with h | h; exact hI i h1 h; rw [show i = j by omega]; exact hc24)
      · refine r_iload_n C 2 dX1_rowWith_27 rfl ?_
        exact hret () _ _ _ dX1_rowWith_28 rfl (Or.inl ⟨j, hlj, hj, hc24, rfl⟩)
  exact lp5 rank (Nat.le_refl _) hrk (fun i h1 h2 => absurd h2 (by omega))
set_option maxHeartbeats 4000000 in
theorem m_step {l : Launch} {D : va_G} {dB : ClassId} {ad : Nat → Nat} {q lim size wsz rows cols rank rl : Nat} {sym work poly old copy : Nat → Nat} {M : Nat → Nat → Nat} {piv reg : Nat → Nat}  (hq0 : 0 < q) (hq5 : q ≤ 5) (hrl : rl < 14) (hwr : rl ≤ wsz) (hws : wsz < 64) (hreg : ∀ i, 1 ≤ i → i ≤ rl → reg i < 5) (hw : ∀ j, j < wsz → work j < 5) : MV l D [(dB, .byte)] yX1_step cX1_step 3 (rmk 0) [.ref (ad 0)] (LW ad dB q lim size wsz rows cols rank rl sym work poly old copy M piv reg) (fun (u : Unit) => True) (fun u => (LW ad dB q lim size (wsz + 1) rows cols rank rl sym (va_up work wsz (rsum reg work wsz rl % q)) poly old copy M piv reg)) := by
  refine MV_of RX1 (by decide) rfl (Nat.le_of_ble_eq_true rfl) [(0, .ref (ad 0))] rfl ?_
  intro Z C hret
  refine r_iconst C (v := nI 0) dX1_step_0 (by decide) ?_
  refine r_istore_n C (lv' := [(0, .ref (ad 0)), (1, .int (nI 0))]) [1, 0] dX1_step_1 (by decide) rfl ?_
  refine r_iconst C (v := nI 1) dX1_step_2 (by decide) ?_
  refine r_istore_n C (lv' := [(0, .ref (ad 0)), (1, .int (nI 0)), (2, .int (nI 1))]) [1, 2, 0] dX1_step_3 (by decide) rfl ?_
  have lp4 : ∀ i, 1 ≤ i → i ≤ rl + 1 → Z (LW ad dB q lim size wsz rows cols rank rl sym work poly old copy M piv reg) [(0, .ref (ad 0)), (1, .int (nI (rsum reg work wsz (i - 1)))), (2, .int (nI i))] 4 [] := by
    refine nd_lo 1 (rl + 1) ?_ ?_
    · show Z (LW ad dB q lim size wsz rows cols rank rl sym work poly old copy M piv reg) [(0, .ref (ad 0)), (1, .int (nI (rsum reg work wsz rl))), (2, .int (nI (rl + 1)))] 4 []
      refine r_iload_n C 2 dX1_step_4 rfl ?_
      refine r_aload_n C 0 dX1_step_5 rfl ?_
      refine Lg_registerLength C dX1_step_6 ?_
      refine r_icmp_gt C 39 dX1_step_9 (by decide) (by omega) (by omega) (fun hc9 => ?_) (fun hc9 => absurd hc9 (by omega))
      refine r_aload_n C 0 dX1_step_39 rfl ?_
      refine Lg_work C dX1_step_40 ?_
      refine r_aload_n C 0 dX1_step_43 rfl ?_
      refine Lg_workSize C dX1_step_44 ?_
      refine r_iload_n C 1 dX1_step_47 rfl ?_
      refine r_aload_n C 0 dX1_step_48 rfl ?_
      refine Lg_q C dX1_step_49 ?_
      refine r_irem C dX1_step_52 (by have := rsum_le (c := reg) (s := work) (j := wsz) rl hreg (fun t h1 h2 => hw _ (by omega)); omega) (by omega) (by omega) ?_
      refine r_i2b C dX1_step_53 (by have := Nat.mod_lt (rsum reg work wsz rl) hq0; omega) ?_
      refine Ls_work C dX1_step_54 (by omega) (by have := Nat.mod_lt (rsum reg work wsz rl) hq0; omega) ?_
      refine r_aload_n C 0 dX1_step_55 rfl ?_
      refine r_dup C dX1_step_56 ?_
      refine Lg_workSize C dX1_step_57 ?_
      refine r_iconst C (v := nI 1) dX1_step_60 (by decide) ?_
      refine r_iadd C dX1_step_61 ?_
      refine Lp_workSize C dX1_step_62 ?_
      exact hret () _ _ dX1_step_65 trivial
    · intro i hli hi ih 
      refine r_iload_n C 2 dX1_step_4 rfl ?_
      refine r_aload_n C 0 dX1_step_5 rfl ?_
      refine Lg_registerLength C dX1_step_6 ?_
      refine r_icmp_gt C 39 dX1_step_9 (by decide) (by omega) (by omega) (fun hc9 => absurd hc9 (by omega)) (fun hc9 => ?_)
      refine r_iload_n C 1 dX1_step_12 rfl ?_
      refine r_aload_n C 0 dX1_step_13 rfl ?_
      refine Lg_register C dX1_step_14 ?_
      refine r_iload_n C 2 dX1_step_17 rfl ?_
      refine Ll_reg C dX1_step_18 (by omega) ?_
      refine r_aload_n C 0 dX1_step_19 rfl ?_
      refine Lg_work C dX1_step_20 ?_
      refine r_aload_n C 0 dX1_step_23 rfl ?_
      refine Lg_workSize C dX1_step_24 ?_
      refine r_iload_n C 2 dX1_step_27 rfl ?_
      refine r_isub C dX1_step_28 (by omega) ?_
      refine Ll_work C dX1_step_29 (by omega) ?_
      refine r_imul C dX1_step_30 ?_
      refine r_iadd C dX1_step_31 ?_
      refine r_istore_n C (lv' := [(0, .ref (ad 0)), (1, .int (nI ((rsum reg work wsz (i - 1)) + ((reg i) * (work (wsz - i)))))), (2, .int (nI i))]) [1, 0, 2] dX1_step_32 (by decide) rfl ?_
      refine r_iinc C (k := 2) (v := (nI (i + 1))) (lv' := [(0, .ref (ad 0)), (1, .int (nI ((rsum reg work wsz (i - 1)) + ((reg i) * (work (wsz - i)))))), (2, .int (nI (i + 1)))]) [1, 2, 0] dX1_step_33 rfl (nI_inc _) (by decide) rfl ?_
      refine r_goto C 4 dX1_step_36 (by decide) ?_
      obtain ⟨t, rfl⟩ : ∃ t, i = t + 1 := ⟨i - 1, by omega⟩
      exact ih
  have hz := lp4 1 (Nat.le_refl _) (by omega)
  exact hz
end
section
/-! plain sums over the integers -/
def isum (f : Nat → Int) : Nat → Int
  | 0 => 0
  | n + 1 => isum f n + f n
theorem isum_congr {f g : Nat → Int} : ∀ n, (∀ t, t < n → f t = g t) → isum f n = isum g n
  | 0, _ => rfl
  | n + 1, h => by
    show isum f n + f n = isum g n + g n
    rw [isum_congr n (fun t ht => h t (by omega)), h n (by omega)]
theorem isum_add (f g : Nat → Int) : ∀ n, isum (fun t => f t + g t) n = isum f n + isum g n
  | 0 => rfl
  | n + 1 => by
    show isum (fun t => f t + g t) n + (f n + g n) = isum f n + f n + (isum g n + g n)
    rw [isum_add f g n]
    omega
theorem isum_sub (f g : Nat → Int) : ∀ n, isum (fun t => f t - g t) n = isum f n - isum g n
  | 0 => rfl
  | n + 1 => by
    show isum (fun t => f t - g t) n + (f n - g n) = isum f n + f n - (isum g n + g n)
    rw [isum_sub f g n]
    omega
theorem isum_mul (a : Int) (f : Nat → Int) : ∀ n, isum (fun t => a * f t) n = a * isum f n
  | 0 => by simp [isum]
  | n + 1 => by
    show isum (fun t => a * f t) n + a * f n = a * (isum f n + f n)
    rw [isum_mul a f n, Int.mul_add]
theorem isum_zero {f : Nat → Int} : ∀ n, (∀ t, t < n → f t = 0) → isum f n = 0
  | 0, _ => rfl
  | n + 1, h => by
    show isum f n + f n = 0
    rw [isum_zero n (fun t ht => h t (by omega)), h n (by omega)]
    rfl
theorem isum_comm (F : Nat → Nat → Int) (n : Nat) : ∀ m, isum (fun i => isum (fun j => F i j) n) m = isum (fun j => isum (fun i => F i j) m) n
  | 0 => by
    show 0 = isum (fun _ => 0) n
    rw [isum_zero n (fun _ _ => rfl)]
  | m + 1 => by
    show isum (fun i => isum (fun j => F i j) n) m + isum (fun j => F m j) n = isum (fun j => isum (fun i => F i j) m + F m j) n
    rw [isum_comm F n m, isum_add]
theorem isum_dvd {q : Int} {f : Nat → Int} : ∀ n, (∀ t, t < n → q ∣ f t) → q ∣ isum f n
  | 0, _ => ⟨0, by simp [isum]⟩
  | n + 1, h => Int.dvd_add (isum_dvd n (fun t ht => h t (by omega))) (h n (by omega))
theorem isum_app (f : Nat → Int) (k : Nat) : ∀ n, isum f (k + n) = isum f k + isum (fun t => f (k + t)) n
  | 0 => by simp [isum]
  | n + 1 => by
    show isum f (k + n) + f (k + n) = isum f k + (isum (fun t => f (k + t)) n + f (k + n))
    rw [isum_app f k n]
    omega
theorem isum_ext {f : Nat → Int} {n m : Nat} (h : n ≤ m) (hz : ∀ t, n ≤ t → t < m → f t = 0) : isum f m = isum f n := by
  obtain ⟨k, rfl⟩ : ∃ k, m = n + k := ⟨m - n, by omega⟩
  rw [isum_app, isum_zero k (fun t ht => hz _ (by omega) (by omega))]
  omega
theorem dsum_i (p s : Nat → Nat) (k : Nat) : ∀ n, ((dsum p s k n : Nat) : Int) = isum (fun t => (p t : Int) * (s (k - t) : Int)) n
  | 0 => rfl
  | n + 1 => by
    show ((dsum p s k n + p n * s (k - n) : Nat) : Int) = _
    rw [Int.natCast_add, Int.natCast_mul, dsum_i p s k n]
    rfl
theorem rsum_i (c s : Nat → Nat) (j : Nat) : ∀ n, ((rsum c s j n : Nat) : Int) = isum (fun t => (c (t + 1) : Int) * (s (j - (t + 1)) : Int)) n
  | 0 => rfl
  | n + 1 => by
    show ((rsum c s j n + c (n + 1) * s (j - (n + 1)) : Nat) : Int) = _
    rw [Int.natCast_add, Int.natCast_mul, rsum_i c s j n]
    rfl
theorem mod_dvd (x q : Nat) : (q : Int) ∣ ((x % q : Nat) : Int) - (x : Int) := by
  have h := Nat.div_add_mod x q
  refine ⟨-((x / q : Nat) : Int), ?_⟩
  have h2 : ((q * (x / q) + x % q : Nat) : Int) = (x : Int) := by rw [h]
  rw [Int.natCast_add, Int.natCast_mul] at h2
  rw [Int.mul_neg]
  omega
theorem mod0_dvd {x q : Nat} : x % q = 0 ↔ (q : Int) ∣ (x : Int) := by
  rw [Int.natCast_dvd_natCast]
  exact ⟨fun h => Nat.dvd_of_mod_eq_zero h, fun h => Nat.mod_eq_zero_of_dvd h⟩
/-- two small numbers alike modulo q are equal -/
theorem mod_uniq {q a b : Nat} (ha : a < q) (hb : b < q) (h : (q : Int) ∣ (a : Int) - (b : Int)) : a = b := by
  obtain ⟨t, ht⟩ := h
  rcases Int.lt_or_le 0 t with h1 | h1
  · have : (q : Int) * 1 ≤ q * t := Int.mul_le_mul_of_nonneg_left (by omega) (by omega)
    omega
  · rcases Int.lt_or_le t 0 with h2 | h2
    · have : (q : Int) * t ≤ q * (-1) := Int.mul_le_mul_of_nonneg_left (by omega) (by omega)
      omega
    · rw [show t = 0 by omega] at ht
      omega
/-- the register c of length L makes the first k symbols -/
def gen (q : Nat) (s : Nat → Nat) (k L : Nat) (c : Nat → Nat) : Prop := ∀ j, L ≤ j → j < k → rsum c s j L % q = s j
theorem gen_less {q k L : Nat} {s c : Nat → Nat} (h : gen q s (k + 1) L c) : gen q s k L c := fun j h1 h2 => h j h1 (by omega)
theorem gen_dvd {q k L : Nat} {s c : Nat → Nat} (h : gen q s k L c) {j : Nat} (h1 : L ≤ j) (h2 : j < k) : (q : Int) ∣ (s j : Int) - isum (fun t => (c (t + 1) : Int) * (s (j - (t + 1)) : Int)) L := by
  rw [← rsum_i, ← h j h1 h2]
  exact mod_dvd _ _
/-- Massey: what a second register says of the first one's next sum -/
theorem massey {q : Int} {P c s : Nat → Int} {k len L : Nat} (hL : L + len ≤ k) (hP : ∀ j, len ≤ j → j < k → q ∣ isum (fun t => P t * s (j - t)) (len + 1))
    (hc : ∀ j, L ≤ j → j ≤ k → q ∣ s j - isum (fun t => c (t + 1) * s (j - (t + 1))) L) : q ∣ isum (fun t => P t * s (k - t)) (len + 1) := by
  have e1 : isum (fun t => P t * s (k - t)) (len + 1) = isum (fun t => P t * (s (k - t) - isum (fun u => c (u + 1) * s (k - t - (u + 1))) L)) (len + 1) + isum (fun t => isum (fun u => P t * (c (u + 1) * s (k - t - (u + 1)))) L) (len + 1) := by
    rw [← isum_add]
    refine isum_congr _ (fun t _ => ?_)
    rw [isum_mul, ← Int.mul_add, Int.sub_add_cancel]
  have e2 : isum (fun t => isum (fun u => P t * (c (u + 1) * s (k - t - (u + 1)))) L) (len + 1) = isum (fun u => c (u + 1) * isum (fun t => P t * s (k - (u + 1) - t)) (len + 1)) L := by
    rw [isum_comm]
    refine isum_congr _ (fun u _ => ?_)
    rw [← isum_mul]
    refine isum_congr _ (fun t _ => ?_)
    rw [show k - t - (u + 1) = k - (u + 1) - t by omega, ← Int.mul_assoc, Int.mul_comm (P t), Int.mul_assoc]
  rw [e1, e2]
  refine Int.dvd_add (isum_dvd _ (fun t ht => ?_)) (isum_dvd _ (fun u hu => ?_))
  · exact Int.dvd_trans (hc (k - t) (by omega) (by omega)) (Int.dvd_mul_left _ _)
  · exact Int.dvd_trans (hP (k - (u + 1)) (by omega) (by omega)) (Int.dvd_mul_left _ _)
/-- the mended polynomial's sums -/
theorem mdF_dvd {q sh shift : Nat} {P B : Nat → Nat} (hsh : sh < q) (hB : ∀ j, B j < q) (j : Nat) : (q : Int) ∣ (mdF q P B sh shift j : Int) - ((P j : Int) - (sh : Int) * (if shift ≤ j then (B (j - shift) : Int) else 0)) := by
  unfold mdF
  by_cases h : shift ≤ j
  · rw [if_pos h, if_pos h]
    have h1 := mod_dvd (P j + q * q - sh * B (j - shift)) q
    have hle : sh * B (j - shift) ≤ q * q := Nat.mul_le_mul (Nat.le_of_lt hsh) (Nat.le_of_lt (hB _))
    rw [Int.natCast_sub (by omega), Int.natCast_add, Int.natCast_mul, Int.natCast_mul] at h1
    have h2 : (q : Int) ∣ (q : Int) * (q : Int) := Int.dvd_mul_right _ _
    have h3 := Int.dvd_add h1 h2
    have e : ((((P j + q * q - sh * B (j - shift)) % q : Nat) : Int) - ((P j : Int) + (q : Int) * (q : Int) - (sh : Int) * (B (j - shift) : Int))) + (q : Int) * (q : Int) = (((P j + q * q - sh * B (j - shift)) % q : Nat) : Int) - ((P j : Int) - (sh : Int) * (B (j - shift) : Int)) := by omega
    rw [e] at h3
    exact h3
  · rw [if_neg h, if_neg h]
    rw [Int.mul_zero]
    exact ⟨0, by omega⟩
theorem mend_sum {q sh shift : Nat} {P B s : Nat → Nat} {j n len Lm : Nat} (hsh : sh < q) (hB : ∀ j, B j < q) (h1 : len ≤ n) (hP0 : ∀ j, len < j → P j = 0) (h2 : Lm + shift ≤ n) (hB0 : ∀ j, Lm < j → B j = 0) :
    (q : Int) ∣ (dsum (mdF q P B sh shift) s j (n + 1) : Int) - ((dsum P s j (len + 1) : Int) - (sh : Int) * (dsum B s (j - shift) (Lm + 1) : Int)) := by
  rw [dsum_i, dsum_i, dsum_i]
  have e1 : isum (fun t => (P t : Int) * (s (j - t) : Int)) (len + 1) = isum (fun t => (P t : Int) * (s (j - t) : Int)) (n + 1) := by
    refine (isum_ext (by omega) (fun t ht _ => ?_)).symm
    rw [hP0 t (by omega)]
    simp
  have e2 : isum (fun t => (B t : Int) * (s (j - shift - t) : Int)) (Lm + 1) = isum (fun t => (if shift ≤ t then (B (t - shift) : Int) else 0) * (s (j - t) : Int)) (n + 1) := by
    have a1 := isum_app (fun t => (if shift ≤ t then (B (t - shift) : Int) else 0) * (s (j - t) : Int)) shift (n + 1 - shift)
    have b1 : isum (fun t => (if shift ≤ t then (B (t - shift) : Int) else 0) * (s (j - t) : Int)) shift = 0 := isum_zero shift (fun t ht => by
      show (if shift ≤ t then (B (t - shift) : Int) else 0) * (s (j - t) : Int) = 0
      rw [if_neg (by omega), Int.zero_mul])
    rw [show n + 1 = shift + (n + 1 - shift) by omega, a1, b1, Int.zero_add]
    have e3 : isum (fun t => (if shift ≤ shift + t then (B (shift + t - shift) : Int) else 0) * (s (j - (shift + t)) : Int)) (n + 1 - shift) = isum (fun t => (B t : Int) * (s (j - shift - t) : Int)) (n + 1 - shift) := by
      refine isum_congr _ (fun t _ => ?_)
      rw [if_pos (by omega), show shift + t - shift = t by omega, show j - (shift + t) = j - shift - t by omega]
    rw [e3]
    refine (isum_ext (by omega) (fun t ht _ => ?_)).symm
    rw [hB0 t (by omega)]
    simp
  rw [e1, e2, ← isum_mul, ← isum_sub, ← isum_sub]
  refine isum_dvd _ (fun t _ => ?_)
  have h := Int.dvd_trans (mdF_dvd (P := P) (shift := shift) hsh hB t) (Int.dvd_mul_right _ (s (j - t) : Int))
  rw [Int.sub_mul, Int.sub_mul, Int.mul_assoc] at h
  exact h
/-! the law of the mending -/
def Q3 (q : Nat) : Prop := q = 2 ∨ q = 3 ∨ q = 5
theorem inv_ok {q v : Nat} (hq : Q3 q) (h0 : 0 < v) (hv : v < q) : v * inv q v % q = 1 := by
  have h2 : ∀ v, v < 2 → 0 < v → v * inv 2 v % 2 = 1 := by decide
  have h3 : ∀ v, v < 3 → 0 < v → v * inv 3 v % 3 = 1 := by decide
  have h5 : ∀ v, v < 5 → 0 < v → v * inv 5 v % 5 = 1 := by decide
  rcases hq with rfl | rfl | rfl
  · exact h2 v hv h0
  · exact h3 v hv h0
  · exact h5 v hv h0
theorem inv_lt {q v : Nat} (hq : Q3 q) (hv : v < q) : inv q v < 5 := by
  have h2 : ∀ v, v < 2 → inv 2 v < 5 := by decide
  have h3 : ∀ v, v < 3 → inv 3 v < 5 := by decide
  have h5 : ∀ v, v < 5 → inv 5 v < 5 := by decide
  rcases hq with rfl | rfl | rfl
  · exact h2 v hv
  · exact h3 v hv
  · exact h5 v hv
/-- what holds with k symbols read: the polynomial P makes them with length len, no shorter register does; B is the polynomial before the last change of length -/
def BInv (q : Nat) (s : Nat → Nat) (k len shift last : Nat) (P B : Nat → Nat) : Prop :=
  (∀ j, P j < q) ∧ (∀ j, B j < q) ∧ P 0 = 1 ∧ (∀ j, len < j → P j = 0) ∧ len ≤ k ∧ 1 ≤ shift ∧ last < q ∧ 0 < last ∧ (∀ j, len ≤ j → j < k → dsum P s j (len + 1) % q = 0) ∧ (∀ L c, L < len → ¬ gen q s k L c) ∧
  ∃ Lm, Lm + shift + len = k + 1 ∧ (∀ j, Lm < j → B j = 0) ∧ (∀ j, Lm + shift ≤ j → j < k → dsum B s (j - shift) (Lm + 1) % q = 0) ∧ (len = 0 ∨ dsum B s (k - shift) (Lm + 1) % q = last)
def one0 : Nat → Nat := fun j => if j = 0 then 1 else 0
theorem BInv_0 {q : Nat} (hq : Q3 q) (s : Nat → Nat) : BInv q s 0 0 1 1 one0 one0 := by
  have h1 : 1 < q := by rcases hq with rfl | rfl | rfl <;> decide
  have hb : ∀ j, one0 j < q := fun j => by unfold one0; split <;> omega
  have h0 : ∀ j, 0 < j → one0 j = 0 := fun j hj => by unfold one0; rw [if_neg (by omega)]
  exact ⟨hb, hb, rfl, h0, Nat.le_refl _, Nat.le_refl _, h1, Nat.one_pos, fun j _ h => absurd h (by omega), fun L c h => absurd h (by omega), 0, rfl, h0, fun j _ h => absurd h (by omega), Or.inl rfl⟩
theorem BInv_same {q k len shift last : Nat} {s P B : Nat → Nat} (h : BInv q s k len shift last P B) (hg : dsum P s k (len + 1) % q = 0) : BInv q s (k + 1) len (shift + 1) last P B := by
  obtain ⟨hP, hB, hP0, hPd, hlk, hs1, hl, hl0, hz, hm, Lm, e, hBd, hBz, hBl⟩ := h
  refine ⟨hP, hB, hP0, hPd, by omega, by omega, hl, hl0, fun j h1 h2 => ?_, fun L c h1 h2 => hm L c h1 (gen_less h2), Lm, by omega, hBd, fun j h1 h2 => ?_, ?_⟩
  · rcases Nat.lt_or_ge j k with h3 | h3
    · exact hz j h1 h3
    · rw [show j = k by omega]; exact hg
  · have := hBz (j - 1) (by omega) (by omega)
    rw [show j - 1 - shift = j - (shift + 1) by omega] at this
    exact this
  · rw [show k + 1 - (shift + 1) = k - shift by omega]; exact hBl
theorem one_dvd_cancel {q a : Int} {g last v sh : Int} (h1 : q ∣ sh - g * v) (h2 : q ∣ last * v - 1) (h3 : q ∣ a - last) : q ∣ g - sh * a := by
  have e : g - sh * a = -((sh - g * v) * a) - (g * v) * (a - last) - g * (last * v - 1) := by grind
  rw [e]
  exact Int.dvd_sub (Int.dvd_sub (Int.dvd_neg.mpr (Int.dvd_trans h1 (Int.dvd_mul_right _ _))) (Int.dvd_trans h3 (Int.dvd_mul_left _ _))) (Int.dvd_trans h2 (Int.dvd_mul_left _ _))
theorem mdF_lt {q sh shift : Nat} {P B : Nat → Nat} (hq : 0 < q) (hP : ∀ j, P j < q) (j : Nat) : mdF q P B sh shift j < q := by
  unfold mdF
  split
  · exact Nat.mod_lt _ hq
  · exact hP j
theorem mdF_0 {q sh shift : Nat} {P B : Nat → Nat} (hs : 1 ≤ shift) : mdF q P B sh shift 0 = P 0 := by
  unfold mdF
  rw [if_neg (by omega)]
theorem mdF_z {q sh shift j : Nat} {P B : Nat → Nat} (hP : P j = 0) (hB : shift ≤ j → B (j - shift) = 0) : mdF q P B sh shift j = 0 := by
  unfold mdF
  split
  · rename_i h
    rw [hP, hB h, Nat.mul_zero, Nat.sub_zero, Nat.zero_add, Nat.mul_mod_right]
  · exact hP
/-- the mended polynomial's sum at j is 0 -/
theorem mend_zero {q k len shift last : Nat} {s P B : Nat → Nat} (hq : Q3 q) (h : BInv q s k len shift last P B) (hg : dsum P s k (len + 1) % q ≠ 0) {n : Nat} (h1 : len ≤ n) (h2 : k + 1 ≤ n + len) (h3 : len ≠ 0) {j : Nat} (hj1 : n ≤ j) (hj2 : j < k + 1) :
    dsum (mdF q P B ((dsum P s k (len + 1) % q) * inv q last % q) shift) s j (n + 1) % q = 0 := by
  have hq0 : 0 < q := by rcases hq with rfl | rfl | rfl <;> decide
  obtain ⟨hP, hB, hP0, hPd, hlk, hs1, hl, hl0, hz, hm, Lm, e, hBd, hBz, hBl⟩ := h
  rw [mod0_dvd]
  have hsh : (dsum P s k (len + 1) % q) * inv q last % q < q := Nat.mod_lt _ hq0
  have hd := mend_sum (P := P) (B := B) (s := s) (j := j) (n := n) (shift := shift) (len := len) (Lm := Lm) hsh hB h1 hPd (by omega) hBd
  have hd2 : (q : Int) ∣ (dsum P s j (len + 1) : Int) - (((dsum P s k (len + 1) % q) * inv q last % q : Nat) : Int) * (dsum B s (j - shift) (Lm + 1) : Int) := by
    rcases Nat.lt_or_ge j k with h4 | h4
    · have a1 := mod0_dvd.mp (hz j (by omega) h4)
      have a2 := mod0_dvd.mp (hBz j (by omega) h4)
      exact Int.dvd_sub a1 (Int.dvd_trans a2 (Int.dvd_mul_left _ _))
    · rw [show j = k by omega]
      have hBl := hBl.resolve_left h3
      have b1 := mod_dvd ((dsum P s k (len + 1) % q) * inv q last) q
      have b2 := mod_dvd (last * inv q last) q
      rw [inv_ok hq hl0 hl] at b2
      have b3 := mod_dvd (dsum B s (k - shift) (Lm + 1)) q
      rw [hBl] at b3
      have b4 := mod_dvd (dsum P s k (len + 1)) q
      rw [Int.natCast_mul] at b1 b2
      have c1 := one_dvd_cancel (q := q) (a := (dsum B s (k - shift) (Lm + 1) : Int)) (g := ((dsum P s k (len + 1) % q : Nat) : Int)) (last := (last : Int)) (v := (inv q last : Int)) (sh := (((dsum P s k (len + 1) % q) * inv q last % q : Nat) : Int)) b1 (by have := Int.dvd_neg.mpr b2; rw [Int.neg_sub] at this; exact this) (by have := Int.dvd_neg.mpr b3; rw [Int.neg_sub] at this; exact this)
      have c2 := Int.dvd_sub c1 b4
      have e2 : ((dsum P s k (len + 1) % q : Nat) : Int) - (((dsum P s k (len + 1) % q) * inv q last % q : Nat) : Int) * (dsum B s (k - shift) (Lm + 1) : Int) - (((dsum P s k (len + 1) % q : Nat) : Int) - (dsum P s k (len + 1) : Int)) = (dsum P s k (len + 1) : Int) - (((dsum P s k (len + 1) % q) * inv q last % q : Nat) : Int) * (dsum B s (k - shift) (Lm + 1) : Int) := by omega
      rw [e2] at c2
      exact c2
  have := Int.dvd_add hd hd2
  rw [Int.sub_add_cancel] at this
  exact this
theorem BInv_grow {q k len shift last : Nat} {s P B : Nat → Nat} (hq : Q3 q) (h : BInv q s k len shift last P B) (hg : dsum P s k (len + 1) % q ≠ 0) (h2 : 2 * len ≤ k) :
    BInv q s (k + 1) (k + 1 - len) 1 (dsum P s k (len + 1) % q) (mdF q P B ((dsum P s k (len + 1) % q) * inv q last % q) shift) P := by
  have hq0 : 0 < q := by rcases hq with rfl | rfl | rfl <;> decide
  have hmz := fun j => mend_zero hq h hg (n := k + 1 - len) (by omega) (by omega) (j := j)
  obtain ⟨hP, hB, hP0, hPd, hlk, hs1, hl, hl0, hz, hm, Lm, e, hBd, hBz, hBl⟩ := h
  refine ⟨mdF_lt hq0 hP, hP, by rw [mdF_0 hs1]; exact hP0, fun j hj => mdF_z (hPd j (by omega)) (fun _ => hBd _ (by omega)), by omega, Nat.le_refl _, Nat.mod_lt _ hq0, by omega, fun j h3 h4 => ?_, fun L c h3 h4 => ?_, len, by omega, hPd, fun j h3 h4 => hz (j - 1) (by omega) (by omega), Or.inr rfl⟩
  · rcases Nat.eq_zero_or_pos len with h5 | h5
    · omega
    · exact hmz j (by omega) h3 h4
  · refine hg ?_
    rw [mod0_dvd, dsum_i]
    refine massey (c := fun t => (c t : Int)) (L := L) (s := fun t => (s t : Int)) (P := fun t => (P t : Int)) (by omega) (fun j h5 h6 => ?_) (fun j h5 h6 => ?_)
    · have := mod0_dvd.mp (hz j h5 h6)
      rw [dsum_i] at this
      exact this
    · exact gen_dvd h4 h5 (by omega)
theorem BInv_keep {q k len shift last : Nat} {s P B : Nat → Nat} (hq : Q3 q) (h : BInv q s k len shift last P B) (hg : dsum P s k (len + 1) % q ≠ 0) (h2 : k < 2 * len) :
    BInv q s (k + 1) len (shift + 1) last (mdF q P B ((dsum P s k (len + 1) % q) * inv q last % q) shift) B := by
  have hq0 : 0 < q := by rcases hq with rfl | rfl | rfl <;> decide
  have hmz := fun j => mend_zero hq h hg (n := len) (by omega) (by omega) (by omega) (j := j)
  obtain ⟨hP, hB, hP0, hPd, hlk, hs1, hl, hl0, hz, hm, Lm, e, hBd, hBz, hBl⟩ := h
  refine ⟨mdF_lt hq0 hP, hB, by rw [mdF_0 hs1]; exact hP0, fun j hj => mdF_z (hPd j (by omega)) (fun _ => hBd _ (by omega)), by omega, by omega, hl, hl0, fun j h3 h4 => hmz j h3 h4, fun L c h3 h4 => hm L c h3 (gen_less h4), Lm, by omega, hBd, fun j h3 h4 => ?_, ?_⟩
  · have := hBz (j - 1) (by omega) (by omega)
    rw [show j - 1 - shift = j - (shift + 1) by omega] at this
    exact this
  · rw [show k + 1 - (shift + 1) = k - shift by omega]; exact hBl
/-- the least length: what makes the sequence, and nothing shorter -/
def Len (q : Nat) (s : Nat → Nat) (k L : Nat) : Prop := L ≤ k ∧ (∃ c, (∀ i, c i < q) ∧ gen q s k L c) ∧ ∀ L' c, L' < L → ¬ gen q s k L' c
theorem Len_uniq {q k L L2 : Nat} {s : Nat → Nat} (h : Len q s k L) (h2 : Len q s k L2) : L = L2 := by
  obtain ⟨-, ⟨c, -, hc⟩, hm⟩ := h
  obtain ⟨-, ⟨c2, -, hc2⟩, hm2⟩ := h2
  rcases Nat.lt_trichotomy L L2 with h | h | h
  · exact absurd hc (hm2 _ _ h)
  · exact h
  · exact absurd hc2 (hm _ _ h)
theorem BInv_len {q k len shift last : Nat} {s P B : Nat → Nat} (hq : Q3 q) (hs : ∀ j, j < k → s j < q) (h : BInv q s k len shift last P B) : Len q s k len := by
  have hq0 : 0 < q := by rcases hq with rfl | rfl | rfl <;> decide
  obtain ⟨hP, hB, hP0, hPd, hlk, hs1, hl, hl0, hz, hm, -⟩ := h
  refine ⟨hlk, ⟨fun i => (q - P i) % q, fun i => Nat.mod_lt _ hq0, fun j h1 h2 => ?_⟩, hm⟩
  refine mod_uniq (Nat.mod_lt _ hq0) (hs j h2) ?_
  have a1 := mod0_dvd.mp (hz j h1 h2)
  rw [dsum_i, show len + 1 = 1 + len by omega, isum_app] at a1
  have e1 : isum (fun t => (P t : Int) * (s (j - t) : Int)) 1 = (s j : Int) := by
    show 0 + (P 0 : Int) * (s (j - 0) : Int) = _
    rw [hP0]
    simp
  rw [e1] at a1
  have a2 := mod_dvd (rsum (fun i => (q - P i) % q) s j len) q
  rw [rsum_i] at a2
  have a3 : (q : Int) ∣ isum (fun t => (((q - P (t + 1)) % q : Nat) : Int) * (s (j - (t + 1)) : Int)) len + isum (fun t => (P (1 + t) : Int) * (s (j - (1 + t)) : Int)) len := by
    rw [← isum_add]
    refine isum_dvd _ (fun t _ => ?_)
    rw [show 1 + t = t + 1 by omega, ← Int.add_mul]
    refine Int.dvd_trans ?_ (Int.dvd_mul_right _ _)
    have b := mod_dvd (q - P (t + 1)) q
    rw [Int.natCast_sub (Nat.le_of_lt (hP _))] at b
    have b2 := Int.dvd_add b (Int.dvd_refl (q : Int))
    have e : (((q - P (t + 1)) % q : Nat) : Int) - ((q : Int) - (P (t + 1) : Int)) + (q : Int) = (((q - P (t + 1)) % q : Nat) : Int) + (P (t + 1) : Int) := by omega
    rw [e] at b2
    exact b2
  have c := Int.dvd_sub (Int.dvd_add a2 a3) a1
  obtain ⟨t, ht⟩ := c
  exact ⟨t, by omega⟩
end
section
/-! the shortest length -/
set_option maxRecDepth 100000
theorem cp0_s (g : Nat → Nat) (i : Nat) : va_up (cpF (fun _ => 0) g i) i 0 = cpF (fun _ => 0) g (i + 1) := cpF_s (fun _ => 0) g i
theorem cp0_e (g : Nat → Nat) (j : Nat) (hj : j < 32) : va_up (cpF (fun _ => 0) g 32) 0 1 j = one0 j := by
  simp only [va_up, cpF, one0]
  by_cases h : j = 0
  · rw [if_pos h, if_pos h]
  · rw [if_neg h, if_neg h, if_pos hj]
theorem Q3_2 {q : Nat} (h : Q3 q) : 2 ≤ q := by rcases h with rfl | rfl | rfl <;> decide
theorem Q3_5 {q : Nat} (h : Q3 q) : q ≤ 5 := by rcases h with rfl | rfl | rfl <;> decide
set_option maxHeartbeats 4000000 in
theorem m_shortest {l : Launch} {D : va_G} {dB : ClassId} {ad : Nat → Nat} {q lim size wsz rows cols rank rl : Nat} {sym work poly old copy : Nat → Nat} {M : Nat → Nat → Nat} {piv reg : Nat → Nat}  (hq : Q3 q) (hws : wsz ≤ 13) (hw : ∀ j, j < wsz → work j < q) : MI l D [(dB, .byte)] yX1_shortest cX1_shortest 6 .int (rmk 2) [.ref (ad 0)] (LW ad dB q lim size wsz rows cols rank rl sym work poly old copy M piv reg) (fun (r : Int32) (u : (Nat → Nat) × (Nat → Nat) × (Nat → Nat)) => ∃ L, r = nI L ∧ Len q work wsz L) (fun u => (LW ad dB q lim size wsz rows cols rank rl sym work u.1 u.2.1 u.2.2 M piv reg)) := by
  refine MI_of RX1 (by decide) rfl (Nat.le_of_ble_eq_true rfl) [(0, .ref (ad 0))] rfl ?_
  intro Z C hret
  have hq2 := Q3_2 hq
  have hq5 := Q3_5 hq
  have hq0 : 0 < q := by omega
  refine r_iconst C (v := nI 0) dX1_shortest_0 (by decide) ?_
  refine r_istore_n C (lv' := [(0, .ref (ad 0)), (1, .int (nI 0))]) [1, 0] dX1_shortest_1 (by decide) rfl ?_
  have lp2 : ∀ i, 0 ≤ i → i ≤ 32 → Z (LW ad dB q lim size wsz rows cols rank rl sym work (cpF (fun _ => 0) poly i) (cpF (fun _ => 0) old i) copy M piv reg) [(0, .ref (ad 0)), (1, .int (nI i))] 2 [] := by
    refine nd_lo 0 32 ?_ ?_
    · show Z (LW ad dB q lim size wsz rows cols rank rl sym work (cpF (fun _ => 0) poly 32) (cpF (fun _ => 0) old 32) copy M piv reg) [(0, .ref (ad 0)), (1, .int (nI 32))] 2 []
      refine r_iload_n C 1 dX1_shortest_2 rfl ?_
      refine r_bipush C (v := nI 32) dX1_shortest_3 (by decide) ?_
      refine r_icmp_ge C 28 dX1_shortest_5 (by decide) (by omega) (by omega) (fun hc5 => ?_) (fun hc5 => absurd hc5 (by omega))
      refine r_aload_n C 0 dX1_shortest_28 rfl ?_
      refine Lg_poly C dX1_shortest_29 ?_
      refine r_iconst C (v := nI 0) dX1_shortest_32 (by decide) ?_
      refine r_iconst C (v := nI 1) dX1_shortest_33 (by decide) ?_
      refine Ls_poly C dX1_shortest_34 (by omega) (by omega) ?_
      refine r_aload_n C 0 dX1_shortest_35 rfl ?_
      refine Lg_old C dX1_shortest_36 ?_
      refine r_iconst C (v := nI 0) dX1_shortest_39 (by decide) ?_
      refine r_iconst C (v := nI 1) dX1_shortest_40 (by decide) ?_
      refine Ls_old C dX1_shortest_41 (by omega) (by omega) ?_
      refine Lr_poly C one0 (fun j hj => cp0_e poly j hj) ?_
      refine Lr_old C one0 (fun j hj => cp0_e old j hj) ?_
      refine r_iconst C (v := nI 0) dX1_shortest_42 (by decide) ?_
      refine r_istore_n C (lv' := [(0, .ref (ad 0)), (1, .int (nI 0))]) [1, 0] dX1_shortest_43 (by decide) rfl ?_
      refine r_iconst C (v := nI 1) dX1_shortest_44 (by decide) ?_
      refine r_istore_n C (lv' := [(0, .ref (ad 0)), (1, .int (nI 0)), (2, .int (nI 1))]) [1, 2, 0] dX1_shortest_45 (by decide) rfl ?_
      refine r_iconst C (v := nI 1) dX1_shortest_46 (by decide) ?_
      refine r_istore_n C (lv' := [(0, .ref (ad 0)), (1, .int (nI 0)), (2, .int (nI 1)), (3, .int (nI 1))]) [1, 2, 3, 0] dX1_shortest_47 (by decide) rfl ?_
      refine r_iconst C (v := nI 0) dX1_shortest_48 (by decide) ?_
      refine r_istore C (lv' := [(0, .ref (ad 0)), (1, .int (nI 0)), (2, .int (nI 1)), (3, .int (nI 1)), (4, .int (nI 0))]) [1, 2, 3, 4, 0] dX1_shortest_49 (by decide) rfl ?_
      have lp51 : ∀ k, 0 ≤ k → k ≤ wsz → ∀ (len shift last : Nat) (P B K : Nat → Nat), BInv q work k len shift last P B → Z (LW ad dB q lim size wsz rows cols rank rl sym work P B K M piv reg) [(0, .ref (ad 0)), (1, .int (nI len)), (2, .int (nI shift)), (3, .int (nI last)), (4, .int (nI k))] 51 [] := by
        refine nd_lo 0 wsz ?_ ?_
        · intro len shift last P B K hI
          show Z (LW ad dB q lim size wsz rows cols rank rl sym work P B K M piv reg) [(0, .ref (ad 0)), (1, .int (nI len)), (2, .int (nI shift)), (3, .int (nI last)), (4, .int (nI wsz))] 51 []
          refine r_iload C 4 dX1_shortest_51 rfl ?_
          refine r_aload_n C 0 dX1_shortest_53 rfl ?_
          refine Lg_workSize C dX1_shortest_54 ?_
          refine r_icmp_ge C 136 dX1_shortest_57 (by decide) (by omega) (by omega) (fun hc57 => ?_) (fun hc57 => absurd hc57 (by omega))
          refine r_iload_n C 1 dX1_shortest_136 rfl ?_
          exact hret (P, B, K) _ _ _ dX1_shortest_137 rfl ⟨len, rfl, BInv_len hq hw hI⟩
        · intro k hlk hk ih len shift last P B K hI
          obtain ⟨hP, hB, hP0, hPd, hlk, hs1, hl, hl0, hz, hm, Lm, eL, -⟩ := id hI
          have hsh : shift ≤ 32 := by omega
          refine r_iload C 4 dX1_shortest_51 rfl ?_
          refine r_aload_n C 0 dX1_shortest_53 rfl ?_
          refine Lg_workSize C dX1_shortest_54 ?_
          refine r_icmp_ge C 136 dX1_shortest_57 (by decide) (by omega) (by omega) (fun hc57 => absurd hc57 (by omega)) (fun hc57 => ?_)
          refine r_aload_n C 0 dX1_shortest_60 rfl ?_
          refine r_iload C 4 dX1_shortest_61 rfl ?_
          refine r_iload_n C 1 dX1_shortest_63 rfl ?_
          refine r_calli C (ci := 0) (nA := 2) [.int (nI k), .int (nI len)] (m_discrepancy hq0 hq5 hlk (by omega) (fun j _ => by have := hP j; omega) (fun j hj => by have := hw j (by omega); omega)) rfl (lw_V q130 q132 qs3 q26 q133) (by decide +kernel) rfl ⟨rfl, rfl⟩ ⟨Nat.le_of_ble_eq_true rfl, Nat.le_of_ble_eq_true rfl⟩ rfl rfl (Nat.le_of_ble_eq_true rfl) dX1_shortest_64 (fun r u hu => ?_)
          obtain rfl : _ = _ := hu
          refine r_istore C (lv' := [(0, .ref (ad 0)), (1, .int (nI len)), (2, .int (nI shift)), (3, .int (nI last)), (4, .int (nI k)), (5, .int (nI (dsum P work k (len + 1) % q)))]) [1, 2, 3, 4, 5, 0] dX1_shortest_67 (by decide) rfl ?_
          refine r_iload C 5 dX1_shortest_69 rfl ?_
          refine r_if_ne C 80 dX1_shortest_71 (by decide) (by have := Nat.mod_lt (dsum P work k (len + 1)) hq0; omega) (fun hc71 => ?_) (fun hc71 => ?_)
          · refine r_iconst C (v := nI 2) dX1_shortest_80 (by decide) ?_
            refine r_iload_n C 1 dX1_shortest_81 rfl ?_
            refine r_imul C dX1_shortest_82 ?_
            refine r_iload C 4 dX1_shortest_83 rfl ?_
            refine r_icmp_gt C 119 dX1_shortest_85 (by decide) (by omega) (by omega) (fun hc85 => ?_) (fun hc85 => ?_)
            · refine r_aload_n C 0 dX1_shortest_119 rfl ?_
              refine r_iload C 5 dX1_shortest_120 rfl ?_
              refine r_iload_n C 3 dX1_shortest_122 rfl ?_
              refine r_iload_n C 2 dX1_shortest_123 rfl ?_
              refine r_callv C (ci := 0) (nA := 3) [.int (nI (dsum P work k (len + 1) % q)), .int (nI last), .int (nI shift)] (m_mend hq2 hq5 hsh (by have := Nat.mod_lt (dsum P work k (len + 1)) hq0; omega) (by omega) (inv_lt hq hl) hP hB) rfl (lw_V q138 q140 qs5 q26 q141) (by decide +kernel) rfl ⟨rfl, rfl⟩ ⟨Nat.le_of_ble_eq_true rfl, Nat.le_of_ble_eq_true rfl⟩ rfl rfl (Nat.le_of_ble_eq_true rfl) dX1_shortest_124 (fun u hu => ?_)
              refine r_iinc C (k := 2) (v := (nI (shift + 1))) (lv' := [(0, .ref (ad 0)), (1, .int (nI len)), (2, .int (nI (shift + 1))), (3, .int (nI last)), (4, .int (nI k)), (5, .int (nI (dsum P work k (len + 1) % q)))]) [1, 2, 0, 3, 4, 5] dX1_shortest_127 rfl (nI_inc _) (by decide) rfl ?_
              refine r_iinc C (k := 4) (v := (nI (k + 1))) (lv' := [(0, .ref (ad 0)), (1, .int (nI len)), (2, .int (nI (shift + 1))), (3, .int (nI last)), (4, .int (nI (k + 1))), (5, .int (nI (dsum P work k (len + 1) % q)))]) [1, 2, 3, 4, 0, 5] dX1_shortest_130 rfl (nI_inc _) (by decide) rfl ?_
              refine r_goto C 51 dX1_shortest_133 (by decide) ?_
              refine r_fewer C [0, 1, 2, 3, 4] rfl ?_
              exact ih _ _ _ _ _ _ (BInv_keep hq hI hc71 hc85)
            · refine r_aload_n C 0 dX1_shortest_88 rfl ?_
              refine r_callv C (ci := 0) (nA := 0) [] (m_keepCopy (fun j _ => by have := hP j; omega)) rfl (lw_V q134 q136 qs4 q26 q137) (by decide +kernel) rfl ⟨rfl, rfl⟩ ⟨Nat.le_of_ble_eq_true rfl, Nat.le_of_ble_eq_true rfl⟩ rfl rfl (Nat.le_of_ble_eq_true rfl) dX1_shortest_89 (fun u hu => ?_)
              refine r_aload_n C 0 dX1_shortest_92 rfl ?_
              refine r_iload C 5 dX1_shortest_93 rfl ?_
              refine r_iload_n C 3 dX1_shortest_95 rfl ?_
              refine r_iload_n C 2 dX1_shortest_96 rfl ?_
              refine r_callv C (ci := 0) (nA := 3) [.int (nI (dsum P work k (len + 1) % q)), .int (nI last), .int (nI shift)] (m_mend hq2 hq5 hsh (by have := Nat.mod_lt (dsum P work k (len + 1)) hq0; omega) (by omega) (inv_lt hq hl) hP hB) rfl (lw_V q138 q140 qs5 q26 q141) (by decide +kernel) rfl ⟨rfl, rfl⟩ ⟨Nat.le_of_ble_eq_true rfl, Nat.le_of_ble_eq_true rfl⟩ rfl rfl (Nat.le_of_ble_eq_true rfl) dX1_shortest_97 (fun u hu => ?_)
              refine r_iload C 4 dX1_shortest_100 rfl ?_
              refine r_iconst C (v := nI 1) dX1_shortest_102 (by decide) ?_
              refine r_iadd C dX1_shortest_103 ?_
              refine r_iload_n C 1 dX1_shortest_104 rfl ?_
              refine r_isub C dX1_shortest_105 (by omega) ?_
              refine r_istore_n C (lv' := [(0, .ref (ad 0)), (1, .int (nI ((k + 1) - len))), (2, .int (nI shift)), (3, .int (nI last)), (4, .int (nI k)), (5, .int (nI (dsum P work k (len + 1) % q)))]) [1, 0, 2, 3, 4, 5] dX1_shortest_106 (by decide) rfl ?_
              refine r_aload_n C 0 dX1_shortest_107 rfl ?_
              refine r_callv C (ci := 0) (nA := 0) [] (m_useCopy (fun j _ => by have := hP j; omega)) rfl (lw_V q150 q152 qs8 q26 q153) (by decide +kernel) rfl ⟨rfl, rfl⟩ ⟨Nat.le_of_ble_eq_true rfl, Nat.le_of_ble_eq_true rfl⟩ rfl rfl (Nat.le_of_ble_eq_true rfl) dX1_shortest_108 (fun u hu => ?_)
              refine r_iload C 5 dX1_shortest_111 rfl ?_
              refine r_istore_n C (lv' := [(0, .ref (ad 0)), (1, .int (nI ((k + 1) - len))), (2, .int (nI shift)), (3, .int (nI (dsum P work k (len + 1) % q))), (4, .int (nI k)), (5, .int (nI (dsum P work k (len + 1) % q)))]) [1, 2, 3, 0, 4, 5] dX1_shortest_113 (by decide) rfl ?_
              refine r_iconst C (v := nI 1) dX1_shortest_114 (by decide) ?_
              refine r_istore_n C (lv' := [(0, .ref (ad 0)), (1, .int (nI ((k + 1) - len))), (2, .int (nI 1)), (3, .int (nI (dsum P work k (len + 1) % q))), (4, .int (nI k)), (5, .int (nI (dsum P work k (len + 1) % q)))]) [1, 2, 0, 3, 4, 5] dX1_shortest_115 (by decide) rfl ?_
              refine r_goto C 130 dX1_shortest_116 (by decide) ?_
              refine r_iinc C (k := 4) (v := (nI (k + 1))) (lv' := [(0, .ref (ad 0)), (1, .int (nI ((k + 1) - len))), (2, .int (nI 1)), (3, .int (nI (dsum P work k (len + 1) % q))), (4, .int (nI (k + 1))), (5, .int (nI (dsum P work k (len + 1) % q)))]) [1, 2, 3, 4, 0, 5] dX1_shortest_130 rfl (nI_inc _) (by decide) rfl ?_
              refine r_goto C 51 dX1_shortest_133 (by decide) ?_
              refine r_fewer C [0, 1, 2, 3, 4] rfl ?_
              exact ih _ _ _ _ _ _ (BInv_grow hq hI hc71 hc85)
          · refine r_iinc C (k := 2) (v := (nI (shift + 1))) (lv' := [(0, .ref (ad 0)), (1, .int (nI len)), (2, .int (nI (shift + 1))), (3, .int (nI last)), (4, .int (nI k)), (5, .int (nI (dsum P work k (len + 1) % q)))]) [1, 2, 0, 3, 4, 5] dX1_shortest_74 rfl (nI_inc _) (by decide) rfl ?_
            refine r_goto C 130 dX1_shortest_77 (by decide) ?_
            refine r_iinc C (k := 4) (v := (nI (k + 1))) (lv' := [(0, .ref (ad 0)), (1, .int (nI len)), (2, .int (nI (shift + 1))), (3, .int (nI last)), (4, .int (nI (k + 1))), (5, .int (nI (dsum P work k (len + 1) % q)))]) [1, 2, 3, 4, 0, 5] dX1_shortest_130 rfl (nI_inc _) (by decide) rfl ?_
            refine r_goto C 51 dX1_shortest_133 (by decide) ?_
            refine r_fewer C [0, 1, 2, 3, 4] rfl ?_
            exact ih len (shift + 1) last P B K (BInv_same hI hc71)
      exact lp51 0 (Nat.zero_le _) (Nat.zero_le _) 0 1 1 one0 one0 copy (BInv_0 hq work)
    · intro i hli hi ih 
      refine r_iload_n C 1 dX1_shortest_2 rfl ?_
      refine r_bipush C (v := nI 32) dX1_shortest_3 (by decide) ?_
      refine r_icmp_ge C 28 dX1_shortest_5 (by decide) (by omega) (by omega) (fun hc5 => absurd hc5 (by omega)) (fun hc5 => ?_)
      refine r_aload_n C 0 dX1_shortest_8 rfl ?_
      refine Lg_poly C dX1_shortest_9 ?_
      refine r_iload_n C 1 dX1_shortest_12 rfl ?_
      refine r_iconst C (v := nI 0) dX1_shortest_13 (by decide) ?_
      refine Ls_poly C dX1_shortest_14 (by omega) (by omega) ?_
      refine r_aload_n C 0 dX1_shortest_15 rfl ?_
      refine Lg_old C dX1_shortest_16 ?_
      refine r_iload_n C 1 dX1_shortest_19 rfl ?_
      refine r_iconst C (v := nI 0) dX1_shortest_20 (by decide) ?_
      refine Ls_old C dX1_shortest_21 (by omega) (by omega) ?_
      refine r_iinc C (k := 1) (v := (nI (i + 1))) (lv' := [(0, .ref (ad 0)), (1, .int (nI (i + 1)))]) [1, 0] dX1_shortest_22 rfl (nI_inc _) (by decide) rfl ?_
      refine r_goto C 2 dX1_shortest_25 (by decide) ?_
      rw [cp0_s, cp0_s]
      exact ih
  have hz := lp2 0 (by omega) (by omega)
  rw [cpF_0, cpF_0] at hz
  exact hz
end
section
/-! the law of the elimination -/
def rowE (cols : Nat) (M : Nat → Nat → Nat) (j : Nat) (x : Nat → Int) : Int := isum (fun b => (M j b : Int) * x b) cols - (M j cols : Int)
def Sol (q rows cols : Nat) (M : Nat → Nat → Nat) (x : Nat → Int) : Prop := ∀ j, j < rows → (q : Int) ∣ rowE cols M j x
theorem rowE_congr {cols : Nat} {M' M : Nat → Nat → Nat} {j a : Nat} (h : ∀ b, b ≤ cols → M' j b = M a b) (x : Nat → Int) : rowE cols M' j x = rowE cols M a x := by
  unfold rowE
  rw [h cols (Nat.le_refl _)]
  congr 1
  refine isum_congr _ (fun b hb => ?_)
  rw [h b (by omega)]
theorem rowE_lin {q : Int} {cols : Nat} {M' M : Nat → Nat → Nat} {j a r : Nat} (α β : Int) (h : ∀ b, b ≤ cols → q ∣ (M' j b : Int) - (α * (M a b : Int) + β * (M r b : Int))) (x : Nat → Int) : q ∣ rowE cols M' j x - (α * rowE cols M a x + β * rowE cols M r x) := by
  have e1 : isum (fun b => ((M' j b : Int) - (α * (M a b : Int) + β * (M r b : Int))) * x b) cols = isum (fun b => (M' j b : Int) * x b) cols - (α * isum (fun b => (M a b : Int) * x b) cols + β * isum (fun b => (M r b : Int) * x b) cols) := by
    rw [← isum_mul, ← isum_mul, ← isum_add, ← isum_sub]
    refine isum_congr _ (fun b _ => ?_)
    grind
  have e : rowE cols M' j x - (α * rowE cols M a x + β * rowE cols M r x) = isum (fun b => ((M' j b : Int) - (α * (M a b : Int) + β * (M r b : Int))) * x b) cols - ((M' j cols : Int) - (α * (M a cols : Int) + β * (M r cols : Int))) := by
    unfold rowE
    rw [e1]
    grind
  rw [e]
  exact Int.dvd_sub (isum_dvd _ (fun b hb => Int.dvd_trans (h b (by omega)) (Int.dvd_mul_right _ _))) (h cols (Nat.le_refl _))
/-- how many of f lo .. f (lo + n - 1) aren't 0 -/
def nz (f : Nat → Nat) (lo : Nat) : Nat → Nat
  | 0 => 0
  | n + 1 => (if f lo = 0 then 0 else 1) + nz f (lo + 1) n
theorem nz_congr {f g : Nat → Nat} : ∀ (n lo : Nat), (∀ b, lo ≤ b → f b = g b) → nz f lo n = nz g lo n
  | 0, _, _ => rfl
  | n + 1, lo, h => by
    show (if f lo = 0 then 0 else 1) + nz f (lo + 1) n = (if g lo = 0 then 0 else 1) + nz g (lo + 1) n
    rw [h lo (Nat.le_refl _), nz_congr n (lo + 1) (fun b hb => h b (by omega))]
def EInv (q rows cols c : Nat) (M0 M : Nat → Nat → Nat) (rank : Nat) (piv : Nat → Nat) : Prop :=
  (∀ j b, j < rows → b ≤ cols → M j b < q) ∧ rank ≤ rows ∧ (∀ x, Sol q rows cols M x ↔ Sol q rows cols M0 x) ∧
  (∀ b, c ≤ b → b < cols → piv b ≠ 0 → piv b - 1 < rank ∧ M (piv b - 1) b = 1 ∧ (∀ j, j < rows → j ≠ piv b - 1 → M j b = 0) ∧ (∀ b', b < b' → b' < cols → M (piv b - 1) b' = 0)) ∧
  (∀ b, c ≤ b → b < cols → ∀ j, rank ≤ j → j < rows → M j b = 0) ∧ (∀ r, r < rank → ∃ b, c ≤ b ∧ b < cols ∧ piv b = r + 1) ∧ nz piv c (cols - c) = rank
theorem EInv_0 {q rows cols : Nat} {M : Nat → Nat → Nat} (piv : Nat → Nat) (hM : ∀ j b, j < rows → b ≤ cols → M j b < q) : EInv q rows cols cols M M 0 piv :=
  ⟨hM, Nat.zero_le _, fun _ => Iff.rfl, fun b h1 h2 => absurd h2 (by omega), fun b h1 h2 => absurd h2 (by omega), fun r h => absurd h (by omega), by rw [Nat.sub_self]; rfl⟩
theorem EInv_none {q rows cols c rank : Nat} {M0 M : Nat → Nat → Nat} {piv : Nat → Nat} (h : EInv q rows cols (c + 1) M0 M rank piv) (hc : c < cols) (hz : ∀ j, rank ≤ j → j < rows → M j c = 0) : EInv q rows cols c M0 M rank (va_up piv c 0) := by
  obtain ⟨h1, h2, h3, h4, h5, h6, h7⟩ := h
  have hne : ∀ b, b ≠ c → va_up piv c 0 b = piv b := fun b hb => va_up_ne piv 0 hb
  refine ⟨h1, h2, h3, fun b hb1 hb2 hb3 => ?_, fun b hb1 hb2 => ?_, fun r hr => ?_, ?_⟩
  · by_cases hb : b = c
    · exact absurd (by rw [hb]; exact va_up_self piv c 0) hb3
    · rw [hne b hb] at hb3 ⊢
      exact h4 b (by omega) hb2 hb3
  · by_cases hb : b = c
    · rw [hb]; exact hz
    · exact h5 b (by omega) hb2
  · obtain ⟨b, a1, a2, a3⟩ := h6 r hr
    exact ⟨b, by omega, a2, by rw [hne b (by omega)]; exact a3⟩
  · rw [show cols - c = (cols - (c + 1)) + 1 by omega]
    show (if va_up piv c 0 c = 0 then 0 else 1) + nz (va_up piv c 0) (c + 1) _ = rank
    rw [va_up_self, if_pos rfl, nz_congr _ _ (fun b hb => hne b (by omega)), h7, Nat.zero_add]
section
variable {q rows cols c rank j0 : Nat} {M : Nat → Nat → Nat}
theorem Sol_swap (ha : j0 < rows) (hb : rank < rows) (x : Nat → Int) : Sol q rows cols (swI M j0 rank (cols + 1)) x ↔ Sol q rows cols M x := by
  have e1 : rowE cols (swI M j0 rank (cols + 1)) j0 x = rowE cols M rank x := rowE_congr (fun b hb => by simp only [swI]; rw [if_pos (by omega)]; simp) x
  have e2 : rowE cols (swI M j0 rank (cols + 1)) rank x = rowE cols M j0 x := rowE_congr (fun b hb => by
    simp only [swI]
    rw [if_pos (by omega)]
    by_cases h : rank = j0
    · rw [if_pos h, h]
    · rw [if_neg h, if_pos trivial]) x
  have e3 : ∀ j, j ≠ j0 → j ≠ rank → rowE cols (swI M j0 rank (cols + 1)) j x = rowE cols M j x := fun j h1 h2 => rowE_congr (fun b hb => by simp only [swI]; rw [if_pos (by omega), if_neg h1, if_neg h2]) x
  constructor
  · intro h j hj
    by_cases h1 : j = j0
    · rw [h1, ← e2]; exact h rank hb
    · by_cases h2 : j = rank
      · rw [h2, ← e1]; exact h j0 ha
      · rw [← e3 j h1 h2]; exact h j hj
  · intro h j hj
    by_cases h1 : j = j0
    · rw [h1, e1]; exact h rank hb
    · by_cases h2 : j = rank
      · rw [h2, e2]; exact h j0 ha
      · rw [e3 j h1 h2]; exact h j hj
theorem Sol_scale {f v : Nat} (hf : v * f % q = 1) (x : Nat → Int) : Sol q rows cols (scI q M rank f (cols + 1)) x ↔ Sol q rows cols M x := by
  have e1 : (q : Int) ∣ rowE cols (scI q M rank f (cols + 1)) rank x - ((f : Int) * rowE cols M rank x + 0 * rowE cols M rank x) := rowE_lin (f : Int) 0 (fun b hb => by
    simp only [scI]
    rw [if_pos ⟨trivial, by omega⟩]
    have := mod_dvd (M rank b * f) q
    rw [Int.natCast_mul] at this
    obtain ⟨t, ht⟩ := this
    exact ⟨t, by rw [← ht]; grind⟩) x
  have e3 : ∀ j, j ≠ rank → rowE cols (scI q M rank f (cols + 1)) j x = rowE cols M j x := fun j h1 => rowE_congr (fun b hb => by simp only [scI]; rw [if_neg (fun z => h1 z.1)]) x
  have hv := mod_dvd (v * f) q
  rw [hf, Int.natCast_mul] at hv
  constructor
  · intro h j hj
    by_cases h1 : j = rank
    · subst h1
      have a := Int.dvd_sub (h j hj) e1
      have e : rowE cols M j x = (v : Int) * (rowE cols (scI q M j f (cols + 1)) j x - (rowE cols (scI q M j f (cols + 1)) j x - ((f : Int) * rowE cols M j x + 0 * rowE cols M j x))) + (((1 : Nat) : Int) - (v : Int) * (f : Int)) * rowE cols M j x := by grind
      rw [e]
      exact Int.dvd_add (Int.dvd_trans a (Int.dvd_mul_left _ _)) (Int.dvd_trans hv (Int.dvd_mul_right _ _))
    · rw [← e3 j h1]; exact h j hj
  · intro h j hj
    by_cases h1 : j = rank
    · subst h1
      have e : rowE cols (scI q M j f (cols + 1)) j x = (rowE cols (scI q M j f (cols + 1)) j x - ((f : Int) * rowE cols M j x + 0 * rowE cols M j x)) + (f : Int) * rowE cols M j x := by grind
      rw [e]
      exact Int.dvd_add e1 (Int.dvd_trans (h j hj) (Int.dvd_mul_left _ _))
    · rw [e3 j h1]; exact h j hj
theorem Sol_clear (hr : rank < rows) (hc : c ≤ cols) (hM : ∀ j b, j < rows → b ≤ cols → M j b < q) (x : Nat → Int) : Sol q rows cols (ccI q M rank c cols rows) x ↔ Sol q rows cols M x := by
  have e1 : ∀ j, j < rows → j ≠ rank → (q : Int) ∣ rowE cols (ccI q M rank c cols rows) j x - (1 * rowE cols M j x + (-(M j c : Int)) * rowE cols M rank x) := fun j hj hn => rowE_lin 1 (-(M j c : Int)) (fun b hb => by
    simp only [ccI]
    rw [if_pos ⟨hj, hn, by omega⟩]
    have := mod_dvd (M j b + q * q - M j c * M rank b) q
    have hle : M j c * M rank b ≤ q * q := Nat.mul_le_mul (Nat.le_of_lt (hM j c hj hc)) (Nat.le_of_lt (hM rank b hr hb))
    rw [Int.natCast_sub (by omega), Int.natCast_add, Int.natCast_mul, Int.natCast_mul] at this
    obtain ⟨t, ht⟩ := this
    exact ⟨t + q, by rw [Int.mul_add, ← ht]; grind⟩) x
  have e2 : rowE cols (ccI q M rank c cols rows) rank x = rowE cols M rank x := rowE_congr (fun b hb => ccI_r q M rank c cols rows b) x
  constructor
  · intro h j hj
    by_cases h1 : j = rank
    · rw [h1, ← e2]; exact h rank hr
    · have a := Int.dvd_sub (h j hj) (e1 j hj h1)
      have b := h rank hr
      rw [e2] at b
      have e : rowE cols M j x = (rowE cols (ccI q M rank c cols rows) j x - (rowE cols (ccI q M rank c cols rows) j x - (1 * rowE cols M j x + (-(M j c : Int)) * rowE cols M rank x))) + (M j c : Int) * rowE cols M rank x := by grind
      rw [e]
      exact Int.dvd_add a (Int.dvd_trans b (Int.dvd_mul_left _ _))
  · intro h j hj
    by_cases h1 : j = rank
    · rw [h1, e2]; exact h rank hr
    · have e : rowE cols (ccI q M rank c cols rows) j x = (rowE cols (ccI q M rank c cols rows) j x - (1 * rowE cols M j x + (-(M j c : Int)) * rowE cols M rank x)) + (rowE cols M j x - (M j c : Int) * rowE cols M rank x) := by grind
      rw [e]
      exact Int.dvd_add (e1 j hj h1) (Int.dvd_sub (h j hj) (Int.dvd_trans (h rank hr) (Int.dvd_mul_left _ _)))
end
/-- the three steps of one column, in one -/
def pvM (q : Nat) (M : Nat → Nat → Nat) (j0 rank c cols rows : Nat) : Nat → Nat → Nat :=
  ccI q (scI q (swI M j0 rank (cols + 1)) rank (inv q (swI M j0 rank (cols + 1) rank c)) (cols + 1)) rank c cols rows
theorem swI_rank {M : Nat → Nat → Nat} {j0 rank k b : Nat} (h : b < k) : swI M j0 rank k rank b = M j0 b := by
  simp only [swI]
  rw [if_pos h]
  by_cases h2 : rank = j0
  · rw [if_pos h2, h2]
  · rw [if_neg h2, if_pos trivial]
theorem swI_lt {q rows cols : Nat} {M : Nat → Nat → Nat} {j0 rank : Nat} (hM : ∀ j b, j < rows → b ≤ cols → M j b < q) (h1 : j0 < rows) (h2 : rank < rows) : ∀ j b, j < rows → b ≤ cols → swI M j0 rank (cols + 1) j b < q := by
  intro j b hj hb
  simp only [swI]
  rw [if_pos (by omega)]
  split
  · exact hM _ _ h2 hb
  · split
    · exact hM _ _ h1 hb
    · exact hM _ _ hj hb
theorem scI_lt {q rows cols : Nat} {M : Nat → Nat → Nat} {r f : Nat} (hq : 0 < q) (hM : ∀ j b, j < rows → b ≤ cols → M j b < q) : ∀ j b, j < rows → b ≤ cols → scI q M r f (cols + 1) j b < q := by
  intro j b hj hb
  simp only [scI]
  split
  · exact Nat.mod_lt _ hq
  · exact hM _ _ hj hb
theorem ccI_lt {q rows cols : Nat} {M : Nat → Nat → Nat} {r c : Nat} (hq : 0 < q) (hM : ∀ j b, j < rows → b ≤ cols → M j b < q) : ∀ j b, j < rows → b ≤ cols → ccI q M r c cols rows j b < q := by
  intro j b hj hb
  simp only [ccI]
  split
  · exact Nat.mod_lt _ hq
  · exact hM _ _ hj hb
theorem EInv_pivot {q rows cols c rank j0 : Nat} {M0 M : Nat → Nat → Nat} {piv : Nat → Nat} (hq : Q3 q) (h : EInv q rows cols (c + 1) M0 M rank piv) (hc : c < cols) (hj0 : rank ≤ j0) (hj1 : j0 < rows) (hne : M j0 c ≠ 0) : EInv q rows cols c M0 (pvM q M j0 rank c cols rows) (rank + 1) (va_up piv c (rank + 1)) := by
  have hq0 : 0 < q := by rcases hq with rfl | rfl | rfl <;> decide
  obtain ⟨h1, h2, h3, h4, h5, h6, h7⟩ := h
  have hrk : rank < rows := by omega
  have ho : ∀ b, b ≠ c → va_up piv c (rank + 1) b = piv b := fun b hb => va_up_ne piv _ hb
  have hsw := swI_lt h1 hj1 hrk
  have hsc := scI_lt (r := rank) (f := inv q (swI M j0 rank (cols + 1) rank c)) hq0 hsw
  have hcc := ccI_lt (r := rank) (c := c) hq0 hsc
  have hv : swI M j0 rank (cols + 1) rank c = M j0 c := swI_rank (by omega)
  have hiv : M j0 c * inv q (M j0 c) % q = 1 := inv_ok hq (by omega) (h1 j0 c hj1 (by omega))
  -- the pivot's row
  have hR : ∀ b, b ≤ cols → pvM q M j0 rank c cols rows rank b = M j0 b * inv q (M j0 c) % q := by
    intro b hb
    unfold pvM
    rw [ccI_r]
    simp only [scI]
    rw [if_pos ⟨trivial, by omega⟩, hv, swI_rank (by omega)]
  have hRb : ∀ b, c < b → b < cols → pvM q M j0 rank c cols rows rank b = 0 := by
    intro b hb1 hb2
    rw [hR b (by omega), h5 b (by omega) hb2 j0 hj0 hj1, Nat.zero_mul, Nat.zero_mod]
  have hRc : pvM q M j0 rank c cols rows rank c = 1 := by rw [hR c (by omega)]; exact hiv
  -- another row
  have hN : ∀ j b, j < rows → j ≠ rank → b ≤ cols → pvM q M j0 rank c cols rows j b = (swI M j0 rank (cols + 1) j b + q * q - swI M j0 rank (cols + 1) j c * pvM q M j0 rank c cols rows rank b) % q := by
    intro j b hj hn hb
    have e : pvM q M j0 rank c cols rows rank b = scI q (swI M j0 rank (cols + 1)) rank (inv q (swI M j0 rank (cols + 1) rank c)) (cols + 1) rank b := ccI_r _ _ _ _ _ _ _
    rw [e]
    show ccI q _ rank c cols rows j b = _
    simp only [ccI]
    rw [if_pos ⟨hj, hn, by omega⟩]
    have s1 : ∀ b, scI q (swI M j0 rank (cols + 1)) rank (inv q (swI M j0 rank (cols + 1) rank c)) (cols + 1) j b = swI M j0 rank (cols + 1) j b := fun b => by simp only [scI]; rw [if_neg (fun z => hn z.1)]
    rw [s1 b, s1 c]
  have hNb : ∀ j b, j < rows → j ≠ rank → c < b → b < cols → pvM q M j0 rank c cols rows j b = swI M j0 rank (cols + 1) j b := by
    intro j b hj hn hb1 hb2
    rw [hN j b hj hn (by omega), hRb b hb1 hb2, Nat.mul_zero, Nat.sub_zero, Nat.add_mul_mod_self_left, Nat.mod_eq_of_lt (hsw j b hj (by omega))]
  have hNc : ∀ j, j < rows → j ≠ rank → pvM q M j0 rank c cols rows j c = 0 := by
    intro j hj hn
    rw [hN j c hj hn (by omega), hRc, Nat.mul_one, Nat.add_sub_cancel_left, Nat.mul_mod_right]
  have hlow : ∀ j b, j < rank → c < b → b < cols → pvM q M j0 rank c cols rows j b = M j b := by
    intro j b hj hb1 hb2
    rw [hNb j b (by omega) (by omega) hb1 hb2]
    simp only [swI]
    rw [if_pos (by omega), if_neg (by omega), if_neg (by omega)]
  have hhigh : ∀ j b, rank ≤ j → j < rows → c < b → b < cols → pvM q M j0 rank c cols rows j b = 0 := by
    intro j b hj hj2 hb1 hb2
    by_cases hn : j = rank
    · rw [hn]; exact hRb b hb1 hb2
    · rw [hNb j b hj2 hn hb1 hb2]
      simp only [swI]
      rw [if_pos (by omega)]
      split
      · exact h5 b (by omega) hb2 rank (Nat.le_refl _) hrk
      · exact h5 b (by omega) hb2 j hj hj2
  refine ⟨hcc, by omega, fun x => ?_, fun b hb1 hb2 hb3 => ?_, fun b hb1 hb2 j hj1' hj2 => ?_, fun r hr => ?_, ?_⟩
  · rw [← h3 x]
    unfold pvM
    rw [Sol_clear hrk (by omega) hsc x, hv, Sol_scale hiv x, Sol_swap hj1 hrk x]
  · by_cases hb : b = c
    · subst hb
      rw [va_up_self]
      rw [Nat.add_sub_cancel]
      exact ⟨by omega, hRc, hNc, fun b' hb' hb2' => hRb b' hb' hb2'⟩
    · rw [ho b hb] at hb3 ⊢
      obtain ⟨g1, g2, g3, g4⟩ := h4 b (by omega) hb2 hb3
      refine ⟨by omega, by rw [hlow _ _ g1 (by omega) hb2]; exact g2, fun j hj hn => ?_, fun b' hb' hb2' => by rw [hlow _ _ g1 (by omega) hb2']; exact g4 b' hb' hb2'⟩
      rcases Nat.lt_or_ge j rank with h | h
      · rw [hlow j b h (by omega) hb2]; exact g3 j hj hn
      · exact hhigh j b h hj (by omega) hb2
  · by_cases hb : b = c
    · subst hb; exact hNc j hj2 (by omega)
    · exact hhigh j b (by omega) hj2 (by omega) hb2
  · rcases Nat.lt_or_ge r rank with h | h
    · obtain ⟨b, a1, a2, a3⟩ := h6 r h
      exact ⟨b, by omega, a2, by rw [ho b (by omega)]; exact a3⟩
    · exact ⟨c, Nat.le_refl _, hc, by rw [va_up_self]; omega⟩
  · rw [show cols - c = (cols - (c + 1)) + 1 by omega]
    show (if va_up piv c (rank + 1) c = 0 then 0 else 1) + nz (va_up piv c (rank + 1)) (c + 1) _ = rank + 1
    rw [va_up_self, if_neg (by omega), nz_congr _ _ (fun b hb => ho b (by omega)), h7]
    omega
end
section
/-! what the reduced equations say: their solutions, the least one, how many -/
section
variable {q rows cols rank : Nat} {M0 M : Nat → Nat → Nat} {piv : Nat → Nat}
/-- the condition of column b on x: free, or given by the columns ahead of it -/
def pcond (q cols : Nat) (M : Nat → Nat → Nat) (piv : Nat → Nat) (b : Nat) (x : Nat → Int) : Prop := piv b ≠ 0 → (q : Int) ∣ x b - ((M (piv b - 1) cols : Int) - isum (fun t => (M (piv b - 1) t : Int) * x t) b)
theorem pcond_congr {b : Nat} {x y : Nat → Int} (h : ∀ t, t ≤ b → x t = y t) : pcond q cols M piv b x ↔ pcond q cols M piv b y := by
  unfold pcond
  rw [h b (Nat.le_refl _), isum_congr (f := fun t => (M (piv b - 1) t : Int) * x t) (g := fun t => (M (piv b - 1) t : Int) * y t) b (fun t ht => by rw [h t (by omega)])]
theorem pivot_row (h : EInv q rows cols 0 M0 M rank piv) {b : Nat} (hb : b < cols) (hp : piv b ≠ 0) (x : Nat → Int) : rowE cols M (piv b - 1) x = x b - ((M (piv b - 1) cols : Int) - isum (fun t => (M (piv b - 1) t : Int) * x t) b) := by
  obtain ⟨h1, h2, h3, h4, h5, h6, h7⟩ := h
  obtain ⟨g1, g2, g3, g4⟩ := h4 b (Nat.zero_le _) hb hp
  unfold rowE
  rw [isum_ext (n := b + 1) (m := cols) (by omega) (fun t ht1 ht2 => by rw [g4 t (by omega) ht2]; simp)]
  show isum _ b + (M (piv b - 1) b : Int) * x b - _ = _
  rw [g2]
  grind
theorem E_sol (h : EInv q rows cols 0 M0 M rank piv) (hex : ∃ x0, Sol q rows cols M0 x0) (x : Nat → Int) : Sol q rows cols M0 x ↔ ∀ b, b < cols → pcond q cols M piv b x := by
  have hrow := fun b hb hp => pivot_row h (b := b) hb hp x
  obtain ⟨h1, h2, h3, h4, h5, h6, h7⟩ := id h
  rw [← h3 x]
  constructor
  · intro hS b hb hp
    rw [← hrow b hb hp]
    exact hS _ (by have := (h4 b (Nat.zero_le _) hb hp).1; omega)
  · intro hc j hj
    rcases Nat.lt_or_ge j rank with hr | hr
    · obtain ⟨b, -, b1, b2⟩ := h6 j hr
      have e := hrow b b1 (by omega)
      have hh := hc b b1 (by omega)
      rw [← e, b2, Nat.add_sub_cancel] at hh
      exact hh
    · obtain ⟨x0, hx0⟩ := hex
      have a := (h3 x0).mpr hx0 j hj
      have z : ∀ y : Nat → Int, isum (fun b => (M j b : Int) * y b) cols = 0 := fun y => isum_zero _ (fun b hb => by rw [h5 b (Nat.zero_le _) hb j hr hj]; simp)
      unfold rowE at a ⊢
      rw [z] at a ⊢
      exact a
def xsol (cols : Nat) (M : Nat → Nat → Nat) (piv : Nat → Nat) : Nat → Nat := fun b => if piv b = 0 then 0 else M (piv b - 1) cols
theorem E_xs_lt (hq : 0 < q) (h : EInv q rows cols 0 M0 M rank piv) {b : Nat} (hb : b < cols) : xsol cols M piv b < q := by
  obtain ⟨h1, h2, h3, h4, -⟩ := h
  unfold xsol
  by_cases hp : piv b = 0
  · rw [if_pos hp]; exact hq
  · rw [if_neg hp]
    exact h1 _ _ (by have := (h4 b (Nat.zero_le _) hb hp).1; omega) (Nat.le_refl _)
theorem E_xs_sum (h : EInv q rows cols 0 M0 M rank piv) {b : Nat} (hb : b < cols) (hp : piv b ≠ 0) : isum (fun t => (M (piv b - 1) t : Int) * (xsol cols M piv t : Int)) b = 0 := by
  obtain ⟨h1, h2, h3, h4, h5, h6, h7⟩ := h
  obtain ⟨g1, g2, g3, g4⟩ := h4 b (Nat.zero_le _) hb hp
  refine isum_zero _ (fun t ht => ?_)
  by_cases hpt : piv t = 0
  · simp [xsol, hpt]
  · obtain ⟨k1, k2, k3, k4⟩ := h4 t (Nat.zero_le _) (by omega) hpt
    have hne : piv b - 1 ≠ piv t - 1 := by
      intro e
      have := k4 b ht hb
      rw [← e, g2] at this
      omega
    rw [k3 (piv b - 1) (by omega) hne]
    simp
theorem E_xs (h : EInv q rows cols 0 M0 M rank piv) (hex : ∃ x0, Sol q rows cols M0 x0) : Sol q rows cols M0 (fun b => (xsol cols M piv b : Int)) := by
  rw [E_sol h hex]
  intro b hb hp
  rw [E_xs_sum h hb hp]
  have : xsol cols M piv b = M (piv b - 1) cols := by unfold xsol; rw [if_neg hp]
  show (q : Int) ∣ (xsol cols M piv b : Int) - ((M (piv b - 1) cols : Int) - 0)
  rw [this]
  exact ⟨0, by omega⟩
theorem E_lex (hq : 0 < q) (h : EInv q rows cols 0 M0 M rank piv) (hex : ∃ x0, Sol q rows cols M0 x0) {y : Nat → Nat} (hy : ∀ b, b < cols → y b < q) (hS : Sol q rows cols M0 (fun b => (y b : Int))) : ∀ n, n ≤ cols → (∀ b, b < n → xsol cols M piv b = y b) ∨ ∃ i, i < n ∧ xsol cols M piv i < y i ∧ ∀ b, b < i → xsol cols M piv b = y b := by
  rw [E_sol h hex] at hS
  intro n
  induction n with
  | zero => intro _; exact Or.inl (fun b hb => absurd hb (by omega))
  | succ n ih =>
    intro hn
    rcases ih (by omega) with he | ⟨i, a1, a2, a3⟩
    · by_cases hp : piv n = 0
      · have e0 : xsol cols M piv n = 0 := by unfold xsol; rw [if_pos hp]
        rcases Nat.eq_zero_or_pos (y n) with h0 | h0
        · refine Or.inl (fun b hb => ?_)
          rcases Nat.lt_or_ge b n with h1 | h1
          · exact he b h1
          · rw [show b = n by omega, e0, h0]
        · exact Or.inr ⟨n, by omega, by omega, he⟩
      · have a : (q : Int) ∣ (y n : Int) - ((M (piv n - 1) cols : Int) - isum (fun t => (M (piv n - 1) t : Int) * (y t : Int)) n) := hS n (by omega) hp
        have e1 : isum (fun t => (M (piv n - 1) t : Int) * (y t : Int)) n = 0 := by
          rw [← E_xs_sum h (b := n) (by omega) hp]
          exact isum_congr _ (fun t ht => by rw [he t ht])
        rw [e1] at a
        have e2 : xsol cols M piv n = M (piv n - 1) cols := by unfold xsol; rw [if_neg hp]
        have e3 : y n = xsol cols M piv n := mod_uniq (hy n (by omega)) (E_xs_lt hq h (by omega)) (by rw [e2]; obtain ⟨t, ht⟩ := a; exact ⟨t, by omega⟩)
        refine Or.inl (fun b hb => ?_)
        rcases Nat.lt_or_ge b n with h1 | h1
        · exact he b h1
        · rw [show b = n by omega, e3]
    · exact Or.inr ⟨i, by omega, a2, a3⟩
end
/-! counting -/
noncomputable def b1 (p : Prop) : Nat := @ite Nat p (Classical.propDecidable p) 1 0
theorem b1_t {p : Prop} (h : p) : b1 p = 1 := by unfold b1; rw [if_pos h]
theorem b1_f {p : Prop} (h : ¬ p) : b1 p = 0 := by unfold b1; rw [if_neg h]
theorem b1_congr {p p' : Prop} (h : p ↔ p') : b1 p = b1 p' := by rw [propext h]
def csum (f : Nat → Nat) : Nat → Nat
  | 0 => 0
  | n + 1 => csum f n + f n
theorem csum_congr {f g : Nat → Nat} : ∀ n, (∀ t, t < n → f t = g t) → csum f n = csum g n
  | 0, _ => rfl
  | n + 1, h => by
    show csum f n + f n = csum g n + g n
    rw [csum_congr n (fun t ht => h t (by omega)), h n (by omega)]
theorem csum_zero {f : Nat → Nat} (n : Nat) (h : ∀ t, t < n → f t = 0) : csum f n = 0 := by
  rw [csum_congr (g := fun _ => 0) n h]
  clear h
  induction n with
  | zero => rfl
  | succ n ih => show csum _ n + 0 = 0; rw [ih]
theorem csum_const (m : Nat) : ∀ n, csum (fun _ => m) n = n * m
  | 0 => by simp [csum]
  | n + 1 => by
    show csum (fun _ => m) n + m = (n + 1) * m
    rw [csum_const m n, Nat.add_mul, Nat.one_mul]
theorem csum_mul (f : Nat → Nat) (m : Nat) : ∀ n, csum (fun t => f t * m) n = csum f n * m
  | 0 => by simp [csum]
  | n + 1 => by
    show csum (fun t => f t * m) n + f n * m = (csum f n + f n) * m
    rw [csum_mul f m n, Nat.add_mul]
theorem csum_app (f : Nat → Nat) (k : Nat) : ∀ n, csum f (k + n) = csum f k + csum (fun t => f (k + t)) n
  | 0 => by simp [csum]
  | n + 1 => by
    show csum f (k + n) + f (k + n) = csum f k + (csum (fun t => f (k + t)) n + f (k + n))
    rw [csum_app f k n]
    omega
theorem csum_block (f : Nat → Nat) (q : Nat) : ∀ N, csum f (N * q) = csum (fun a => csum (fun d => f (a * q + d)) q) N
  | 0 => by simp [csum]
  | N + 1 => by
    rw [Nat.add_mul, Nat.one_mul, csum_app, csum_block f q N]
    rfl
theorem csum_one {p : Nat → Prop} {d0 : Nat} : ∀ n, d0 < n → (∀ d, d < n → (p d ↔ d = d0)) → csum (fun d => b1 (p d)) n = 1
  | 0, h, _ => absurd h (by omega)
  | n + 1, h, hp => by
    show csum (fun d => b1 (p d)) n + b1 (p n) = 1
    rcases Nat.lt_or_ge d0 n with h1 | h1
    · rw [csum_one n h1 (fun d hd => hp d (by omega)), b1_f (fun z => by have := (hp n (by omega)).mp z; omega)]
    · have e : d0 = n := by omega
      rw [csum_zero n (fun d hd => b1_f (fun z => by have := (hp d (by omega)).mp z; omega)), b1_t ((hp n (by omega)).mpr e.symm)]
/-- the digits of a code, the first one highest -/
def dg (q n code : Nat) : Nat → Nat := fun b => code / q ^ (n - 1 - b) % q
theorem dg_lt {q n code b : Nat} (hq : 0 < q) : dg q n code b < q := Nat.mod_lt _ hq
theorem dg_hi {q n a d b : Nat} (hd : d < q) (hb : b < n) : dg q (n + 1) (a * q + d) b = dg q n a b := by
  unfold dg
  rw [show n + 1 - 1 - b = (n - 1 - b) + 1 by omega, Nat.pow_succ, Nat.mul_comm (q ^ _) q, ← Nat.div_div_eq_div_mul, Nat.mul_comm a q, Nat.mul_add_div (by omega), Nat.div_eq_of_lt hd, Nat.add_zero]
theorem dg_lo {q n a d : Nat} (hd : d < q) : dg q (n + 1) (a * q + d) n = d := by
  unfold dg
  rw [show n + 1 - 1 - n = 0 by omega, Nat.pow_zero, Nat.div_one, Nat.mul_comm a q, Nat.mul_add_mod, Nat.mod_eq_of_lt hd]
/-- a code for every list of digits -/
def cd (q : Nat) (y : Nat → Nat) : Nat → Nat
  | 0 => 0
  | n + 1 => cd q y n * q + y n
theorem cd_lt {q : Nat} {y : Nat → Nat} : ∀ n, (∀ b, b < n → y b < q) → cd q y n < q ^ n
  | 0, _ => by simp [cd]
  | n + 1, h => by
    have h1 := cd_lt n (fun b hb => h b (by omega))
    have h2 := h n (by omega)
    show cd q y n * q + y n < q ^ (n + 1)
    rw [Nat.pow_succ]
    have : (cd q y n + 1) * q ≤ q ^ n * q := Nat.mul_le_mul_right q h1
    rw [Nat.add_mul, Nat.one_mul] at this
    omega
theorem dg_cd {q : Nat} {y : Nat → Nat} : ∀ n, (∀ b, b < n → y b < q) → ∀ b, b < n → dg q n (cd q y n) b = y b
  | 0, _, b, hb => absurd hb (by omega)
  | n + 1, h, b, hb => by
    show dg q (n + 1) (cd q y n * q + y n) b = y b
    rcases Nat.lt_or_ge b n with h1 | h1
    · rw [dg_hi (h n (by omega)) h1]
      exact dg_cd n (fun b hb => h b (by omega)) b h1
    · rw [show b = n by omega, dg_lo (h n (by omega))]
theorem dg_inj_aux {q : Nat} (hq : 0 < q) : ∀ (n a a' : Nat), a < q ^ n → a' < q ^ n → (∀ b, b < n → dg q n a b = dg q n a' b) → a = a'
  | 0, a, a', h1, h2, _ => by rw [Nat.pow_zero] at h1 h2; omega
  | n + 1, a, a', h1, h2, h => by
    have e := Nat.div_add_mod a q
    have e' := Nat.div_add_mod a' q
    have m1 := Nat.mod_lt a hq
    have m2 := Nat.mod_lt a' hq
    have g1 : a / q < q ^ n := by rw [Nat.div_lt_iff_lt_mul hq, ← Nat.pow_succ]; exact h1
    have g2 : a' / q < q ^ n := by rw [Nat.div_lt_iff_lt_mul hq, ← Nat.pow_succ]; exact h2
    rw [Nat.mul_comm] at e e'
    have l1 := dg_lo (q := q) (n := n) (a := a / q) (d := a % q) m1
    have l2 := dg_lo (q := q) (n := n) (a := a' / q) (d := a' % q) m2
    rw [e] at l1
    rw [e'] at l2
    have hi := dg_inj_aux hq n (a / q) (a' / q) g1 g2 (fun b hb => by
      have d1 := dg_hi (q := q) (n := n) (a := a / q) (d := a % q) m1 hb
      have d2 := dg_hi (q := q) (n := n) (a := a' / q) (d := a' % q) m2 hb
      rw [e] at d1
      rw [e'] at d2
      rw [← d1, ← d2]; exact h b (by omega))
    have hl := h n (by omega)
    rw [l1, l2] at hl
    rw [← e, ← e', hi, hl]
/-- codes and their digits are ordered alike -/
theorem dg_lex {q : Nat} (hq : 0 < q) : ∀ (n a a' : Nat), a < q ^ n → a' < q ^ n → a ≤ a' → (∀ b, b < n → dg q n a b = dg q n a' b) ∨ ∃ i, i < n ∧ dg q n a i < dg q n a' i ∧ ∀ b, b < i → dg q n a b = dg q n a' b
  | 0, _, _, _, _, _ => Or.inl (fun b hb => absurd hb (by omega))
  | n + 1, a, a', h1, h2, h3 => by
    have e := Nat.div_add_mod a q
    have e' := Nat.div_add_mod a' q
    have m1 := Nat.mod_lt a hq
    have m2 := Nat.mod_lt a' hq
    have g1 : a / q < q ^ n := by rw [Nat.div_lt_iff_lt_mul hq, ← Nat.pow_succ]; exact h1
    have g2 : a' / q < q ^ n := by rw [Nat.div_lt_iff_lt_mul hq, ← Nat.pow_succ]; exact h2
    have g3 : a / q ≤ a' / q := Nat.div_le_div_right h3
    have hh := dg_lex hq n (a / q) (a' / q) g1 g2 g3
    rw [Nat.mul_comm] at e e'
    have d1 : ∀ b, b < n → dg q (n + 1) a b = dg q n (a / q) b := fun b hb => by
      have := dg_hi (q := q) (n := n) (a := a / q) (d := a % q) m1 hb
      rw [e] at this; exact this
    have d2 : ∀ b, b < n → dg q (n + 1) a' b = dg q n (a' / q) b := fun b hb => by
      have := dg_hi (q := q) (n := n) (a := a' / q) (d := a' % q) m2 hb
      rw [e'] at this; exact this
    have l1 : dg q (n + 1) a n = a % q := by
      have := dg_lo (q := q) (n := n) (a := a / q) (d := a % q) m1
      rw [e] at this; exact this
    have l2 : dg q (n + 1) a' n = a' % q := by
      have := dg_lo (q := q) (n := n) (a := a' / q) (d := a' % q) m2
      rw [e'] at this; exact this
    rcases Nat.lt_or_ge (a / q) (a' / q) with h | h
    · rcases hh with heq | ⟨i, i1, i2, i3⟩
      · exfalso
        have c1 := dg_inj_aux hq n (a / q) (a' / q) g1 g2 heq
        omega
      · exact Or.inr ⟨i, by omega, by rw [d1 i i1, d2 i i1]; exact i2, fun b hb => by rw [d1 b (by omega), d2 b (by omega)]; exact i3 b hb⟩
    · have heq : a / q = a' / q := by omega
      have hb : ∀ b, b < n → dg q (n + 1) a b = dg q (n + 1) a' b := fun b hb => by rw [d1 b hb, d2 b hb, heq]
      have hm : a % q ≤ a' % q := by rw [heq] at e; omega
      rcases Nat.lt_or_ge (a % q) (a' % q) with h4 | h4
      · exact Or.inr ⟨n, by omega, by rw [l1, l2]; exact h4, hb⟩
      · refine Or.inl (fun b hb' => ?_)
        rcases Nat.lt_or_ge b n with h5 | h5
        · exact hb b h5
        · rw [show b = n by omega, l1, l2]; omega
section
variable {q cols : Nat} {M : Nat → Nat → Nat} {piv : Nat → Nat}
/-- how many free columns stand below n -/
def pz (piv : Nat → Nat) : Nat → Nat
  | 0 => 0
  | n + 1 => pz piv n + (if piv n = 0 then 1 else 0)
theorem nz_app (f : Nat → Nat) : ∀ (n lo : Nat), nz f lo (n + 1) = nz f lo n + (if f (lo + n) = 0 then 0 else 1)
  | 0, lo => by simp [nz]
  | n + 1, lo => by
    show (if f lo = 0 then 0 else 1) + nz f (lo + 1) (n + 1) = (if f lo = 0 then 0 else 1) + nz f (lo + 1) n + _
    rw [nz_app f n (lo + 1), show lo + 1 + n = lo + (n + 1) by omega, Nat.add_assoc]
theorem pz_nz (piv : Nat → Nat) : ∀ n, pz piv n + nz piv 0 n = n
  | 0 => rfl
  | n + 1 => by
    rw [nz_app]
    have := pz_nz piv n
    show pz piv n + (if piv n = 0 then 1 else 0) + (nz piv 0 n + _) = n + 1
    rw [Nat.zero_add]
    by_cases h : piv n = 0
    · rw [if_pos h, if_pos h]; omega
    · rw [if_neg h, if_neg h]; omega
theorem cnt_digit (hq : 0 < q) (G : Int) : csum (fun d => b1 ((q : Int) ∣ (d : Int) - G)) q = 1 := by
  have hpos : (0 : Int) < q := by omega
  have h1 := Int.emod_nonneg G (show (q : Int) ≠ 0 by omega)
  have h2 := Int.emod_lt_of_pos G hpos
  have h3 := Int.mul_ediv_add_emod G q
  refine csum_one (d0 := (G % q).toNat) q (by omega) (fun d hd => ⟨fun h => ?_, fun h => ?_⟩)
  · refine mod_uniq hd (by omega) ?_
    obtain ⟨t, ht⟩ := h
    refine ⟨t + G / q, ?_⟩
    rw [Int.mul_add, ← ht]
    omega
  · refine ⟨-(G / q), ?_⟩
    rw [Int.mul_neg]
    omega
theorem cnt_step (hq : 0 < q) (n a : Nat) : csum (fun d => b1 (∀ b, b < n + 1 → pcond q cols M piv b (fun t => (dg q (n + 1) (a * q + d) t : Int)))) q = b1 (∀ b, b < n → pcond q cols M piv b (fun t => (dg q n a t : Int))) * (if piv n = 0 then q else 1) := by
  have key : ∀ d, d < q → ((∀ b, b < n + 1 → pcond q cols M piv b (fun t => (dg q (n + 1) (a * q + d) t : Int))) ↔ ((∀ b, b < n → pcond q cols M piv b (fun t => (dg q n a t : Int))) ∧ (piv n ≠ 0 → (q : Int) ∣ (d : Int) - ((M (piv n - 1) cols : Int) - isum (fun t => (M (piv n - 1) t : Int) * (dg q n a t : Int)) n)))) := by
    intro d hd
    have e1 : ∀ b, b < n → (pcond q cols M piv b (fun t => (dg q (n + 1) (a * q + d) t : Int)) ↔ pcond q cols M piv b (fun t => (dg q n a t : Int))) := fun b hb => pcond_congr (fun t ht => by rw [dg_hi hd (by omega)])
    have e2 : pcond q cols M piv n (fun t => (dg q (n + 1) (a * q + d) t : Int)) ↔ (piv n ≠ 0 → (q : Int) ∣ (d : Int) - ((M (piv n - 1) cols : Int) - isum (fun t => (M (piv n - 1) t : Int) * (dg q n a t : Int)) n)) := by
      unfold pcond
      show (piv n ≠ 0 → (q : Int) ∣ (dg q (n + 1) (a * q + d) n : Int) - ((M (piv n - 1) cols : Int) - isum (fun t => (M (piv n - 1) t : Int) * (dg q (n + 1) (a * q + d) t : Int)) n)) ↔ _
      rw [dg_lo hd, isum_congr (f := fun t => (M (piv n - 1) t : Int) * (dg q (n + 1) (a * q + d) t : Int)) (g := fun t => (M (piv n - 1) t : Int) * (dg q n a t : Int)) n (fun t ht => by rw [dg_hi hd ht])]
    constructor
    · intro h
      exact ⟨fun b hb => (e1 b hb).mp (h b (by omega)), e2.mp (h n (by omega))⟩
    · intro h b hb
      rcases Nat.lt_or_ge b n with h1 | h1
      · exact (e1 b h1).mpr (h.1 b h1)
      · rw [show b = n by omega]; exact e2.mpr h.2
  by_cases hG : ∀ b, b < n → pcond q cols M piv b (fun t => (dg q n a t : Int))
  · rw [b1_t hG, Nat.one_mul]
    by_cases hp : piv n = 0
    · rw [if_pos hp, csum_congr (g := fun _ => 1) q (fun d hd => b1_t ((key d hd).mpr ⟨hG, fun z => absurd hp z⟩)), csum_const, Nat.mul_one]
    · rw [if_neg hp]
      refine Eq.trans ?_ (cnt_digit hq ((M (piv n - 1) cols : Int) - isum (fun t => (M (piv n - 1) t : Int) * (dg q n a t : Int)) n))
      exact csum_congr q (fun d hd => b1_congr (by rw [key d hd]; exact ⟨fun z => z.2 hp, fun z => ⟨hG, fun _ => z⟩⟩))
  · rw [b1_f hG, Nat.zero_mul]
    exact csum_zero q (fun d hd => b1_f (fun z => hG ((key d hd).mp z).1))
theorem cnt_all (hq : 0 < q) : ∀ n, csum (fun code => b1 (∀ b, b < n → pcond q cols M piv b (fun t => (dg q n code t : Int)))) (q ^ n) = q ^ pz piv n
  | 0 => by
    show 0 + b1 _ = 1
    rw [b1_t (fun b hb => absurd hb (by omega))]
  | n + 1 => by
    rw [Nat.pow_succ, csum_block, csum_congr (g := fun a => b1 (∀ b, b < n → pcond q cols M piv b (fun t => (dg q n a t : Int))) * (if piv n = 0 then q else 1)) (q ^ n) (fun a _ => cnt_step hq n a), csum_mul, cnt_all hq n]
    show _ = q ^ (pz piv n + (if piv n = 0 then 1 else 0))
    by_cases h : piv n = 0
    · rw [if_pos h, if_pos h, Nat.pow_succ]
    · rw [if_neg h, if_neg h, Nat.mul_one, Nat.add_zero]
end
end
section
/-! the least register, both ways; the answers as predicates -/
theorem rsum_congr {c c' s s' : Nat → Nat} {j : Nat} : ∀ n, (∀ i, 1 ≤ i → i ≤ n → c i = c' i) → (∀ i, 1 ≤ i → i ≤ n → s (j - i) = s' (j - i)) → rsum c s j n = rsum c' s' j n
  | 0, _, _ => rfl
  | n + 1, h, h2 => by
    show rsum c s j n + c (n + 1) * s (j - (n + 1)) = rsum c' s' j n + c' (n + 1) * s' (j - (n + 1))
    rw [rsum_congr n (fun i a b => h i a (by omega)) (fun i a b => h2 i a (by omega)), h (n + 1) (by omega) (Nat.le_refl _), h2 (n + 1) (by omega) (Nat.le_refl _)]
theorem gen_congr {q k L : Nat} {s s' c c' : Nat → Nat} (hc : ∀ i, 1 ≤ i → i ≤ L → c i = c' i) (hs : ∀ j, j < k → s j = s' j) (h : gen q s k L c) : gen q s' k L c' := by
  intro j h1 h2
  rw [← hs j h2, ← h j h1 h2]
  exact congrArg (· % q) (rsum_congr L (fun i a b => (hc i a b).symm) (fun i a b => (hs _ (by omega)).symm))
theorem Len_congr {q k L : Nat} {s s' : Nat → Nat} (hs : ∀ j, j < k → s j = s' j) (h : Len q s k L) : Len q s' k L := by
  obtain ⟨h1, ⟨c, h2, h3⟩, h4⟩ := h
  exact ⟨h1, ⟨c, h2, gen_congr (fun _ _ _ => rfl) hs h3⟩, fun L' c' hl hg => h4 L' c' hl (gen_congr (fun _ _ _ => rfl) (fun j hj => (hs j hj).symm) hg)⟩
theorem rsum_mod (q : Nat) (hq : 0 < q) (c s : Nat → Nat) (j n : Nat) : rsum (fun i => c i % q) s j n % q = rsum c s j n % q := by
  refine mod_uniq (Nat.mod_lt _ hq) (Nat.mod_lt _ hq) ?_
  have a := mod_dvd (rsum (fun i => c i % q) s j n) q
  have b := mod_dvd (rsum c s j n) q
  rw [rsum_i] at a b
  have d : (q : Int) ∣ isum (fun t => ((c (t + 1) % q : Nat) : Int) * (s (j - (t + 1)) : Int)) n - isum (fun t => (c (t + 1) : Int) * (s (j - (t + 1)) : Int)) n := by
    rw [← isum_sub]
    refine isum_dvd _ (fun t _ => ?_)
    rw [← Int.sub_mul]
    exact Int.dvd_trans (mod_dvd _ _) (Int.dvd_mul_right _ _)
  obtain ⟨t1, h1⟩ := a
  obtain ⟨t2, h2⟩ := b
  obtain ⟨t3, h3⟩ := d
  exact ⟨t1 - t2 + t3, by rw [Int.mul_add, Int.mul_sub]; omega⟩
theorem gen_mod {q k L : Nat} {s c : Nat → Nat} (hq : 0 < q) (h : gen q s k L c) : gen q s k L (fun i => c i % q) := by
  intro j h1 h2
  rw [rsum_mod q hq]
  exact h j h1 h2
/-- c is the least of the registers of the least length -/
def LR (q : Nat) (s : Nat → Nat) (k L : Nat) (c : Nat → Nat) : Prop :=
  Len q s k L ∧ (∀ i, 1 ≤ i → i ≤ L → c i < q) ∧ gen q s k L c ∧ ∀ c', (∀ i, 1 ≤ i → i ≤ L → c' i < q) → gen q s k L c' → (∀ i, 1 ≤ i → i ≤ L → c i = c' i) ∨ ∃ i, 1 ≤ i ∧ i ≤ L ∧ c i < c' i ∧ ∀ t, 1 ≤ t → t < i → c t = c' t
theorem LR_uniq {q k L L2 : Nat} {s c c2 : Nat → Nat} (h : LR q s k L c) (h2 : LR q s k L2 c2) : L = L2 ∧ ∀ i, 1 ≤ i → i ≤ L → c i = c2 i := by
  obtain ⟨a1, a2, a3, a4⟩ := h
  obtain ⟨b1, b2, b3, b4⟩ := h2
  have e := Len_uniq a1 b1
  subst e
  refine ⟨rfl, ?_⟩
  rcases a4 c2 b2 b3 with h | ⟨i, i1, i2, i3, i4⟩
  · exact h
  · rcases b4 c a2 a3 with h | ⟨i', j1, j2, j3, j4⟩
    · exact fun t t1 t2 => (h t t1 t2).symm
    · exfalso
      rcases Nat.lt_trichotomy i i' with h | h | h
      · have := j4 i i1 h
        omega
      · subst h; omega
      · have := i4 i' j1 h
        omega
theorem LR_congr {q k L : Nat} {s s' c c' : Nat → Nat} (hs : ∀ j, j < k → s j = s' j) (hc : ∀ i, 1 ≤ i → i ≤ L → c i = c' i) (h : LR q s k L c) : LR q s' k L c' := by
  obtain ⟨a1, a2, a3, a4⟩ := h
  refine ⟨Len_congr hs a1, fun i i1 i2 => by rw [← hc i i1 i2]; exact a2 i i1 i2, gen_congr hc hs a3, fun d d1 d2 => ?_⟩
  rcases a4 d d1 (gen_congr (fun _ _ _ => rfl) (fun j hj => (hs j hj).symm) d2) with h | ⟨i, i1, i2, i3, i4⟩
  · exact Or.inl (fun i i1 i2 => by rw [← hc i i1 i2]; exact h i i1 i2)
  · exact Or.inr ⟨i, i1, i2, by rw [← hc i i1 i2]; exact i3, fun t t1 t2 => by rw [← hc t t1 (by omega)]; exact i4 t t1 t2⟩
/-- the register that a code spells -/
def spl (q L code : Nat) : Nat → Nat := fun i => dg q L code (i - 1)
noncomputable def cntG (q : Nat) (s : Nat → Nat) (k L : Nat) : Nat := csum (fun code => b1 (gen q s k L (spl q L code))) (q ^ L)
theorem Sol_gen {q k L : Nat} {s : Nat → Nat} {M0 : Nat → Nat → Nat} (hq : 0 < q) (hs : ∀ j, j < k → s j < q) (hM0 : ∀ j b, j < k - L → b < L → M0 j b = s (L + j - (b + 1))) (hM1 : ∀ j, j < k - L → M0 j L = s (L + j)) (c : Nat → Nat) : Sol q (k - L) L M0 (fun b => (c (b + 1) : Int)) ↔ gen q s k L c := by
  have e : ∀ j, j < k - L → rowE L M0 j (fun b => (c (b + 1) : Int)) = (rsum c s (L + j) L : Int) - (s (L + j) : Int) := by
    intro j hj
    unfold rowE
    rw [hM1 j hj, rsum_i]
    congr 1
    refine isum_congr _ (fun b hb => ?_)
    rw [hM0 j b hj hb, Int.mul_comm]
  constructor
  · intro h j h1 h2
    have a := h (j - L) (by omega)
    rw [e _ (by omega), show L + (j - L) = j by omega] at a
    refine mod_uniq (Nat.mod_lt _ hq) (hs j h2) ?_
    have b := mod_dvd (rsum c s j L) q
    have := Int.dvd_add b a
    obtain ⟨t, ht⟩ := this
    exact ⟨t, by omega⟩
  · intro h j hj
    have a := h (L + j) (by omega) (by omega)
    rw [e j hj, ← a]
    have b := mod_dvd (rsum c s (L + j) L) q
    obtain ⟨t, ht⟩ := b
    exact ⟨-t, by rw [Int.mul_neg]; omega⟩
/-- what the elimination of the register's equations gives -/
theorem lab_LR {q k L rank : Nat} {s c : Nat → Nat} {M0 M : Nat → Nat → Nat} {piv : Nat → Nat} (hq : 0 < q) (hs : ∀ j, j < k → s j < q) (hL : Len q s k L) (hM0 : ∀ j b, j < k - L → b < L → M0 j b = s (L + j - (b + 1))) (hM1 : ∀ j, j < k - L → M0 j L = s (L + j)) (hE : EInv q (k - L) L 0 M0 M rank piv) (hc : ∀ b, b < L → c (b + 1) = xsol L M piv b) : LR q s k L c ∧ rank ≤ L ∧ cntG q s k L = q ^ (L - rank) := by
  have hex : ∃ x0, Sol q (k - L) L M0 x0 := by
    obtain ⟨-, ⟨c0, -, h0⟩, -⟩ := hL
    exact ⟨_, (Sol_gen hq hs hM0 hM1 c0).mpr h0⟩
  have hcg : gen q s k L c := by
    rw [← Sol_gen hq hs hM0 hM1 c]
    have := E_xs hE hex
    intro j hj
    have h2 := this j hj
    unfold rowE at h2 ⊢
    rw [isum_congr (g := fun b => (M0 j b : Int) * (c (b + 1) : Int)) L (fun b hb => by rw [hc b hb])] at h2
    exact h2
  refine ⟨⟨hL, fun i i1 i2 => ?_, hcg, fun d d1 d2 => ?_⟩, ?_, ?_⟩
  · have := hc (i - 1) (by omega)
    rw [show i - 1 + 1 = i by omega] at this
    rw [this]
    exact E_xs_lt hq hE (by omega)
  · rcases E_lex hq hE hex (y := fun b => d (b + 1)) (fun b hb => d1 (b + 1) (by omega) (by omega)) ((Sol_gen hq hs hM0 hM1 d).mpr d2) L (Nat.le_refl _) with h | ⟨i, i1, i2, i3⟩
    · refine Or.inl (fun i i1 i2 => ?_)
      have a := hc (i - 1) (by omega)
      have b := h (i - 1) (by omega)
      rw [show i - 1 + 1 = i by omega] at a
      rw [a, b]
      exact congrArg d (by omega)
    · refine Or.inr ⟨i + 1, by omega, by omega, by rw [hc i i1]; exact i2, fun t t1 t2 => ?_⟩
      have a := hc (t - 1) (by omega)
      have b := i3 (t - 1) (by omega)
      rw [show t - 1 + 1 = t by omega] at a
      rw [a, b]
      exact congrArg d (by omega)
  · have a := pz_nz piv L
    have b := hE.2.2.2.2.2.2
    rw [Nat.sub_zero] at b
    omega
  · have a := pz_nz piv L
    have b := hE.2.2.2.2.2.2
    rw [Nat.sub_zero] at b
    rw [show L - rank = pz piv L by omega, ← cnt_all (cols := L) (M := M) (piv := piv) hq L]
    refine csum_congr _ (fun code _ => b1_congr ?_)
    rw [← Sol_gen hq hs hM0 hM1 (spl q L code), E_sol hE hex]
    exact Iff.rfl
/-- what the search gives -/
theorem ref_LR {q k L code : Nat} {s : Nat → Nat} (hq : 0 < q) (hLk : L ≤ k) (h1 : ∀ L', L' < L → ∀ code, code < q ^ L' → ¬ gen q s k L' (spl q L' code)) (hcode : code < q ^ L) (hg : gen q s k L (spl q L code)) (h2 : ∀ code', code' < code → ¬ gen q s k L (spl q L code')) : LR q s k L (spl q L code) := by
  refine ⟨⟨hLk, ⟨spl q L code, fun i => dg_lt hq, hg⟩, fun L' c hl hgen => ?_⟩, fun i _ _ => dg_lt hq, hg, fun d d1 d2 => ?_⟩
  · refine h1 L' hl (cd q (fun b => c (b + 1) % q) L') (cd_lt L' (fun b _ => Nat.mod_lt _ hq)) ?_
    refine gen_congr (fun i i1 i2 => ?_) (fun _ _ => rfl) (gen_mod hq hgen)
    show c i % q = dg q L' _ (i - 1)
    rw [dg_cd L' (fun b _ => Nat.mod_lt _ hq) (i - 1) (by omega), show i - 1 + 1 = i by omega]
  · have hb : ∀ b, b < L → d (b + 1) < q := fun b hb => d1 (b + 1) (by omega) (by omega)
    have hd := dg_cd L hb
    have hle : code ≤ cd q (fun b => d (b + 1)) L := by
      rcases Nat.lt_or_ge (cd q (fun b => d (b + 1)) L) code with h | h
      · exfalso
        refine h2 _ h (gen_congr (fun i i1 i2 => ?_) (fun _ _ => rfl) d2)
        show d i = dg q L _ (i - 1)
        rw [hd (i - 1) (by omega), show i - 1 + 1 = i by omega]
      · exact h
    rcases dg_lex hq L code _ hcode (cd_lt L hb) hle with h | ⟨i, i1, i2, i3⟩
    · refine Or.inl (fun i a b => ?_)
      show dg q L code (i - 1) = d i
      rw [h (i - 1) (by omega), hd (i - 1) (by omega), show i - 1 + 1 = i by omega]
    · rw [hd i i1] at i2
      refine Or.inr ⟨i + 1, by omega, by omega, i2, fun t t1 t2 => ?_⟩
      show dg q L code (t - 1) = d t
      rw [i3 (t - 1) (by omega), hd (t - 1) (by omega), show t - 1 + 1 = t by omega]
/-! the answers -/
def runF (q L : Nat) (c f : Nat → Nat) (n : Nat) : Nat → (Nat → Nat)
  | 0 => f
  | t + 1 => va_up (runF q L c f n t) (n + t) (rsum c (runF q L c f n t) (n + t) L % q)
theorem runF_congr {q L n : Nat} {c c' f g : Nat → Nat} (hL : L ≤ n) (hc : ∀ i, 1 ≤ i → i ≤ L → c i = c' i) (hf : ∀ j, j < n → f j = g j) : ∀ t j, j < n + t → runF q L c f n t j = runF q L c' g n t j
  | 0, j, hj => hf j hj
  | t + 1, j, hj => by
    show va_up (runF q L c f n t) (n + t) _ j = va_up (runF q L c' g n t) (n + t) _ j
    by_cases h : j = n + t
    · rw [h, va_up_self, va_up_self]
      exact congrArg (· % q) (rsum_congr L hc (fun i i1 i2 => runF_congr hL hc hf t (n + t - i) (by omega)))
    · rw [va_up_ne _ _ h, va_up_ne _ _ h]
      exact runF_congr hL hc hf t j (by omega)
theorem runF_lt {q L n : Nat} {c f : Nat → Nat} (hq : 0 < q) (hf : ∀ j, j < n → f j < q) : ∀ t j, j < n + t → runF q L c f n t j < q
  | 0, j, hj => hf j hj
  | t + 1, j, hj => by
    show va_up (runF q L c f n t) (n + t) _ j < q
    by_cases h : j = n + t
    · rw [h, va_up_self]; exact Nat.mod_lt _ hq
    · rw [va_up_ne _ _ h]
      exact runF_lt hq hf t j (by omega)
/-- until where the register c of length L goes on with s -/
def HU (q L : Nat) (c s : Nat → Nat) (k n r : Nat) : Prop := k ≤ r ∧ r ≤ n ∧ (∀ j, k ≤ j → j < r → rsum c s j L % q = s j) ∧ (r < n → rsum c s r L % q ≠ s r)
theorem HU_uniq {q L k n r r2 : Nat} {c c2 s : Nat → Nat} (hc : ∀ i, 1 ≤ i → i ≤ L → c i = c2 i) (h : HU q L c s k n r) (h2 : HU q L c2 s k n r2) : r = r2 := by
  obtain ⟨a1, a2, a3, a4⟩ := h
  obtain ⟨b1, b2, b3, b4⟩ := h2
  have e : ∀ j, rsum c s j L = rsum c2 s j L := fun j => rsum_congr L hc (fun _ _ _ => rfl)
  rcases Nat.lt_trichotomy r r2 with h | h | h
  · exact absurd (by rw [e]; exact b3 r a1 h) (a4 (by omega))
  · exact h
  · exact absurd (by rw [← e]; exact a3 r2 b1 h) (b4 (by omega))
def ACom (q : Nat) (s : Nat → Nat) (k : Nat) (r : Int32) : Prop := ∃ L, Len q s k L ∧ r = nI L
theorem ACom_uniq {q k : Nat} {s s' : Nat → Nat} {r r' : Int32} (hs : ∀ j, j < k → s j = s' j) (h : ACom q s k r) (h2 : ACom q s' k r') : r = r' := by
  obtain ⟨L, a, rfl⟩ := h
  obtain ⟨L2, b, rfl⟩ := h2
  rw [Len_uniq (Len_congr hs a) b]
def AReg (q : Nat) (s : Nat → Nat) (k : Nat) (r : Int32) : Prop := ∃ L, Len q s k L ∧ r = nI (cntG q s k L)
theorem AReg_uniq {q k : Nat} {s : Nat → Nat} {r r' : Int32} (h : AReg q s k r) (h2 : AReg q s k r') : r = r' := by
  obtain ⟨L, a, rfl⟩ := h
  obtain ⟨L2, b, rfl⟩ := h2
  rw [Len_uniq a b]
def ACoe (q : Nat) (s : Nat → Nat) (k : Nat) (i r : Int32) : Prop := ∃ L c, LR q s k L c ∧ (((i < 1 ∨ nI L < i) ∧ r = -1) ∨ (∃ t, 1 ≤ t ∧ t ≤ L ∧ i = nI t ∧ r = nI (c t)))
theorem ACoe_uniq {q k : Nat} {s : Nat → Nat} {i r r' : Int32} (hk : k < 2 ^ 31) (h : ACoe q s k i r) (h2 : ACoe q s k i r') : r = r' := by
  obtain ⟨L, c, a, ha⟩ := h
  obtain ⟨L2, c2, b, hb⟩ := h2
  obtain ⟨e, ec⟩ := LR_uniq a b
  subst e
  have hL : L < 2 ^ 31 := Nat.lt_of_le_of_lt a.1.1 hk
  have no : ∀ t, 1 ≤ t → t ≤ L → ¬ ((nI t : Int32) < 1 ∨ nI L < nI t) := fun t t1 t2 h => by
    rcases h with h | h
    · exact absurd (show nI t < nI 1 from h) (nI_nlt t1 (by omega))
    · exact absurd h (nI_nlt t2 (by omega))
  rcases ha with ⟨h1, rfl⟩ | ⟨t, t1, t2, rfl, rfl⟩
  · rcases hb with ⟨-, rfl⟩ | ⟨t, t1, t2, rfl, rfl⟩
    · rfl
    · exact absurd h1 (no t t1 t2)
  · rcases hb with ⟨h1, rfl⟩ | ⟨t', t1', t2', et, rfl⟩
    · exact absurd h1 (no t t1 t2)
    · have := (nI_eq (by omega) (by omega)).mp et
      subst this
      rw [ec t t1 t2]
def APre (q : Nat) (s : Nat → Nat) (n j : Nat) (r : Int32) : Prop := ∃ L c, LR q s n L c ∧ r = nI (runF q L c s n (j + 1) (n + j))
theorem APre_uniq {q n j : Nat} {s : Nat → Nat} {r r' : Int32} (h : APre q s n j r) (h2 : APre q s n j r') : r = r' := by
  obtain ⟨L, c, a, rfl⟩ := h
  obtain ⟨L2, c2, b, rfl⟩ := h2
  obtain ⟨e, ec⟩ := LR_uniq a b
  subst e
  rw [runF_congr a.1.1 ec (fun _ _ => rfl) (j + 1) (n + j) (by omega)]
def AHol (q : Nat) (s : Nat → Nat) (k n : Nat) (r : Int32) : Prop := ∃ L c t, LR q s k L c ∧ HU q L c s k n t ∧ r = nI t
theorem AHol_uniq {q k n : Nat} {s : Nat → Nat} {r r' : Int32} (h : AHol q s k n r) (h2 : AHol q s k n r') : r = r' := by
  obtain ⟨L, c, t, a, ha, rfl⟩ := h
  obtain ⟨L2, c2, t2, b, hb, rfl⟩ := h2
  obtain ⟨e, ec⟩ := LR_uniq a b
  subst e
  rw [HU_uniq ec ha hb]
end
section
/-! the elimination and the least register -/
set_option maxRecDepth 100000
theorem nI_decm (a : Nat) : nI a + Int32.ofInt (-1) = nI a - 1 := by
  rw [show Int32.ofInt (-1) = (-1 : Int32) by decide]; grind
theorem r_if_ge {l : Launch} {R : Room} {D : va_G} {tys : List (ClassId × FieldType)} {own : String} {cc : ByteArray} {nL : Nat} {Z : zz_J} {w : va_W} {lv : List (Nat × Value)} {pc : Nat} {st : List Value} (C : Cx l R D tys own cc nL Z) {a : Nat} {off : Int} (tgt : Nat) (hdg : decode cc pc = .ok (.ifCond .ge off, 3)) (ht : (pc : Int) + off = (tgt : Int)) (ha : a < 2 ^ 31) (kt : Z w lv tgt st) : Z w lv pc (.int (nI a) :: st) :=
  r_if_geI C tgt hdg ht (fun _ => kt) (fun h => absurd (nI_pos' ha) h)
set_option maxHeartbeats 4000000 in
theorem m_eliminate {l : Launch} {D : va_G} {dB : ClassId} {ad : Nat → Nat} {q lim size wsz rows cols rank rl : Nat} {sym work poly old copy : Nat → Nat} {M : Nat → Nat → Nat} {piv reg : Nat → Nat}  (hq : Q3 q) (hcl : cols < 14) (hr : rows ≤ 14) (hM : ∀ i j, i < rows → j ≤ cols → M i j < q) : MV l D [(dB, .byte)] yX1_eliminate cX1_eliminate 3 (rmk 3) [.ref (ad 0)] (LW ad dB q lim size wsz rows cols rank rl sym work poly old copy M piv reg) (fun (u : (Nat → Nat → Nat) × Nat × (Nat → Nat)) => EInv q rows cols 0 M u.1 u.2.1 u.2.2) (fun u => (LW ad dB q lim size wsz rows cols u.2.1 rl sym work poly old copy u.1 u.2.2 reg)) := by
  refine MV_of RX1 (by decide) rfl (Nat.le_of_ble_eq_true rfl) [(0, .ref (ad 0))] rfl ?_
  intro Z C hret
  have hq2 := Q3_2 hq
  have hq5 := Q3_5 hq
  refine r_aload_n C 0 dX1_eliminate_0 rfl ?_
  refine r_iconst C (v := nI 0) dX1_eliminate_1 (by decide) ?_
  refine Lp_rank C dX1_eliminate_2 ?_
  refine r_aload_n C 0 dX1_eliminate_5 rfl ?_
  refine Lg_columns C dX1_eliminate_6 ?_
  refine r_iconst C (v := nI 1) dX1_eliminate_9 (by decide) ?_
  refine r_isubI C (z := (nI cols - 1)) dX1_eliminate_10 rfl ?_
  refine r_istore_n C (lv' := [(0, .ref (ad 0)), (1, .int (nI cols - 1))]) [1, 0] dX1_eliminate_11 (by decide) rfl ?_
  have lp12 : ∀ n, 0 ≤ n → n ≤ cols → ∀ (K : Nat → Nat → Nat) (rk : Nat) (pv : Nat → Nat), EInv q rows cols (cols - n) M K rk pv → Z (LW ad dB q lim size wsz rows cols rk rl sym work poly old copy K pv reg) [(0, .ref (ad 0)), (1, .int (nI (cols - n) - 1))] 12 [] := by
    refine nd_lo 0 cols ?_ ?_
    · intro K rk pv hI
      rw [Nat.sub_self] at hI
      show Z (LW ad dB q lim size wsz rows cols rk rl sym work poly old copy K pv reg) [(0, .ref (ad 0)), (1, .int (nI (cols - cols) - 1))] 12 []
      refine r_iload_n C 1 dX1_eliminate_12 rfl ?_
      refine r_if_ltI C 87 dX1_eliminate_13 (by decide) (fun hc13 => ?_) (fun hc13 => absurd hc13 (fun h => h (by rw [Nat.sub_self]; decide)))
      exact hret (K, rk, pv) _ _ dX1_eliminate_87 hI
    · intro n hln hn ih K rk pv hI
      obtain ⟨c, hcn⟩ : ∃ c, cols - n = c + 1 := ⟨cols - n - 1, by omega⟩
      rw [hcn] at hI
      rw [hcn, piv_some]
      have hcc : c < cols := by omega
      obtain ⟨hM, hrk, -⟩ := id hI
      refine r_iload_n C 1 dX1_eliminate_12 rfl ?_
      refine r_if_lt C 87 dX1_eliminate_13 (by decide) (by omega) ?_
      refine r_aload_n C 0 dX1_eliminate_16 rfl ?_
      refine Lg_pivotRow C dX1_eliminate_17 ?_
      refine r_iload_n C 1 dX1_eliminate_20 rfl ?_
      refine r_iconst C (v := -1) dX1_eliminate_21 (by decide) ?_
      refine Ls_piv0 C dX1_eliminate_22 (by omega) ?_
      refine r_aload_n C 0 dX1_eliminate_23 rfl ?_
      refine r_iload_n C 1 dX1_eliminate_24 rfl ?_
      refine r_calli C (ci := 0) (nA := 1) [.int (nI c)] (m_rowWith hcl hr hrk (by omega) (fun i j hi hj => by have := hM i j hi hj; omega)) rfl (lw_V q166 q168 qs11 q26 q169) (by decide +kernel) rfl ⟨rfl, rfl⟩ ⟨Nat.le_of_ble_eq_true rfl, Nat.le_of_ble_eq_true rfl⟩ rfl rfl (Nat.le_of_ble_eq_true rfl) dX1_eliminate_25 (fun r u hu => ?_)
      rcases hu with ⟨j, hj1, hj2, hj3, rfl⟩ | ⟨rfl, hz⟩
      · refine r_istore_n C (lv' := [(0, .ref (ad 0)), (1, .int (nI c)), (2, .int (nI j))]) [1, 2, 0] dX1_eliminate_28 (by decide) rfl ?_
        refine r_iload_n C 2 dX1_eliminate_29 rfl ?_
        refine r_if_lt C 81 dX1_eliminate_30 (by decide) (by omega) ?_
        refine r_aload_n C 0 dX1_eliminate_33 rfl ?_
        refine r_iload_n C 2 dX1_eliminate_34 rfl ?_
        refine r_aload_n C 0 dX1_eliminate_35 rfl ?_
        refine Lg_rank C dX1_eliminate_36 ?_
        refine r_callv C (ci := 0) (nA := 2) [.int (nI j), .int (nI rk)] (m_swap hcl hr hj2 (by omega) (fun i j hi hj => by have := hM i j hi hj; omega)) rfl (lw_V q170 q172 qs12 q26 q173) (by decide +kernel) rfl ⟨rfl, rfl⟩ ⟨Nat.le_of_ble_eq_true rfl, Nat.le_of_ble_eq_true rfl⟩ rfl rfl (Nat.le_of_ble_eq_true rfl) dX1_eliminate_39 (fun u hu => ?_)
        have hM1 := swI_lt (j0 := j) (rank := rk) hM hj2 (by omega)
        refine r_aload_n C 0 dX1_eliminate_42 rfl ?_
        refine r_aload_n C 0 dX1_eliminate_43 rfl ?_
        refine Lg_rank C dX1_eliminate_44 ?_
        refine r_iload_n C 1 dX1_eliminate_47 rfl ?_
        refine r_callv C (ci := 0) (nA := 2) [.int (nI rk), .int (nI c)] (m_scale hq2 hq5 hcl hr (by omega) (by omega) (inv_lt hq (hM1 _ _ (by omega) (by omega))) (fun i j hi hj => by have := hM1 i j hi hj; omega)) rfl (lw_V q174 q176 qs13 q26 q177) (by decide +kernel) rfl ⟨rfl, rfl⟩ ⟨Nat.le_of_ble_eq_true rfl, Nat.le_of_ble_eq_true rfl⟩ rfl rfl (Nat.le_of_ble_eq_true rfl) dX1_eliminate_48 (fun u hu => ?_)
        have hM2 := scI_lt (r := rk) (f := inv q (swI K j rk (cols + 1) rk c)) (by omega) hM1
        refine r_aload_n C 0 dX1_eliminate_51 rfl ?_
        refine r_aload_n C 0 dX1_eliminate_52 rfl ?_
        refine Lg_rank C dX1_eliminate_53 ?_
        refine r_iload_n C 1 dX1_eliminate_56 rfl ?_
        refine r_callv C (ci := 0) (nA := 2) [.int (nI rk), .int (nI c)] (m_clearColumn hq2 hq5 hcl hr (by omega) (by omega) hM2) rfl (lw_V q178 q180 qs14 q26 q181) (by decide +kernel) rfl ⟨rfl, rfl⟩ ⟨Nat.le_of_ble_eq_true rfl, Nat.le_of_ble_eq_true rfl⟩ rfl rfl (Nat.le_of_ble_eq_true rfl) dX1_eliminate_57 (fun u hu => ?_)
        refine r_aload_n C 0 dX1_eliminate_60 rfl ?_
        refine Lg_pivotRow C dX1_eliminate_61 ?_
        refine r_iload_n C 1 dX1_eliminate_64 rfl ?_
        refine r_aload_n C 0 dX1_eliminate_65 rfl ?_
        refine Lg_rank C dX1_eliminate_66 ?_
        refine r_i2b C dX1_eliminate_69 (by omega) ?_
        refine Ls_piv C dX1_eliminate_70 (by omega) (by omega) ?_
        refine r_aload_n C 0 dX1_eliminate_71 rfl ?_
        refine r_dup C dX1_eliminate_72 ?_
        refine Lg_rank C dX1_eliminate_73 ?_
        refine r_iconst C (v := nI 1) dX1_eliminate_76 (by decide) ?_
        refine r_iadd C dX1_eliminate_77 ?_
        refine Lp_rank C dX1_eliminate_78 ?_
        refine r_iinc C (k := 1) (v := (nI (cols - (n + 1)) - 1)) (lv' := [(0, .ref (ad 0)), (1, .int (nI (cols - (n + 1)) - 1)), (2, .int (nI j))]) [1, 0, 2] dX1_eliminate_81 rfl (by rw [show cols - (n + 1) = c by omega]; exact nI_decm c) (by decide) rfl ?_
        refine r_goto C 12 dX1_eliminate_84 (by decide) ?_
        rw [bx_uu]
        refine r_fewer C [0, 1] rfl ?_
        exact ih _ _ _ (by rw [show cols - (n + 1) = c by omega]; exact EInv_pivot hq hI hcc hj1 hj2 hj3)
      · refine r_istore_n C (lv' := [(0, .ref (ad 0)), (1, .int (nI c)), (2, .int (-1))]) [1, 2, 0] dX1_eliminate_28 (by decide) rfl ?_
        refine r_iload_n C 2 dX1_eliminate_29 rfl ?_
        refine r_if_ltI C 81 dX1_eliminate_30 (by decide) (fun hc30 => ?_) (fun hc30 => absurd hc30 (fun h => h (by decide)))
        refine r_iinc C (k := 1) (v := (nI (cols - (n + 1)) - 1)) (lv' := [(0, .ref (ad 0)), (1, .int (nI (cols - (n + 1)) - 1)), (2, .int (-1))]) [1, 0, 2] dX1_eliminate_81 rfl (by rw [show cols - (n + 1) = c by omega]; exact nI_decm c) (by decide) rfl ?_
        refine r_goto C 12 dX1_eliminate_84 (by decide) ?_
        refine r_fewer C [0, 1] rfl ?_
        exact ih _ _ _ (by rw [show cols - (n + 1) = c by omega]; exact EInv_none hI hcc hz)
  exact lp12 0 (Nat.zero_le _) (Nat.zero_le _) M 0 piv (EInv_0 piv hM)
def flv (wk : Nat → Nat) (L a b : Nat) : Nat := if b < L then wk (L + a - (b + 1)) else wk (L + a)
def flO (M : Nat → Nat → Nat) (wk : Nat → Nat) (L j : Nat) : Nat → Nat → Nat := fun a b => if a < j ∧ b < L + 1 then flv wk L a b else M a b
def flI (M : Nat → Nat → Nat) (wk : Nat → Nat) (L j i : Nat) : Nat → Nat → Nat := fun a b => if (a < j ∧ b < L + 1) ∨ (a = j ∧ b + 1 < i) then flv wk L a b else M a b
theorem flO_0 (M : Nat → Nat → Nat) (wk : Nat → Nat) (L : Nat) : flO M wk L 0 = M := by
  funext a b
  simp only [flO]
  rw [if_neg (by omega)]
theorem flI_1 (M : Nat → Nat → Nat) (wk : Nat → Nat) (L j : Nat) : flI M wk L j 1 = flO M wk L j := by
  funext a b
  simp only [flI, flO]
  by_cases h : a < j ∧ b < L + 1
  · rw [if_pos (Or.inl h), if_pos h]
  · rw [if_neg (by omega), if_neg h]
theorem flI_s (M : Nat → Nat → Nat) (wk : Nat → Nat) (L j i : Nat) (h1 : 1 ≤ i) (h2 : i ≤ L) : up2 (flI M wk L j i) j (i - 1) (wk (L + j - i)) = flI M wk L j (i + 1) := by
  funext a b
  simp only [up2, flI]
  by_cases h : a = j ∧ b = i - 1
  · rw [if_pos h, if_pos (Or.inr (by omega)), h.1, h.2]
    unfold flv
    rw [if_pos (by omega), show i - 1 + 1 = i by omega]
  · rw [if_neg h]
    by_cases h3 : (a < j ∧ b < L + 1) ∨ (a = j ∧ b + 1 < i)
    · rw [if_pos h3, if_pos (by omega)]
    · rw [if_neg h3, if_neg (by omega)]
theorem flO_s (M : Nat → Nat → Nat) (wk : Nat → Nat) (L j : Nat) : up2 (flI M wk L j (L + 1)) j L (wk (L + j)) = flO M wk L (j + 1) := by
  funext a b
  simp only [up2, flI, flO]
  by_cases h : a = j ∧ b = L
  · rw [if_pos h, if_pos (by omega), h.1, h.2]
    unfold flv
    rw [if_neg (by omega)]
  · rw [if_neg h]
    by_cases h3 : (a < j ∧ b < L + 1) ∨ (a = j ∧ b + 1 < L + 1)
    · rw [if_pos h3, if_pos (by omega)]
    · rw [if_neg h3, if_neg (by omega)]
theorem flO_lt {M : Nat → Nat → Nat} {wk : Nat → Nat} {L k q : Nat} (hk : L ≤ k) (hw : ∀ j, j < k → wk j < q) (i j : Nat) (hi : i < k - L) (hj : j ≤ L) : flO M wk L (k - L) i j < q := by
  simp only [flO]
  rw [if_pos (by omega)]
  unfold flv
  split
  · exact hw _ (by omega)
  · exact hw _ (by omega)
def rgF (reg x : Nat → Nat) (c : Nat) : Nat → Nat := fun i => if 1 ≤ i ∧ i < c + 1 then x (i - 1) else reg i
theorem rgF_0 (reg x : Nat → Nat) : rgF reg x 0 = reg := by
  funext i
  simp only [rgF]
  rw [if_neg (by omega)]
theorem rgF_s (reg x : Nat → Nat) (c v : Nat) (hv : v = x c) : va_up (rgF reg x c) (c + 1) v = rgF reg x (c + 1) := by
  funext i
  simp only [va_up, rgF]
  by_cases h : i = c + 1
  · rw [if_pos h, if_pos (by omega), hv, h, Nat.add_sub_cancel]
  · rw [if_neg h]
    by_cases h2 : 1 ≤ i ∧ i < c + 1
    · rw [if_pos h2, if_pos (by omega)]
    · rw [if_neg h2, if_neg (by omega)]
theorem xsol_0 {L c : Nat} {M : Nat → Nat → Nat} {pv : Nat → Nat} (h : pv c = 0) : 0 = xsol L M pv c := by
  unfold xsol
  rw [if_pos h]
theorem xsol_1 {L c : Nat} {M : Nat → Nat → Nat} {pv : Nat → Nat} (h : 0 < pv c) : M (pv c - 1) L = xsol L M pv c := by
  unfold xsol
  rw [if_neg (by omega)]
theorem pv_0 {p : Nat} (h : p = 0) : nI p - 1 = -1 := by rw [h]; decide
theorem pv_1 {p : Nat} (h : 0 < p) : nI p - 1 = nI (p - 1) := by
  obtain ⟨k, rfl⟩ : ∃ k, p = k + 1 := ⟨p - 1, by omega⟩
  exact piv_some k
set_option maxHeartbeats 4000000 in
theorem m_findRegister {l : Launch} {D : va_G} {dB : ClassId} {ad : Nat → Nat} {q lim size wsz rows cols rank rl : Nat} {sym work poly old copy : Nat → Nat} {M : Nat → Nat → Nat} {piv reg : Nat → Nat} {kk : Nat} (hq : Q3 q) (hk : kk ≤ 12) (hsym : ∀ j, sym j < q) : MV l D [(dB, .byte)] yX1_findRegister cX1_findRegister 4 (rmk 4) [.ref (ad 0), .int (nI kk)] (LW ad dB q lim size wsz rows cols rank rl sym work poly old copy M piv reg) (fun (u : (Nat → Nat) × (Nat → Nat) × (Nat → Nat) × (Nat → Nat) × (Nat → Nat → Nat) × (Nat → Nat) × (Nat → Nat) × Nat × Nat) => (∀ j, j < kk → u.1 j = sym j) ∧ LR q sym kk u.2.2.2.2.2.2.2.1 u.2.2.2.2.2.2.1 ∧ u.2.2.2.2.2.2.2.2 ≤ u.2.2.2.2.2.2.2.1 ∧ cntG q sym kk u.2.2.2.2.2.2.2.1 = q ^ (u.2.2.2.2.2.2.2.1 - u.2.2.2.2.2.2.2.2)) (fun u => (LW ad dB q lim size kk (kk - u.2.2.2.2.2.2.2.1) u.2.2.2.2.2.2.2.1 u.2.2.2.2.2.2.2.2 u.2.2.2.2.2.2.2.1 sym u.1 u.2.1 u.2.2.1 u.2.2.2.1 u.2.2.2.2.1 u.2.2.2.2.2.1 u.2.2.2.2.2.2.1)) := by
  refine MV_of RX1 (by decide) rfl (Nat.le_of_ble_eq_true rfl) [(0, .ref (ad 0)), (1, .int (nI kk))] rfl ?_
  intro Z C hret
  have hq2 := Q3_2 hq
  have hq5 := Q3_5 hq
  refine r_aload_n C 0 dX1_findRegister_0 rfl ?_
  refine r_iconst C (v := nI 0) dX1_findRegister_1 (by decide) ?_
  refine r_iload_n C 1 dX1_findRegister_2 rfl ?_
  refine r_callv C (ci := 0) (nA := 2) [.int (nI 0), .int (nI kk)] (m_take (Nat.zero_le _) hk (fun j => by have := hsym j; omega)) rfl (lw_V q122 q124 qs1 q26 q125) (by decide +kernel) rfl ⟨rfl, rfl⟩ ⟨Nat.le_of_ble_eq_true rfl, Nat.le_of_ble_eq_true rfl⟩ rfl rfl (Nat.le_of_ble_eq_true rfl) dX1_findRegister_3 (fun u0 hu0 => ?_)
  rw [Nat.sub_zero]
  have hwk : ∀ j, j < kk → tkF sym work 0 kk j = sym j := fun j hj => by
    simp only [tkF]
    rw [if_pos (by omega), Nat.zero_add]
  generalize tkF sym work 0 kk = wk at hwk ⊢
  have hwq : ∀ j, j < kk → wk j < q := fun j hj => by rw [hwk j hj]; exact hsym j
  refine r_aload_n C 0 dX1_findRegister_6 rfl ?_
  refine r_aload_n C 0 dX1_findRegister_7 rfl ?_
  refine r_calli C (ci := 0) (nA := 0) [] (m_shortest hq (by omega) hwq) rfl (lw_V q126 q128 qs2 q26 q129) (by decide +kernel) rfl ⟨rfl, rfl⟩ ⟨Nat.le_of_ble_eq_true rfl, Nat.le_of_ble_eq_true rfl⟩ rfl rfl (Nat.le_of_ble_eq_true rfl) dX1_findRegister_8 (fun r u1 hu1 => ?_)
  obtain ⟨L, rfl, hL⟩ := hu1
  have hLk := hL.1
  refine Lp_registerLength C dX1_findRegister_11 ?_
  refine r_aload_n C 0 dX1_findRegister_14 rfl ?_
  refine r_aload_n C 0 dX1_findRegister_15 rfl ?_
  refine Lg_registerLength C dX1_findRegister_16 ?_
  refine Lp_columns C dX1_findRegister_19 ?_
  refine r_aload_n C 0 dX1_findRegister_22 rfl ?_
  refine r_aload_n C 0 dX1_findRegister_23 rfl ?_
  refine Lg_workSize C dX1_findRegister_24 ?_
  refine r_aload_n C 0 dX1_findRegister_27 rfl ?_
  refine Lg_registerLength C dX1_findRegister_28 ?_
  refine r_isub C dX1_findRegister_31 (by omega) ?_
  refine Lp_rows C dX1_findRegister_32 ?_
  refine r_iconst C (v := nI 0) dX1_findRegister_35 (by decide) ?_
  refine r_istore_n C (lv' := [(0, .ref (ad 0)), (1, .int (nI kk)), (2, .int (nI 0))]) [1, 2, 0] dX1_findRegister_36 (by decide) rfl ?_
  have lp37 : ∀ j, 0 ≤ j → j ≤ kk - L → Z (LW ad dB q lim size kk (kk - L) L rank L sym wk u1.1 u1.2.1 u1.2.2 (flO M wk L j) piv reg) [(0, .ref (ad 0)), (1, .int (nI kk)), (2, .int (nI j))] 37 [] := by
    refine nd_lo 0 (kk - L) ?_ ?_
    · show Z (LW ad dB q lim size kk (kk - L) L rank L sym wk u1.1 u1.2.1 u1.2.2 (flO M wk L (kk - L)) piv reg) [(0, .ref (ad 0)), (1, .int (nI kk)), (2, .int (nI (kk - L)))] 37 []
      refine r_iload_n C 2 dX1_findRegister_37 rfl ?_
      refine r_aload_n C 0 dX1_findRegister_38 rfl ?_
      refine Lg_rows C dX1_findRegister_39 ?_
      refine r_icmp_ge C 118 dX1_findRegister_42 (by decide) (by omega) (by omega) (fun hc42 => ?_) (fun hc42 => absurd hc42 (by omega))
      refine r_aload_n C 0 dX1_findRegister_118 rfl ?_
      refine r_callv C (ci := 0) (nA := 0) [] (m_eliminate hq (by omega) (by omega) (flO_lt hLk hwq)) rfl (lw_V q162 q164 qs10 q26 q165) (by decide +kernel) rfl ⟨rfl, rfl⟩ ⟨Nat.le_of_ble_eq_true rfl, Nat.le_of_ble_eq_true rfl⟩ rfl rfl (Nat.le_of_ble_eq_true rfl) dX1_findRegister_119 (fun u2 hE => ?_)
      refine r_iconst C (v := nI 0) dX1_findRegister_122 (by decide) ?_
      refine r_istore_n C (lv' := [(0, .ref (ad 0)), (1, .int (nI kk)), (2, .int (nI 0))]) [1, 2, 0] dX1_findRegister_123 (by decide) rfl ?_
      have lp124 : ∀ c, 0 ≤ c → c ≤ L → Z (LW ad dB q lim size kk (kk - L) L u2.2.1 L sym wk u1.1 u1.2.1 u1.2.2 u2.1 u2.2.2 (rgF reg (xsol L u2.1 u2.2.2) c)) [(0, .ref (ad 0)), (1, .int (nI kk)), (2, .int (nI c))] 124 [] := by
        refine nd_lo 0 L ?_ ?_
        · show Z (LW ad dB q lim size kk (kk - L) L u2.2.1 L sym wk u1.1 u1.2.1 u1.2.2 u2.1 u2.2.2 (rgF reg (xsol L u2.1 u2.2.2) L)) [(0, .ref (ad 0)), (1, .int (nI kk)), (2, .int (nI L))] 124 []
          refine r_iload_n C 2 dX1_findRegister_124 rfl ?_
          refine r_aload_n C 0 dX1_findRegister_125 rfl ?_
          refine Lg_columns C dX1_findRegister_126 ?_
          refine r_icmp_ge C 175 dX1_findRegister_129 (by decide) (by omega) (by omega) (fun hc129 => ?_) (fun hc129 => absurd hc129 (by omega))
          have hR := lab_LR (c := rgF reg (xsol L u2.1 u2.2.2) L) (show 0 < q by omega) hwq hL (fun j b hj hb => by simp only [flO]; rw [if_pos (by omega)]; unfold flv; rw [if_pos hb]) (fun j hj => by simp only [flO]; rw [if_pos (by omega)]; unfold flv; rw [if_neg (by omega)]) hE (fun b hb => by simp only [rgF]; rw [if_pos (by omega), Nat.add_sub_cancel])
          have hcnt : cntG q sym kk L = cntG q wk kk L := csum_congr _ (fun code _ => b1_congr ⟨gen_congr (fun _ _ _ => rfl) (fun j hj => (hwk j hj).symm), gen_congr (fun _ _ _ => rfl) hwk⟩)
          exact hret (wk, u1.1, u1.2.1, u1.2.2, u2.1, u2.2.2, rgF reg (xsol L u2.1 u2.2.2) L, L, u2.2.1) _ _ dX1_findRegister_175 ⟨hwk, LR_congr hwk (fun _ _ _ => rfl) hR.1, hR.2.1, by rw [hcnt]; exact hR.2.2⟩
        · intro c hlc hc ih 
          refine r_iload_n C 2 dX1_findRegister_124 rfl ?_
          refine r_aload_n C 0 dX1_findRegister_125 rfl ?_
          refine Lg_columns C dX1_findRegister_126 ?_
          refine r_icmp_ge C 175 dX1_findRegister_129 (by decide) (by omega) (by omega) (fun hc129 => absurd hc129 (by omega)) (fun hc129 => ?_)
          refine r_aload_n C 0 dX1_findRegister_132 rfl ?_
          refine Lg_pivotRow C dX1_findRegister_133 ?_
          refine r_iload_n C 2 dX1_findRegister_136 rfl ?_
          refine Ll_piv C dX1_findRegister_137 (by omega) ?_
          rcases Nat.eq_zero_or_pos (u2.2.2 c) with hp | hp
          · refine r_topI (b := -1) (pv_0 hp) ?_
            refine r_istore_n C (lv' := [(0, .ref (ad 0)), (1, .int (nI kk)), (2, .int (nI c)), (3, .int (-1))]) [1, 2, 3, 0] dX1_findRegister_138 (by decide) rfl ?_
            refine r_aload_n C 0 dX1_findRegister_139 rfl ?_
            refine Lg_register C dX1_findRegister_140 ?_
            refine r_iload_n C 2 dX1_findRegister_143 rfl ?_
            refine r_iconst C (v := nI 1) dX1_findRegister_144 (by decide) ?_
            refine r_iadd C dX1_findRegister_145 ?_
            refine r_iload_n C 3 dX1_findRegister_146 rfl ?_
            refine r_if_geI C 154 dX1_findRegister_147 (by decide) (fun hc147 => absurd hc147 (by decide)) (fun hc147 => ?_)
            refine r_iconst C (v := nI 0) dX1_findRegister_150 (by decide) ?_
            refine r_goto C 168 dX1_findRegister_151 (by decide) ?_
            refine Ls_reg C dX1_findRegister_168 (by omega) (by first | omega | (have := hE.1 (u2.2.2 c - 1) L (by omega) (Nat.le_refl _); omega)) ?_
            refine r_iinc C (k := 2) (v := (nI (c + 1))) (lv' := [(0, .ref (ad 0)), (1, .int (nI kk)), (2, .int (nI (c + 1))), (3, .int (-1))]) [1, 2, 0, 3] dX1_findRegister_169 rfl (nI_inc _) (by decide) rfl ?_
            refine r_goto C 124 dX1_findRegister_172 (by decide) ?_
            rw [rgF_s reg (xsol L u2.1 u2.2.2) c _ (xsol_0 hp)]
            refine r_fewer C [0, 1, 2] rfl ?_
            exact ih
          · refine r_topI (b := nI (u2.2.2 c - 1)) (pv_1 hp) ?_
            have hpr : u2.2.2 c - 1 < kk - L := by have h1 := (hE.2.2.2.1 c (Nat.zero_le _) hc (by omega)).1; have h2 := hE.2.1; omega
            refine r_istore_n C (lv' := [(0, .ref (ad 0)), (1, .int (nI kk)), (2, .int (nI c)), (3, .int (nI (u2.2.2 c - 1)))]) [1, 2, 3, 0] dX1_findRegister_138 (by decide) rfl ?_
            refine r_aload_n C 0 dX1_findRegister_139 rfl ?_
            refine Lg_register C dX1_findRegister_140 ?_
            refine r_iload_n C 2 dX1_findRegister_143 rfl ?_
            refine r_iconst C (v := nI 1) dX1_findRegister_144 (by decide) ?_
            refine r_iadd C dX1_findRegister_145 ?_
            refine r_iload_n C 3 dX1_findRegister_146 rfl ?_
            refine r_if_ge C 154 dX1_findRegister_147 (by decide) (by omega) ?_
            refine r_aload_n C 0 dX1_findRegister_154 rfl ?_
            refine Lg_cells C dX1_findRegister_155 ?_
            refine r_iload_n C 3 dX1_findRegister_158 rfl ?_
            refine r_bipush C (v := nI 14) dX1_findRegister_159 (by decide) ?_
            refine r_imul C dX1_findRegister_161 ?_
            refine r_aload_n C 0 dX1_findRegister_162 rfl ?_
            refine Lg_columns C dX1_findRegister_163 ?_
            refine r_iadd C dX1_findRegister_166 ?_
            refine Ll_M C (i := u2.2.2 c - 1) (c := L) dX1_findRegister_167 rfl (by omega) (by omega) ?_
            refine Ls_reg C dX1_findRegister_168 (by omega) (by first | omega | (have := hE.1 (u2.2.2 c - 1) L (by omega) (Nat.le_refl _); omega)) ?_
            refine r_iinc C (k := 2) (v := (nI (c + 1))) (lv' := [(0, .ref (ad 0)), (1, .int (nI kk)), (2, .int (nI (c + 1))), (3, .int (nI (u2.2.2 c - 1)))]) [1, 2, 0, 3] dX1_findRegister_169 rfl (nI_inc _) (by decide) rfl ?_
            refine r_goto C 124 dX1_findRegister_172 (by decide) ?_
            rw [rgF_s reg (xsol L u2.1 u2.2.2) c _ (xsol_1 hp)]
            refine r_fewer C [0, 1, 2] rfl ?_
            exact ih
      have hz := lp124 0 (by omega) (by omega)
      rw [rgF_0] at hz
      exact hz
    · intro j hlj hj ih 
      refine r_iload_n C 2 dX1_findRegister_37 rfl ?_
      refine r_aload_n C 0 dX1_findRegister_38 rfl ?_
      refine Lg_rows C dX1_findRegister_39 ?_
      refine r_icmp_ge C 118 dX1_findRegister_42 (by decide) (by omega) (by omega) (fun hc42 => absurd hc42 (by omega)) (fun hc42 => ?_)
      refine r_iconst C (v := nI 1) dX1_findRegister_45 (by decide) ?_
      refine r_istore_n C (lv' := [(0, .ref (ad 0)), (1, .int (nI kk)), (2, .int (nI j)), (3, .int (nI 1))]) [1, 2, 3, 0] dX1_findRegister_46 (by decide) rfl ?_
      have lp47 : ∀ i, 1 ≤ i → i ≤ L + 1 → Z (LW ad dB q lim size kk (kk - L) L rank L sym wk u1.1 u1.2.1 u1.2.2 (flI M wk L j i) piv reg) [(0, .ref (ad 0)), (1, .int (nI kk)), (2, .int (nI j)), (3, .int (nI i))] 47 [] := by
        refine nd_lo 1 (L + 1) ?_ ?_
        · show Z (LW ad dB q lim size kk (kk - L) L rank L sym wk u1.1 u1.2.1 u1.2.2 (flI M wk L j (L + 1)) piv reg) [(0, .ref (ad 0)), (1, .int (nI kk)), (2, .int (nI j)), (3, .int (nI (L + 1)))] 47 []
          refine r_iload_n C 3 dX1_findRegister_47 rfl ?_
          refine r_aload_n C 0 dX1_findRegister_48 rfl ?_
          refine Lg_columns C dX1_findRegister_49 ?_
          refine r_icmp_gt C 87 dX1_findRegister_52 (by decide) (by omega) (by omega) (fun hc52 => ?_) (fun hc52 => absurd hc52 (by omega))
          refine r_aload_n C 0 dX1_findRegister_87 rfl ?_
          refine Lg_cells C dX1_findRegister_88 ?_
          refine r_iload_n C 2 dX1_findRegister_91 rfl ?_
          refine r_bipush C (v := nI 14) dX1_findRegister_92 (by decide) ?_
          refine r_imul C dX1_findRegister_94 ?_
          refine r_aload_n C 0 dX1_findRegister_95 rfl ?_
          refine Lg_columns C dX1_findRegister_96 ?_
          refine r_iadd C dX1_findRegister_99 ?_
          refine r_aload_n C 0 dX1_findRegister_100 rfl ?_
          refine Lg_work C dX1_findRegister_101 ?_
          refine r_aload_n C 0 dX1_findRegister_104 rfl ?_
          refine Lg_registerLength C dX1_findRegister_105 ?_
          refine r_iload_n C 2 dX1_findRegister_108 rfl ?_
          refine r_iadd C dX1_findRegister_109 ?_
          refine Ll_work C dX1_findRegister_110 (by omega) ?_
          refine Ls_M C (i := j) (c := L) dX1_findRegister_111 rfl (by omega) (by omega) (by have := hwq (L + j) (by omega); omega) ?_
          refine r_iinc C (k := 2) (v := (nI (j + 1))) (lv' := [(0, .ref (ad 0)), (1, .int (nI kk)), (2, .int (nI (j + 1))), (3, .int (nI (L + 1)))]) [1, 2, 0, 3] dX1_findRegister_112 rfl (nI_inc _) (by decide) rfl ?_
          refine r_goto C 37 dX1_findRegister_115 (by decide) ?_
          rw [flO_s]
          refine r_fewer C [0, 1, 2] rfl ?_
          exact ih
        · intro i hli hi ih2 
          refine r_iload_n C 3 dX1_findRegister_47 rfl ?_
          refine r_aload_n C 0 dX1_findRegister_48 rfl ?_
          refine Lg_columns C dX1_findRegister_49 ?_
          refine r_icmp_gt C 87 dX1_findRegister_52 (by decide) (by omega) (by omega) (fun hc52 => absurd hc52 (by omega)) (fun hc52 => ?_)
          refine r_aload_n C 0 dX1_findRegister_55 rfl ?_
          refine Lg_cells C dX1_findRegister_56 ?_
          refine r_iload_n C 2 dX1_findRegister_59 rfl ?_
          refine r_bipush C (v := nI 14) dX1_findRegister_60 (by decide) ?_
          refine r_imul C dX1_findRegister_62 ?_
          refine r_iload_n C 3 dX1_findRegister_63 rfl ?_
          refine r_iadd C dX1_findRegister_64 ?_
          refine r_iconst C (v := nI 1) dX1_findRegister_65 (by decide) ?_
          refine r_isub C dX1_findRegister_66 (by omega) ?_
          refine r_aload_n C 0 dX1_findRegister_67 rfl ?_
          refine Lg_work C dX1_findRegister_68 ?_
          refine r_aload_n C 0 dX1_findRegister_71 rfl ?_
          refine Lg_registerLength C dX1_findRegister_72 ?_
          refine r_iload_n C 2 dX1_findRegister_75 rfl ?_
          refine r_iadd C dX1_findRegister_76 ?_
          refine r_iload_n C 3 dX1_findRegister_77 rfl ?_
          refine r_isub C dX1_findRegister_78 (by omega) ?_
          refine Ll_work C dX1_findRegister_79 (by omega) ?_
          refine Ls_M C (i := j) (c := i - 1) dX1_findRegister_80 (by omega) (by omega) (by omega) (by have := hwq (L + j - i) (by omega); omega) ?_
          refine r_iinc C (k := 3) (v := (nI (i + 1))) (lv' := [(0, .ref (ad 0)), (1, .int (nI kk)), (2, .int (nI j)), (3, .int (nI (i + 1)))]) [1, 2, 3, 0] dX1_findRegister_81 rfl (nI_inc _) (by decide) rfl ?_
          refine r_goto C 47 dX1_findRegister_84 (by decide) ?_
          rw [flI_s M wk L j i hli (by omega)]
          exact ih2
      have hz := lp47 1 (Nat.le_refl _) (by omega)
      rw [flI_1] at hz
      exact hz
  have hz := lp37 0 (by omega) (by omega)
  rw [flO_0] at hz
  exact hz
end
section
/-! the public methods of the class -/
set_option maxRecDepth 100000
abbrev LI : Type := Nat × Nat × Nat × Nat × Nat × (Nat → Nat) × (Nat → Nat) × (Nat → Nat) × (Nat → Nat) × (Nat → Nat → Nat) × (Nat → Nat) × (Nat → Nat)
def LX (ad : Nat → Nat) (dB : ClassId) (q lim size : Nat) (sym : Nat → Nat) (u : LI) : va_W := LW ad dB q lim size u.1 u.2.1 u.2.2.1 u.2.2.2.1 u.2.2.2.2.1 sym u.2.2.2.2.2.1 u.2.2.2.2.2.2.1 u.2.2.2.2.2.2.2.1 u.2.2.2.2.2.2.2.2.1 u.2.2.2.2.2.2.2.2.2.1 u.2.2.2.2.2.2.2.2.2.2.1 u.2.2.2.2.2.2.2.2.2.2.2
/-- an int that is one of 0..n-1 -/
def Ix (n : Nat) (x : Int32) : Prop := ∃ t, t < n ∧ x = nI t
theorem okS_ex {q : Nat} {v : Int32} (h : okS q v) : Ix q v := ⟨sy v, by have := h.2; have := h.1; unfold sy; omega, sy_nI h.1⟩
theorem okS_no {q : Nat} {v : Int32} (hq : q ≤ 5) (h : ¬ okS q v) : ¬ Ix q v := by
  rintro ⟨t, ht, rfl⟩
  exact h ⟨by rw [nI_toInt (by omega)]; omega, by rw [nI_toInt (by omega)]; omega⟩
theorem ix_of {x : Int32} {n : Nat} (hn : n < 2 ^ 31) (h0 : ¬ x < 0) (h1 : ¬ nI n ≤ x) : Ix n x := by
  rcases pk_ix x hn with h | h | h
  · exact absurd h h0
  · exact absurd h h1
  · exact h
theorem ix_lt {x : Int32} {n : Nat} (hn : n < 2 ^ 31) (h0 : ¬ x < 0) (h1 : x < nI n) : Ix n x := ix_of hn h0 (Int32.not_le.mpr h1)
theorem ix_le {x : Int32} {n : Nat} (hn : n < 2 ^ 30) (h0 : ¬ x < 0) (h1 : x ≤ nI n) : Ix (n + 1) x := by
  obtain ⟨j, hj, e⟩ := nI_of h0
  rw [e] at h1 ⊢
  exact ⟨j, by have := (nI_leI (by omega) (by omega)).mp h1; omega, rfl⟩
theorem no_neg {x : Int32} {n : Nat} (hn : n < 2 ^ 31) (h : x < 0) : ¬ Ix n x := by
  rintro ⟨t, ht, rfl⟩
  exact nI_pos (by omega) h
theorem no_ge {x : Int32} {n : Nat} (hn : n < 2 ^ 31) (h : nI n ≤ x) : ¬ Ix n x := by
  rintro ⟨t, ht, rfl⟩
  exact nI_ge ht (by omega) h
theorem no_nlt {x : Int32} {n : Nat} (hn : n < 2 ^ 31) (h : ¬ x < nI n) : ¬ Ix n x := no_ge hn (Int32.not_lt.mp h)
theorem no_nle {x : Int32} {n : Nat} (hn : n < 2 ^ 30) (h : ¬ x ≤ nI n) : ¬ Ix (n + 1) x := by
  rintro ⟨t, ht, rfl⟩
  exact h (nI_le (by omega) (by omega))
def AApp (q lim size : Nat) (sym : Nat → Nat) (v r : Int32) (u : Nat × (Nat → Nat)) : Prop := (∃ t, t < q ∧ v = nI t ∧ size < lim ∧ r = 1 ∧ u = (size + 1, va_up sym size t)) ∨ ((¬ Ix q v ∨ lim ≤ size) ∧ r = 0 ∧ u = (size, sym))
def ADrop (size : Nat) (sym : Nat → Nat) (r : Int32) (u : Nat) : Prop := (size = 0 ∧ r = -1 ∧ u = 0) ∨ (0 < size ∧ r = nI (sym (size - 1)) ∧ u = size - 1)
def AChg (q size : Nat) (sym : Nat → Nat) (k v r : Int32) (u : Nat → Nat) : Prop := (∃ a t, a < size ∧ t < q ∧ k = nI a ∧ v = nI t ∧ r = 1 ∧ u = va_up sym a t) ∨ ((¬ Ix size k ∨ ¬ Ix q v) ∧ r = 0 ∧ u = sym)
def ASym (size : Nat) (sym : Nat → Nat) (k r : Int32) : Prop := (∃ a, a < size ∧ k = nI a ∧ r = nI (sym a)) ∨ (¬ Ix size k ∧ r = -1)
def Iv (n : Nat) (x y : Int32) : Prop := ∃ a b, a ≤ b ∧ b ≤ n ∧ x = nI a ∧ y = nI b
def AComI (q : Nat) (sym : Nat → Nat) (size : Nat) (x y r : Int32) : Prop := (∃ a b, a ≤ b ∧ b ≤ size ∧ x = nI a ∧ y = nI b ∧ ACom q (fun j => sym (a + j)) (b - a) r) ∨ (¬ Iv size x y ∧ r = -1)
def APreI (q : Nat) (sym : Nat → Nat) (size : Nat) (j r : Int32) : Prop := (∃ t, t < 41 ∧ j = nI t ∧ APre q sym size t r) ∨ (¬ Ix 41 j ∧ r = -1)
def AWith (q : Nat) (sym : Nat → Nat) (size : Nat) (v r : Int32) : Prop := (∃ t, t < q ∧ v = nI t ∧ ACom q (va_up sym size t) (size + 1) r) ∨ (¬ Ix q v ∧ r = -1)
def AHolI (q : Nat) (sym : Nat → Nat) (size : Nat) (k r : Int32) : Prop := (∃ t, t < size + 1 ∧ k = nI t ∧ AHol q sym t size r) ∨ (¬ Ix (size + 1) k ∧ r = -1)
theorem iv_of {x y : Int32} {n : Nat} (hn : n < 2 ^ 30) (h0 : ¬ x < 0) (h1 : ¬ nI n < y) (h2 : x ≤ y) : Iv n x y := by
  obtain ⟨a, ha, e⟩ := nI_of h0
  have hy : ¬ y < 0 := fun h => h0 (Int32.lt_of_le_of_lt h2 h)
  obtain ⟨b, hb, e2⟩ := nI_of hy
  rw [e, e2] at h2
  rw [e2] at h1
  rw [e, e2]
  exact ⟨a, b, (nI_leI ha hb).mp h2, by have := mt (nI_ltI (a := n) (b := b) (by omega) hb).mpr h1; omega, rfl, rfl⟩
theorem iv_n0 {x y : Int32} {n : Nat} (hn : n < 2 ^ 30) (h : x < 0) : ¬ Iv n x y := by
  rintro ⟨a, b, h1, h2, rfl, rfl⟩
  exact nI_pos (by omega) h
theorem iv_n1 {x y : Int32} {n : Nat} (hn : n < 2 ^ 30) (h : nI n < y) : ¬ Iv n x y := by
  rintro ⟨a, b, h1, h2, rfl, rfl⟩
  exact nI_nlt h2 (by omega) h
theorem iv_n2 {x y : Int32} {n : Nat} (hn : n < 2 ^ 30) (h : ¬ x ≤ y) : ¬ Iv n x y := by
  rintro ⟨a, b, h1, h2, rfl, rfl⟩
  exact h (nI_le h1 (by omega))
def bkF (sym work : Nat → Nat) (size n : Nat) : Nat → Nat := fun j => if j < n then sym (size - 1 - j) else work j
theorem bkF_0 (sym work : Nat → Nat) (size : Nat) : bkF sym work size 0 = work := by
  funext j
  simp [bkF]
theorem bkF_s (sym work : Nat → Nat) (size n c : Nat) (h : size - n = c + 1) : va_up (bkF sym work size n) n (sym c) = bkF sym work size (n + 1) := by
  funext j
  simp only [va_up, bkF]
  by_cases h1 : j = n
  · rw [if_pos h1, if_pos (by omega), show size - 1 - j = c by omega]
  · rw [if_neg h1]
    by_cases h2 : j < n
    · rw [if_pos h2, if_pos (by omega)]
    · rw [if_neg h2, if_neg (by omega)]
set_option maxHeartbeats 4000000 in
theorem m_modulus {l : Launch} {D : va_G} {dB : ClassId} {ad : Nat → Nat} {q lim size wsz rows cols rank rl : Nat} {sym work poly old copy : Nat → Nat} {M : Nat → Nat → Nat} {piv reg : Nat → Nat}  (hq : Q3 q) (hsl : size ≤ lim) (hlim : lim ≤ 12) (hsym : ∀ j, sym j < q) : MI l D [(dB, .byte)] yX1_modulus cX1_modulus 1 .int (rmk 5) [.ref (ad 0)] (LW ad dB q lim size wsz rows cols rank rl sym work poly old copy M piv reg) (fun (r : Int32) (u : LI) => r = nI q) (fun u => LX ad dB q lim size sym u) := by
  refine MI_of RX1 (by decide) rfl (Nat.le_of_ble_eq_true rfl) [(0, .ref (ad 0))] rfl ?_
  intro Z C hret
  refine r_aload_n C 0 dX1_modulus_0 rfl ?_
  refine Lg_q C dX1_modulus_1 ?_
  exact hret (wsz, rows, cols, rank, rl, work, poly, old, copy, M, piv, reg) _ _ _ dX1_modulus_4 rfl rfl
set_option maxHeartbeats 4000000 in
theorem m_length {l : Launch} {D : va_G} {dB : ClassId} {ad : Nat → Nat} {q lim size wsz rows cols rank rl : Nat} {sym work poly old copy : Nat → Nat} {M : Nat → Nat → Nat} {piv reg : Nat → Nat}  (hq : Q3 q) (hsl : size ≤ lim) (hlim : lim ≤ 12) (hsym : ∀ j, sym j < q) : MI l D [(dB, .byte)] yX1_length cX1_length 1 .int (rmk 5) [.ref (ad 0)] (LW ad dB q lim size wsz rows cols rank rl sym work poly old copy M piv reg) (fun (r : Int32) (u : LI) => r = nI size) (fun u => LX ad dB q lim size sym u) := by
  refine MI_of RX1 (by decide) rfl (Nat.le_of_ble_eq_true rfl) [(0, .ref (ad 0))] rfl ?_
  intro Z C hret
  refine r_aload_n C 0 dX1_length_0 rfl ?_
  refine Lg_size C dX1_length_1 ?_
  exact hret (wsz, rows, cols, rank, rl, work, poly, old, copy, M, piv, reg) _ _ _ dX1_length_4 rfl rfl
set_option maxHeartbeats 4000000 in
theorem m_clear {l : Launch} {D : va_G} {dB : ClassId} {ad : Nat → Nat} {q lim size wsz rows cols rank rl : Nat} {sym work poly old copy : Nat → Nat} {M : Nat → Nat → Nat} {piv reg : Nat → Nat}  (hq : Q3 q) (hsl : size ≤ lim) (hlim : lim ≤ 12) (hsym : ∀ j, sym j < q) : MV l D [(dB, .byte)] yX1_clear cX1_clear 1 (rmk 5) [.ref (ad 0)] (LW ad dB q lim size wsz rows cols rank rl sym work poly old copy M piv reg) (fun (u : LI) => True) (fun u => LX ad dB q lim 0 sym u) := by
  refine MV_of RX1 (by decide) rfl (Nat.le_of_ble_eq_true rfl) [(0, .ref (ad 0))] rfl ?_
  intro Z C hret
  refine r_aload_n C 0 dX1_clear_0 rfl ?_
  refine r_iconst C (v := nI 0) dX1_clear_1 (by decide) ?_
  refine Lp_size C dX1_clear_2 ?_
  exact hret (wsz, rows, cols, rank, rl, work, poly, old, copy, M, piv, reg) _ _ dX1_clear_5 trivial
set_option maxHeartbeats 4000000 in
theorem m_append {l : Launch} {D : va_G} {dB : ClassId} {ad : Nat → Nat} {q lim size wsz rows cols rank rl : Nat} {sym work poly old copy : Nat → Nat} {M : Nat → Nat → Nat} {piv reg : Nat → Nat} {v : Int32} (hq : Q3 q) (hsl : size ≤ lim) (hlim : lim ≤ 12) (hsym : ∀ j, sym j < q) : MI l D [(dB, .byte)] yX1_append cX1_append 2 .boolean (rmk 5) [.ref (ad 0), .int v] (LW ad dB q lim size wsz rows cols rank rl sym work poly old copy M piv reg) (fun (r : Int32) (u : Nat × (Nat → Nat)) => AApp q lim size sym v r u) (fun u => (LW ad dB q lim u.1 wsz rows cols rank rl u.2 work poly old copy M piv reg)) := by
  refine MI_of RX1 (by decide) rfl (Nat.le_of_ble_eq_true rfl) [(0, .ref (ad 0)), (1, .int v)] rfl ?_
  intro Z C hret
  have hq2 := Q3_2 hq
  have hq5 := Q3_5 hq
  refine r_aload_n C 0 dX1_append_0 rfl ?_
  refine r_iload_n C 1 dX1_append_1 rfl ?_
  refine r_calli C (ci := 0) (nA := 1) [.int v] (m_isSymbol hq5) rfl (lw_V q94 q96 qs0 q26 q97) (by decide +kernel) rfl ⟨rfl, rfl⟩ ⟨Nat.le_of_ble_eq_true rfl, Nat.le_of_ble_eq_true rfl⟩ rfl rfl (Nat.le_of_ble_eq_true rfl) dX1_append_2 (fun r u hu => ?_)
  rcases hu with ⟨rfl, hy⟩ | ⟨rfl, hy⟩
  · obtain ⟨t, ht, rfl⟩ := okS_ex hy
    refine r_if_eqI C 19 dX1_append_5 (by decide) (fun hc5 => absurd hc5 (by decide)) (fun hc5 => ?_)
    refine r_aload_n C 0 dX1_append_8 rfl ?_
    refine Lg_size C dX1_append_9 ?_
    refine r_aload_n C 0 dX1_append_12 rfl ?_
    refine Lg_limit C dX1_append_13 ?_
    refine r_icmp_lt C 21 dX1_append_16 (by decide) (by omega) (by omega) (fun hc16 => ?_) (fun hc16 => ?_)
    · refine r_aload_n C 0 dX1_append_21 rfl ?_
      refine Lg_symbols C dX1_append_22 ?_
      refine r_aload_n C 0 dX1_append_25 rfl ?_
      refine Lg_size C dX1_append_26 ?_
      refine r_iload_n C 1 dX1_append_29 rfl ?_
      refine r_i2b C dX1_append_30 (by omega) ?_
      refine Ls_sym C dX1_append_31 (by omega) (by omega) ?_
      refine r_aload_n C 0 dX1_append_32 rfl ?_
      refine r_dup C dX1_append_33 ?_
      refine Lg_size C dX1_append_34 ?_
      refine r_iconst C (v := nI 1) dX1_append_37 (by decide) ?_
      refine r_iadd C dX1_append_38 ?_
      refine Lp_size C dX1_append_39 ?_
      refine r_iconst C (v := nI 1) dX1_append_42 (by decide) ?_
      exact hret (size + 1, va_up sym size t) _ _ _ dX1_append_43 rfl (Or.inl ⟨t, ht, rfl, hc16, by decide, rfl⟩)
    · refine r_iconst C (v := nI 0) dX1_append_19 (by decide) ?_
      exact hret (size, sym) _ _ _ dX1_append_20 rfl (Or.inr ⟨by first | exact Or.inl hy | exact Or.inr hc16, by decide, rfl⟩)
  · have hy := okS_no hq5 hy
    refine r_if_eqI C 19 dX1_append_5 (by decide) (fun hc5 => ?_) (fun hc5 => absurd hc5 (fun h => h rfl))
    refine r_iconst C (v := nI 0) dX1_append_19 (by decide) ?_
    exact hret (size, sym) _ _ _ dX1_append_20 rfl (Or.inr ⟨by first | exact Or.inl hy | exact Or.inr hc16, by decide, rfl⟩)
set_option maxHeartbeats 4000000 in
theorem m_drop {l : Launch} {D : va_G} {dB : ClassId} {ad : Nat → Nat} {q lim size wsz rows cols rank rl : Nat} {sym work poly old copy : Nat → Nat} {M : Nat → Nat → Nat} {piv reg : Nat → Nat}  (hq : Q3 q) (hsl : size ≤ lim) (hlim : lim ≤ 12) (hsym : ∀ j, sym j < q) : MI l D [(dB, .byte)] yX1_drop cX1_drop 1 .int (rmk 5) [.ref (ad 0)] (LW ad dB q lim size wsz rows cols rank rl sym work poly old copy M piv reg) (fun (r : Int32) (u : Nat) => ADrop size sym r u) (fun u => (LW ad dB q lim u wsz rows cols rank rl sym work poly old copy M piv reg)) := by
  refine MI_of RX1 (by decide) rfl (Nat.le_of_ble_eq_true rfl) [(0, .ref (ad 0))] rfl ?_
  intro Z C hret
  have hq2 := Q3_2 hq
  have hq5 := Q3_5 hq
  refine r_aload_n C 0 dX1_drop_0 rfl ?_
  refine Lg_size C dX1_drop_1 ?_
  refine r_if_ne C 9 dX1_drop_4 (by decide) (by omega) (fun hc4 => ?_) (fun hc4 => ?_)
  · refine r_aload_n C 0 dX1_drop_9 rfl ?_
    refine r_dup C dX1_drop_10 ?_
    refine Lg_size C dX1_drop_11 ?_
    refine r_iconst C (v := nI 1) dX1_drop_14 (by decide) ?_
    refine r_isub C dX1_drop_15 (by omega) ?_
    refine Lp_size C dX1_drop_16 ?_
    refine r_aload_n C 0 dX1_drop_19 rfl ?_
    refine Lg_symbols C dX1_drop_20 ?_
    refine r_aload_n C 0 dX1_drop_23 rfl ?_
    refine Lg_size C dX1_drop_24 ?_
    refine Ll_sym C dX1_drop_27 (by omega) ?_
    exact hret (size - 1) _ _ _ dX1_drop_28 rfl (Or.inr ⟨by omega, rfl, rfl⟩)
  · subst hc4
    refine r_iconst C (v := -1) dX1_drop_7 (by decide) ?_
    exact hret 0 _ _ _ dX1_drop_8 rfl (Or.inl ⟨rfl, rfl, rfl⟩)
set_option maxHeartbeats 4000000 in
theorem m_change {l : Launch} {D : va_G} {dB : ClassId} {ad : Nat → Nat} {q lim size wsz rows cols rank rl : Nat} {sym work poly old copy : Nat → Nat} {M : Nat → Nat → Nat} {piv reg : Nat → Nat} {k v : Int32} (hq : Q3 q) (hsl : size ≤ lim) (hlim : lim ≤ 12) (hsym : ∀ j, sym j < q) : MI l D [(dB, .byte)] yX1_change cX1_change 3 .boolean (rmk 5) [.ref (ad 0), .int k, .int v] (LW ad dB q lim size wsz rows cols rank rl sym work poly old copy M piv reg) (fun (r : Int32) (u : Nat → Nat) => AChg q size sym k v r u) (fun u => (LW ad dB q lim size wsz rows cols rank rl u work poly old copy M piv reg)) := by
  refine MI_of RX1 (by decide) rfl (Nat.le_of_ble_eq_true rfl) [(0, .ref (ad 0)), (1, .int k), (2, .int v)] rfl ?_
  intro Z C hret
  have hq2 := Q3_2 hq
  have hq5 := Q3_5 hq
  refine r_iload_n C 1 dX1_change_0 rfl ?_
  refine r_if_ltI C 20 dX1_change_1 (by decide) (fun hc1 => ?_) (fun hc1 => ?_)
  · have hno : ¬ Ix size k ∨ ¬ Ix q v := Or.inl (no_neg (by omega) hc1)
    refine r_iconst C (v := nI 0) dX1_change_20 (by decide) ?_
    exact hret sym _ _ _ dX1_change_21 rfl (Or.inr ⟨hno, by decide, rfl⟩)
  · refine r_iload_n C 1 dX1_change_4 rfl ?_
    refine r_aload_n C 0 dX1_change_5 rfl ?_
    refine Lg_size C dX1_change_6 ?_
    refine r_icmp_geI C 20 dX1_change_9 (by decide) (fun hc9 => ?_) (fun hc9 => ?_)
    · have hno : ¬ Ix size k ∨ ¬ Ix q v := Or.inl (no_ge (by omega) hc9)
      refine r_iconst C (v := nI 0) dX1_change_20 (by decide) ?_
      exact hret sym _ _ _ dX1_change_21 rfl (Or.inr ⟨hno, by decide, rfl⟩)
    · obtain ⟨a, ha, rfl⟩ := ix_of (by omega) hc1 hc9
      refine r_aload_n C 0 dX1_change_12 rfl ?_
      refine r_iload_n C 2 dX1_change_13 rfl ?_
      refine r_calli C (ci := 0) (nA := 1) [.int v] (m_isSymbol hq5) rfl (lw_V q94 q96 qs0 q26 q97) (by decide +kernel) rfl ⟨rfl, rfl⟩ ⟨Nat.le_of_ble_eq_true rfl, Nat.le_of_ble_eq_true rfl⟩ rfl rfl (Nat.le_of_ble_eq_true rfl) dX1_change_14 (fun r u hu => ?_)
      rcases hu with ⟨rfl, hy⟩ | ⟨rfl, hy⟩
      · obtain ⟨t, ht, rfl⟩ := okS_ex hy
        refine r_if_neI C 22 dX1_change_17 (by decide) (fun hc17 => ?_) (fun hc17 => absurd hc17 (by decide))
        refine r_aload_n C 0 dX1_change_22 rfl ?_
        refine Lg_symbols C dX1_change_23 ?_
        refine r_iload_n C 1 dX1_change_26 rfl ?_
        refine r_iload_n C 2 dX1_change_27 rfl ?_
        refine r_i2b C dX1_change_28 (by omega) ?_
        refine Ls_sym C dX1_change_29 (by omega) (by omega) ?_
        refine r_iconst C (v := nI 1) dX1_change_30 (by decide) ?_
        exact hret (va_up sym a t) _ _ _ dX1_change_31 rfl (Or.inl ⟨a, t, ha, ht, rfl, rfl, by decide, rfl⟩)
      · have hno : ¬ Ix size (nI a) ∨ ¬ Ix q v := Or.inr (okS_no hq5 hy)
        refine r_if_neI C 22 dX1_change_17 (by decide) (fun hc17 => absurd hc17 (fun h => h rfl)) (fun hc17 => ?_)
        refine r_iconst C (v := nI 0) dX1_change_20 (by decide) ?_
        exact hret sym _ _ _ dX1_change_21 rfl (Or.inr ⟨hno, by decide, rfl⟩)
set_option maxHeartbeats 4000000 in
theorem m_symbol {l : Launch} {D : va_G} {dB : ClassId} {ad : Nat → Nat} {q lim size wsz rows cols rank rl : Nat} {sym work poly old copy : Nat → Nat} {M : Nat → Nat → Nat} {piv reg : Nat → Nat} {k : Int32} (hq : Q3 q) (hsl : size ≤ lim) (hlim : lim ≤ 12) (hsym : ∀ j, sym j < q) : MI l D [(dB, .byte)] yX1_symbol cX1_symbol 2 .int (rmk 5) [.ref (ad 0), .int k] (LW ad dB q lim size wsz rows cols rank rl sym work poly old copy M piv reg) (fun (r : Int32) (u : LI) => ASym size sym k r) (fun u => LX ad dB q lim size sym u) := by
  refine MI_of RX1 (by decide) rfl (Nat.le_of_ble_eq_true rfl) [(0, .ref (ad 0)), (1, .int k)] rfl ?_
  intro Z C hret
  have hq2 := Q3_2 hq
  have hq5 := Q3_5 hq
  refine r_iload_n C 1 dX1_symbol_0 rfl ?_
  refine r_if_ltI C 12 dX1_symbol_1 (by decide) (fun hc1 => ?_) (fun hc1 => ?_)
  · have hno := no_neg (n := size) (by omega) hc1
    refine r_iconst C (v := -1) dX1_symbol_12 (by decide) ?_
    refine r_goto C 22 dX1_symbol_13 (by decide) ?_
    exact hret (wsz, rows, cols, rank, rl, work, poly, old, copy, M, piv, reg) _ _ _ dX1_symbol_22 rfl (Or.inr ⟨hno, rfl⟩)
  · refine r_iload_n C 1 dX1_symbol_4 rfl ?_
    refine r_aload_n C 0 dX1_symbol_5 rfl ?_
    refine Lg_size C dX1_symbol_6 ?_
    refine r_icmp_ltI C 16 dX1_symbol_9 (by decide) (fun hc9 => ?_) (fun hc9 => ?_)
    · obtain ⟨a, ha, rfl⟩ := ix_lt (by omega) hc1 hc9
      refine r_aload_n C 0 dX1_symbol_16 rfl ?_
      refine Lg_symbols C dX1_symbol_17 ?_
      refine r_iload_n C 1 dX1_symbol_20 rfl ?_
      refine Ll_sym C dX1_symbol_21 (by omega) ?_
      exact hret (wsz, rows, cols, rank, rl, work, poly, old, copy, M, piv, reg) _ _ _ dX1_symbol_22 rfl (Or.inl ⟨a, ha, rfl, rfl⟩)
    · have hno := no_nlt (n := size) (by omega) hc9
      refine r_iconst C (v := -1) dX1_symbol_12 (by decide) ?_
      refine r_goto C 22 dX1_symbol_13 (by decide) ?_
      exact hret (wsz, rows, cols, rank, rl, work, poly, old, copy, M, piv, reg) _ _ _ dX1_symbol_22 rfl (Or.inr ⟨hno, rfl⟩)
set_option maxHeartbeats 4000000 in
theorem m_complexity {l : Launch} {D : va_G} {dB : ClassId} {ad : Nat → Nat} {q lim size wsz rows cols rank rl : Nat} {sym work poly old copy : Nat → Nat} {M : Nat → Nat → Nat} {piv reg : Nat → Nat} {x y : Int32} (hq : Q3 q) (hsl : size ≤ lim) (hlim : lim ≤ 12) (hsym : ∀ j, sym j < q) : MI l D [(dB, .byte)] yX1_complexity cX1_complexity 3 .int (rmk 5) [.ref (ad 0), .int x, .int y] (LW ad dB q lim size wsz rows cols rank rl sym work poly old copy M piv reg) (fun (r : Int32) (u : LI) => AComI q sym size x y r) (fun u => LX ad dB q lim size sym u) := by
  refine MI_of RX1 (by decide) rfl (Nat.le_of_ble_eq_true rfl) [(0, .ref (ad 0)), (1, .int x), (2, .int y)] rfl ?_
  intro Z C hret
  have hq2 := Q3_2 hq
  have hq5 := Q3_5 hq
  refine r_iload_n C 1 dX1_complexity_0 rfl ?_
  refine r_if_ltI C 17 dX1_complexity_1 (by decide) (fun hc1 => ?_) (fun hc1 => ?_)
  · have hno := iv_n0 (y := y) (n := size) (by omega) hc1
    refine r_iconst C (v := -1) dX1_complexity_17 (by decide) ?_
    exact hret (wsz, rows, cols, rank, rl, work, poly, old, copy, M, piv, reg) _ _ _ dX1_complexity_18 rfl (Or.inr ⟨hno, rfl⟩)
  · refine r_iload_n C 2 dX1_complexity_4 rfl ?_
    refine r_aload_n C 0 dX1_complexity_5 rfl ?_
    refine Lg_size C dX1_complexity_6 ?_
    refine r_icmp_gtI C 17 dX1_complexity_9 (by decide) (fun hc9 => ?_) (fun hc9 => ?_)
    · have hno := iv_n1 (x := x) (n := size) (by omega) hc9
      refine r_iconst C (v := -1) dX1_complexity_17 (by decide) ?_
      exact hret (wsz, rows, cols, rank, rl, work, poly, old, copy, M, piv, reg) _ _ _ dX1_complexity_18 rfl (Or.inr ⟨hno, rfl⟩)
    · refine r_iload_n C 1 dX1_complexity_12 rfl ?_
      refine r_iload_n C 2 dX1_complexity_13 rfl ?_
      refine r_icmp_leI C 19 dX1_complexity_14 (by decide) (fun hc14 => ?_) (fun hc14 => ?_)
      · obtain ⟨a, b, hab, hb, rfl, rfl⟩ := iv_of (by omega) hc1 hc9 hc14
        refine r_aload_n C 0 dX1_complexity_19 rfl ?_
        refine r_iload_n C 1 dX1_complexity_20 rfl ?_
        refine r_iload_n C 2 dX1_complexity_21 rfl ?_
        refine r_callv C (ci := 0) (nA := 2) [.int (nI a), .int (nI b)] (m_take hab (by omega) (fun j => by have := hsym j; omega)) rfl (lw_V q122 q124 qs1 q26 q125) (by decide +kernel) rfl ⟨rfl, rfl⟩ ⟨Nat.le_of_ble_eq_true rfl, Nat.le_of_ble_eq_true rfl⟩ rfl rfl (Nat.le_of_ble_eq_true rfl) dX1_complexity_22 (fun u0 hu0 => ?_)
        refine r_aload_n C 0 dX1_complexity_25 rfl ?_
        refine r_calli C (ci := 0) (nA := 0) [] (m_shortest hq (by omega) (fun j hj => by simp only [tkF]; rw [if_pos hj]; exact hsym _)) rfl (lw_V q126 q128 qs2 q26 q129) (by decide +kernel) rfl ⟨rfl, rfl⟩ ⟨Nat.le_of_ble_eq_true rfl, Nat.le_of_ble_eq_true rfl⟩ rfl rfl (Nat.le_of_ble_eq_true rfl) dX1_complexity_26 (fun r u1 hu1 => ?_)
        obtain ⟨L, rfl, hL⟩ := hu1
        exact hret ((b - a), rows, cols, rank, rl, (tkF sym work a b), u1.1, u1.2.1, u1.2.2, M, piv, reg) _ _ _ dX1_complexity_29 rfl (Or.inl ⟨a, b, hab, hb, rfl, rfl, L, Len_congr (fun j hj => by simp only [tkF]; rw [if_pos hj]) hL, rfl⟩)
      · have hno := iv_n2 (n := size) (by omega) hc14
        refine r_iconst C (v := -1) dX1_complexity_17 (by decide) ?_
        exact hret (wsz, rows, cols, rank, rl, work, poly, old, copy, M, piv, reg) _ _ _ dX1_complexity_18 rfl (Or.inr ⟨hno, rfl⟩)
set_option maxHeartbeats 4000000 in
theorem m_registers {l : Launch} {D : va_G} {dB : ClassId} {ad : Nat → Nat} {q lim size wsz rows cols rank rl : Nat} {sym work poly old copy : Nat → Nat} {M : Nat → Nat → Nat} {piv reg : Nat → Nat}  (hq : Q3 q) (hsl : size ≤ lim) (hlim : lim ≤ 12) (hsym : ∀ j, sym j < q) : MI l D [(dB, .byte)] yX1_registers cX1_registers 3 .int (rmk 5) [.ref (ad 0)] (LW ad dB q lim size wsz rows cols rank rl sym work poly old copy M piv reg) (fun (r : Int32) (u : LI) => AReg q sym size r) (fun u => LX ad dB q lim size sym u) := by
  refine MI_of RX1 (by decide) rfl (Nat.le_of_ble_eq_true rfl) [(0, .ref (ad 0))] rfl ?_
  intro Z C hret
  have hq2 := Q3_2 hq
  have hq5 := Q3_5 hq
  refine r_aload_n C 0 dX1_registers_0 rfl ?_
  refine r_aload_n C 0 dX1_registers_1 rfl ?_
  refine Lg_size C dX1_registers_2 ?_
  refine r_callv C (ci := 0) (nA := 1) [.int (nI size)] (m_findRegister hq (by omega) hsym) rfl (lw_V q158 q160 qs9 q26 q161) (by decide +kernel) rfl ⟨rfl, rfl⟩ ⟨Nat.le_of_ble_eq_true rfl, Nat.le_of_ble_eq_true rfl⟩ rfl rfl (Nat.le_of_ble_eq_true rfl) dX1_registers_5 (fun u hu => ?_)
  obtain ⟨wk, P1, B1, K1, M1, pv, rg, L, rk⟩ := u
  obtain ⟨hwk, hLR, hrk, hcnt⟩ := hu
  dsimp only at hwk hLR hrk hcnt ⊢
  have hLk := hLR.1.1
  refine r_iconst C (v := nI 1) dX1_registers_8 (by decide) ?_
  refine r_istore_n C (lv' := [(0, .ref (ad 0)), (1, .int (nI 1))]) [1, 0] dX1_registers_9 (by decide) rfl ?_
  refine r_aload_n C 0 dX1_registers_10 rfl ?_
  refine Lg_rank C dX1_registers_11 ?_
  refine r_istore_n C (lv' := [(0, .ref (ad 0)), (1, .int (nI 1)), (2, .int (nI rk))]) [1, 2, 0] dX1_registers_14 (by decide) rfl ?_
  have lp15 : ∀ k, rk ≤ k → k ≤ L → Z (LW ad dB q lim size size (size - L) L rk L sym wk P1 B1 K1 M1 pv rg) [(0, .ref (ad 0)), (1, .int (nI (q ^ (k - rk)))), (2, .int (nI k))] 15 [] := by
    refine nd_lo rk L ?_ ?_
    · show Z (LW ad dB q lim size size (size - L) L rk L sym wk P1 B1 K1 M1 pv rg) [(0, .ref (ad 0)), (1, .int (nI (q ^ (L - rk)))), (2, .int (nI L))] 15 []
      refine r_iload_n C 2 dX1_registers_15 rfl ?_
      refine r_aload_n C 0 dX1_registers_16 rfl ?_
      refine Lg_columns C dX1_registers_17 ?_
      refine r_icmp_ge C 36 dX1_registers_20 (by decide) (by omega) (by omega) (fun hc20 => ?_) (fun hc20 => absurd hc20 (by omega))
      refine r_iload_n C 1 dX1_registers_36 rfl ?_
      exact hret (size, (size - L), L, rk, L, wk, P1, B1, K1, M1, pv, rg) _ _ _ dX1_registers_37 rfl ⟨L, hLR.1, by rw [hcnt]⟩
    · intro k hlk hk ih 
      refine r_iload_n C 2 dX1_registers_15 rfl ?_
      refine r_aload_n C 0 dX1_registers_16 rfl ?_
      refine Lg_columns C dX1_registers_17 ?_
      refine r_icmp_ge C 36 dX1_registers_20 (by decide) (by omega) (by omega) (fun hc20 => absurd hc20 (by omega)) (fun hc20 => ?_)
      refine r_iload_n C 1 dX1_registers_23 rfl ?_
      refine r_aload_n C 0 dX1_registers_24 rfl ?_
      refine Lg_q C dX1_registers_25 ?_
      refine r_imul C dX1_registers_28 ?_
      refine r_istore_n C (lv' := [(0, .ref (ad 0)), (1, .int (nI ((q ^ (k - rk)) * q))), (2, .int (nI k))]) [1, 0, 2] dX1_registers_29 (by decide) rfl ?_
      refine r_iinc C (k := 2) (v := (nI (k + 1))) (lv' := [(0, .ref (ad 0)), (1, .int (nI ((q ^ (k - rk)) * q))), (2, .int (nI (k + 1)))]) [1, 2, 0] dX1_registers_30 rfl (nI_inc _) (by decide) rfl ?_
      refine r_goto C 15 dX1_registers_33 (by decide) ?_
      rw [show k + 1 - rk = (k - rk) + 1 by omega, Nat.pow_succ] at ih
      exact ih
  have hz := lp15 rk (Nat.le_refl _) hrk
  rw [Nat.sub_self, Nat.pow_zero] at hz
  exact hz
theorem ix_1 {x : Int32} {n : Nat} (hn : n < 2 ^ 30) (h0 : ¬ x < nI 1) (h1 : x ≤ nI n) : ∃ t, 1 ≤ t ∧ t ≤ n ∧ x = nI t := by
  have h2 : ¬ x < 0 := fun h => h0 (Int32.lt_trans h (by decide))
  obtain ⟨t, ht, rfl⟩ := ix_le hn h2 h1
  exact ⟨t, by have := mt (nI_ltI (a := t) (b := 1) (by omega) (by decide)).mpr h0; omega, by omega, rfl⟩
set_option maxHeartbeats 4000000 in
theorem m_coefficient {l : Launch} {D : va_G} {dB : ClassId} {ad : Nat → Nat} {q lim size wsz rows cols rank rl : Nat} {sym work poly old copy : Nat → Nat} {M : Nat → Nat → Nat} {piv reg : Nat → Nat} {i : Int32} (hq : Q3 q) (hsl : size ≤ lim) (hlim : lim ≤ 12) (hsym : ∀ j, sym j < q) : MI l D [(dB, .byte)] yX1_coefficient cX1_coefficient 2 .int (rmk 5) [.ref (ad 0), .int i] (LW ad dB q lim size wsz rows cols rank rl sym work poly old copy M piv reg) (fun (r : Int32) (u : LI) => ACoe q sym size i r) (fun u => LX ad dB q lim size sym u) := by
  refine MI_of RX1 (by decide) rfl (Nat.le_of_ble_eq_true rfl) [(0, .ref (ad 0)), (1, .int i)] rfl ?_
  intro Z C hret
  have hq2 := Q3_2 hq
  have hq5 := Q3_5 hq
  refine r_aload_n C 0 dX1_coefficient_0 rfl ?_
  refine r_aload_n C 0 dX1_coefficient_1 rfl ?_
  refine Lg_size C dX1_coefficient_2 ?_
  refine r_callv C (ci := 0) (nA := 1) [.int (nI size)] (m_findRegister hq (by omega) hsym) rfl (lw_V q158 q160 qs9 q26 q161) (by decide +kernel) rfl ⟨rfl, rfl⟩ ⟨Nat.le_of_ble_eq_true rfl, Nat.le_of_ble_eq_true rfl⟩ rfl rfl (Nat.le_of_ble_eq_true rfl) dX1_coefficient_5 (fun u hu => ?_)
  obtain ⟨wk, P1, B1, K1, M1, pv, rg, L, rk⟩ := u
  obtain ⟨hwk, hLR, hrk, hcnt⟩ := hu
  dsimp only at hwk hLR hrk hcnt ⊢
  have hLk := hLR.1.1
  refine r_iload_n C 1 dX1_coefficient_8 rfl ?_
  refine r_iconst C (v := nI 1) dX1_coefficient_9 (by decide) ?_
  refine r_icmp_ltI C 21 dX1_coefficient_10 (by decide) (fun hc10 => ?_) (fun hc10 => ?_)
  · have hno : i < 1 ∨ nI L < i := Or.inl hc10
    refine r_iconst C (v := -1) dX1_coefficient_21 (by decide) ?_
    refine r_goto C 31 dX1_coefficient_22 (by decide) ?_
    exact hret (size, (size - L), L, rk, L, wk, P1, B1, K1, M1, pv, rg) _ _ _ dX1_coefficient_31 rfl ⟨L, rg, hLR, Or.inl ⟨hno, rfl⟩⟩
  · refine r_iload_n C 1 dX1_coefficient_13 rfl ?_
    refine r_aload_n C 0 dX1_coefficient_14 rfl ?_
    refine Lg_registerLength C dX1_coefficient_15 ?_
    refine r_icmp_leI C 25 dX1_coefficient_18 (by decide) (fun hc18 => ?_) (fun hc18 => ?_)
    · obtain ⟨t, ht1, ht2, rfl⟩ := ix_1 (by omega) hc10 hc18
      refine r_aload_n C 0 dX1_coefficient_25 rfl ?_
      refine Lg_register C dX1_coefficient_26 ?_
      refine r_iload_n C 1 dX1_coefficient_29 rfl ?_
      refine Ll_reg C dX1_coefficient_30 (by omega) ?_
      exact hret (size, (size - L), L, rk, L, wk, P1, B1, K1, M1, pv, rg) _ _ _ dX1_coefficient_31 rfl ⟨L, rg, hLR, Or.inr ⟨t, ht1, ht2, rfl, rfl⟩⟩
    · have hno : i < 1 ∨ nI L < i := Or.inr (Int32.not_le.mp hc18)
      refine r_iconst C (v := -1) dX1_coefficient_21 (by decide) ?_
      refine r_goto C 31 dX1_coefficient_22 (by decide) ?_
      exact hret (size, (size - L), L, rk, L, wk, P1, B1, K1, M1, pv, rg) _ _ _ dX1_coefficient_31 rfl ⟨L, rg, hLR, Or.inl ⟨hno, rfl⟩⟩
set_option maxHeartbeats 4000000 in
theorem m_predict {l : Launch} {D : va_G} {dB : ClassId} {ad : Nat → Nat} {q lim size wsz rows cols rank rl : Nat} {sym work poly old copy : Nat → Nat} {M : Nat → Nat → Nat} {piv reg : Nat → Nat} {j : Int32} (hq : Q3 q) (hsl : size ≤ lim) (hlim : lim ≤ 12) (hsym : ∀ j, sym j < q) : MI l D [(dB, .byte)] yX1_predict cX1_predict 3 .int (rmk 5) [.ref (ad 0), .int j] (LW ad dB q lim size wsz rows cols rank rl sym work poly old copy M piv reg) (fun (r : Int32) (u : LI) => APreI q sym size j r) (fun u => LX ad dB q lim size sym u) := by
  refine MI_of RX1 (by decide) rfl (Nat.le_of_ble_eq_true rfl) [(0, .ref (ad 0)), (1, .int j)] rfl ?_
  intro Z C hret
  have hq2 := Q3_2 hq
  have hq5 := Q3_5 hq
  refine r_iload_n C 1 dX1_predict_0 rfl ?_
  refine r_if_ltI C 10 dX1_predict_1 (by decide) (fun hc1 => ?_) (fun hc1 => ?_)
  · have hno := no_neg (n := 41) (by omega) hc1
    refine r_iconst C (v := -1) dX1_predict_10 (by decide) ?_
    exact hret (wsz, rows, cols, rank, rl, work, poly, old, copy, M, piv, reg) _ _ _ dX1_predict_11 rfl (Or.inr ⟨hno, rfl⟩)
  · refine r_iload_n C 1 dX1_predict_4 rfl ?_
    refine r_bipush C (v := nI 40) dX1_predict_5 (by decide) ?_
    refine r_icmp_leI C 12 dX1_predict_7 (by decide) (fun hc7 => ?_) (fun hc7 => ?_)
    · obtain ⟨t, ht, rfl⟩ := ix_le (n := 40) (by omega) hc1 hc7
      refine r_aload_n C 0 dX1_predict_12 rfl ?_
      refine r_aload_n C 0 dX1_predict_13 rfl ?_
      refine Lg_size C dX1_predict_14 ?_
      refine r_callv C (ci := 0) (nA := 1) [.int (nI size)] (m_findRegister hq (by omega) hsym) rfl (lw_V q158 q160 qs9 q26 q161) (by decide +kernel) rfl ⟨rfl, rfl⟩ ⟨Nat.le_of_ble_eq_true rfl, Nat.le_of_ble_eq_true rfl⟩ rfl rfl (Nat.le_of_ble_eq_true rfl) dX1_predict_17 (fun u hu => ?_)
      obtain ⟨wk, P1, B1, K1, M1, pv, rg, L, rk⟩ := u
      obtain ⟨hwk, hLR, hrk, hcnt⟩ := hu
      dsimp only at hwk hLR hrk hcnt ⊢
      have hLk := hLR.1.1
      refine r_iconst C (v := nI 0) dX1_predict_20 (by decide) ?_
      refine r_istore_n C (lv' := [(0, .ref (ad 0)), (1, .int (nI t)), (2, .int (nI 0))]) [1, 2, 0] dX1_predict_21 (by decide) rfl ?_
      have lp22 : ∀ i, 0 ≤ i → i ≤ t + 1 → Z (LW ad dB q lim size (size + i) (size - L) L rk L sym (runF q L rg wk size i) P1 B1 K1 M1 pv rg) [(0, .ref (ad 0)), (1, .int (nI t)), (2, .int (nI i))] 22 [] := by
        refine nd_lo 0 (t + 1) ?_ ?_
        · show Z (LW ad dB q lim size (size + (t + 1)) (size - L) L rk L sym (runF q L rg wk size (t + 1)) P1 B1 K1 M1 pv rg) [(0, .ref (ad 0)), (1, .int (nI t)), (2, .int (nI (t + 1)))] 22 []
          refine r_iload_n C 2 dX1_predict_22 rfl ?_
          refine r_iload_n C 1 dX1_predict_23 rfl ?_
          refine r_icmp_gt C 37 dX1_predict_24 (by decide) (by omega) (by omega) (fun hc24 => ?_) (fun hc24 => absurd hc24 (by omega))
          refine r_aload_n C 0 dX1_predict_37 rfl ?_
          refine Lg_work C dX1_predict_38 ?_
          refine r_aload_n C 0 dX1_predict_41 rfl ?_
          refine Lg_workSize C dX1_predict_42 ?_
          refine r_iconst C (v := nI 1) dX1_predict_45 (by decide) ?_
          refine r_isub C dX1_predict_46 (by omega) ?_
          refine Ll_work C dX1_predict_47 (by omega) ?_
          exact hret ((size + (t + 1)), (size - L), L, rk, L, (runF q L rg wk size (t + 1)), P1, B1, K1, M1, pv, rg) _ _ _ dX1_predict_48 rfl (Or.inl ⟨t, ht, rfl, L, rg, hLR, by rw [show size + (t + 1) - 1 = size + t by omega, runF_congr hLk (fun _ _ _ => rfl) hwk (t + 1) (size + t) (by omega)]⟩)
        · intro i hli hi ih 
          refine r_iload_n C 2 dX1_predict_22 rfl ?_
          refine r_iload_n C 1 dX1_predict_23 rfl ?_
          refine r_icmp_gt C 37 dX1_predict_24 (by decide) (by omega) (by omega) (fun hc24 => absurd hc24 (by omega)) (fun hc24 => ?_)
          refine r_aload_n C 0 dX1_predict_27 rfl ?_
          refine r_callv C (ci := 0) (nA := 0) [] (m_step (by omega) hq5 (by omega) (by omega) (by omega) (fun i h1 h2 => by have := hLR.2.1 i h1 h2; omega) (fun j hj => by have := runF_lt (L := L) (c := rg) (f := wk) (show 0 < q by omega) (fun j hj => by rw [hwk j hj]; exact hsym j) i j hj; omega)) rfl (lw_V q194 q196 qs16 q26 q197) (by decide +kernel) rfl ⟨rfl, rfl⟩ ⟨Nat.le_of_ble_eq_true rfl, Nat.le_of_ble_eq_true rfl⟩ rfl rfl (Nat.le_of_ble_eq_true rfl) dX1_predict_28 (fun u0 hu0 => ?_)
          refine r_iinc C (k := 2) (v := (nI (i + 1))) (lv' := [(0, .ref (ad 0)), (1, .int (nI t)), (2, .int (nI (i + 1)))]) [1, 2, 0] dX1_predict_31 rfl (nI_inc _) (by decide) rfl ?_
          refine r_goto C 22 dX1_predict_34 (by decide) ?_
          exact ih
      have hz := lp22 0 (by omega) (by omega)
      exact hz
    · have hno := no_nle (n := 40) (by omega) hc7
      refine r_iconst C (v := -1) dX1_predict_10 (by decide) ?_
      exact hret (wsz, rows, cols, rank, rl, work, poly, old, copy, M, piv, reg) _ _ _ dX1_predict_11 rfl (Or.inr ⟨hno, rfl⟩)
set_option maxHeartbeats 4000000 in
theorem m_complexityWith {l : Launch} {D : va_G} {dB : ClassId} {ad : Nat → Nat} {q lim size wsz rows cols rank rl : Nat} {sym work poly old copy : Nat → Nat} {M : Nat → Nat → Nat} {piv reg : Nat → Nat} {v : Int32} (hq : Q3 q) (hsl : size ≤ lim) (hlim : lim ≤ 12) (hsym : ∀ j, sym j < q) : MI l D [(dB, .byte)] yX1_complexityWith cX1_complexityWith 2 .int (rmk 5) [.ref (ad 0), .int v] (LW ad dB q lim size wsz rows cols rank rl sym work poly old copy M piv reg) (fun (r : Int32) (u : LI) => AWith q sym size v r) (fun u => LX ad dB q lim size sym u) := by
  refine MI_of RX1 (by decide) rfl (Nat.le_of_ble_eq_true rfl) [(0, .ref (ad 0)), (1, .int v)] rfl ?_
  intro Z C hret
  have hq2 := Q3_2 hq
  have hq5 := Q3_5 hq
  refine r_aload_n C 0 dX1_complexityWith_0 rfl ?_
  refine r_iload_n C 1 dX1_complexityWith_1 rfl ?_
  refine r_calli C (ci := 0) (nA := 1) [.int v] (m_isSymbol hq5) rfl (lw_V q94 q96 qs0 q26 q97) (by decide +kernel) rfl ⟨rfl, rfl⟩ ⟨Nat.le_of_ble_eq_true rfl, Nat.le_of_ble_eq_true rfl⟩ rfl rfl (Nat.le_of_ble_eq_true rfl) dX1_complexityWith_2 (fun r u hu => ?_)
  rcases hu with ⟨rfl, hy⟩ | ⟨rfl, hy⟩
  · obtain ⟨t, ht, rfl⟩ := okS_ex hy
    refine r_if_neI C 10 dX1_complexityWith_5 (by decide) (fun hc5 => ?_) (fun hc5 => absurd hc5 (by decide))
    refine r_aload_n C 0 dX1_complexityWith_10 rfl ?_
    refine r_iconst C (v := nI 0) dX1_complexityWith_11 (by decide) ?_
    refine r_aload_n C 0 dX1_complexityWith_12 rfl ?_
    refine Lg_size C dX1_complexityWith_13 ?_
    refine r_callv C (ci := 0) (nA := 2) [.int (nI 0), .int (nI size)] (m_take (Nat.zero_le _) (by omega) (fun j => by have := hsym j; omega)) rfl (lw_V q122 q124 qs1 q26 q125) (by decide +kernel) rfl ⟨rfl, rfl⟩ ⟨Nat.le_of_ble_eq_true rfl, Nat.le_of_ble_eq_true rfl⟩ rfl rfl (Nat.le_of_ble_eq_true rfl) dX1_complexityWith_16 (fun u0 hu0 => ?_)
    rw [Nat.sub_zero]
    refine r_aload_n C 0 dX1_complexityWith_19 rfl ?_
    refine Lg_work C dX1_complexityWith_20 ?_
    refine r_aload_n C 0 dX1_complexityWith_23 rfl ?_
    refine Lg_workSize C dX1_complexityWith_24 ?_
    refine r_iload_n C 1 dX1_complexityWith_27 rfl ?_
    refine r_i2b C dX1_complexityWith_28 (by omega) ?_
    refine Ls_work C dX1_complexityWith_29 (by omega) (by omega) ?_
    refine r_aload_n C 0 dX1_complexityWith_30 rfl ?_
    refine r_dup C dX1_complexityWith_31 ?_
    refine Lg_workSize C dX1_complexityWith_32 ?_
    refine r_iconst C (v := nI 1) dX1_complexityWith_35 (by decide) ?_
    refine r_iadd C dX1_complexityWith_36 ?_
    refine Lp_workSize C dX1_complexityWith_37 ?_
    refine r_aload_n C 0 dX1_complexityWith_40 rfl ?_
    have hws : ∀ j, j < size + 1 → va_up (tkF sym work 0 size) size t j = va_up sym size t j := fun j hj => by
      by_cases h : j = size
      · rw [h, va_up_self, va_up_self]
      · rw [va_up_ne _ _ h, va_up_ne _ _ h]; simp only [tkF]; rw [if_pos (by omega), Nat.zero_add]
    refine r_calli C (ci := 0) (nA := 0) [] (m_shortest hq (by omega) (fun j hj => by rw [hws j hj]; unfold va_up; split; exact ht; exact hsym _)) rfl (lw_V q126 q128 qs2 q26 q129) (by decide +kernel) rfl ⟨rfl, rfl⟩ ⟨Nat.le_of_ble_eq_true rfl, Nat.le_of_ble_eq_true rfl⟩ rfl rfl (Nat.le_of_ble_eq_true rfl) dX1_complexityWith_41 (fun r u1 hu1 => ?_)
    obtain ⟨L, rfl, hL⟩ := hu1
    exact hret (size + 1, rows, cols, rank, rl, va_up (tkF sym work 0 size) size t, u1.1, u1.2.1, u1.2.2, M, piv, reg) _ _ _ dX1_complexityWith_44 rfl (Or.inl ⟨t, ht, rfl, L, Len_congr hws hL, rfl⟩)
  · have hy := okS_no hq5 hy
    refine r_if_neI C 10 dX1_complexityWith_5 (by decide) (fun hc5 => absurd hc5 (fun h => h rfl)) (fun hc5 => ?_)
    refine r_iconst C (v := -1) dX1_complexityWith_8 (by decide) ?_
    exact hret (wsz, rows, cols, rank, rl, work, poly, old, copy, M, piv, reg) _ _ _ dX1_complexityWith_9 rfl (Or.inr ⟨hy, rfl⟩)
set_option maxHeartbeats 4000000 in
theorem m_complexityBackwards {l : Launch} {D : va_G} {dB : ClassId} {ad : Nat → Nat} {q lim size wsz rows cols rank rl : Nat} {sym work poly old copy : Nat → Nat} {M : Nat → Nat → Nat} {piv reg : Nat → Nat}  (hq : Q3 q) (hsl : size ≤ lim) (hlim : lim ≤ 12) (hsym : ∀ j, sym j < q) : MI l D [(dB, .byte)] yX1_complexityBackwards cX1_complexityBackwards 2 .int (rmk 5) [.ref (ad 0)] (LW ad dB q lim size wsz rows cols rank rl sym work poly old copy M piv reg) (fun (r : Int32) (u : LI) => ACom q (fun j => sym (size - 1 - j)) size r) (fun u => LX ad dB q lim size sym u) := by
  refine MI_of RX1 (by decide) rfl (Nat.le_of_ble_eq_true rfl) [(0, .ref (ad 0))] rfl ?_
  intro Z C hret
  have hq2 := Q3_2 hq
  have hq5 := Q3_5 hq
  refine r_aload_n C 0 dX1_complexityBackwards_0 rfl ?_
  refine r_iconst C (v := nI 0) dX1_complexityBackwards_1 (by decide) ?_
  refine Lp_workSize C dX1_complexityBackwards_2 ?_
  refine r_aload_n C 0 dX1_complexityBackwards_5 rfl ?_
  refine Lg_size C dX1_complexityBackwards_6 ?_
  refine r_iconst C (v := nI 1) dX1_complexityBackwards_9 (by decide) ?_
  refine r_isubI C (z := (nI size - 1)) dX1_complexityBackwards_10 rfl ?_
  refine r_istore_n C (lv' := [(0, .ref (ad 0)), (1, .int (nI size - 1))]) [1, 0] dX1_complexityBackwards_11 (by decide) rfl ?_
  have lp12 : ∀ n, 0 ≤ n → n ≤ size → Z (LW ad dB q lim size n rows cols rank rl sym (bkF sym work size n) poly old copy M piv reg) [(0, .ref (ad 0)), (1, .int (nI (size - n) - 1))] 12 [] := by
    refine nd_lo 0 size ?_ ?_
    · show Z (LW ad dB q lim size size rows cols rank rl sym (bkF sym work size size) poly old copy M piv reg) [(0, .ref (ad 0)), (1, .int (nI (size - size) - 1))] 12 []
      refine r_iload_n C 1 dX1_complexityBackwards_12 rfl ?_
      refine r_if_ltI C 47 dX1_complexityBackwards_13 (by decide) (fun hc13 => ?_) (fun hc13 => absurd hc13 (fun h => h (by rw [Nat.sub_self]; decide)))
      refine r_aload_n C 0 dX1_complexityBackwards_47 rfl ?_
      refine r_calli C (ci := 0) (nA := 0) [] (m_shortest hq (by omega) (fun j hj => by simp only [bkF]; rw [if_pos hj]; exact hsym _)) rfl (lw_V q126 q128 qs2 q26 q129) (by decide +kernel) rfl ⟨rfl, rfl⟩ ⟨Nat.le_of_ble_eq_true rfl, Nat.le_of_ble_eq_true rfl⟩ rfl rfl (Nat.le_of_ble_eq_true rfl) dX1_complexityBackwards_48 (fun r u1 hu1 => ?_)
      obtain ⟨L, rfl, hL⟩ := hu1
      exact hret (size, rows, cols, rank, rl, bkF sym work size size, u1.1, u1.2.1, u1.2.2, M, piv, reg) _ _ _ dX1_complexityBackwards_51 rfl ⟨L, Len_congr (fun j hj => by simp only [bkF]; rw [if_pos hj]) hL, rfl⟩
    · intro n hln hn ih 
      obtain ⟨c, hcn⟩ : ∃ c, size - n = c + 1 := ⟨size - n - 1, by omega⟩
      rw [show nI (size - n) - 1 = nI c by rw [hcn]; exact piv_some c]
      refine r_iload_n C 1 dX1_complexityBackwards_12 rfl ?_
      refine r_if_lt C 47 dX1_complexityBackwards_13 (by decide) (by omega) ?_
      refine r_aload_n C 0 dX1_complexityBackwards_16 rfl ?_
      refine Lg_work C dX1_complexityBackwards_17 ?_
      refine r_aload_n C 0 dX1_complexityBackwards_20 rfl ?_
      refine Lg_workSize C dX1_complexityBackwards_21 ?_
      refine r_aload_n C 0 dX1_complexityBackwards_24 rfl ?_
      refine Lg_symbols C dX1_complexityBackwards_25 ?_
      refine r_iload_n C 1 dX1_complexityBackwards_28 rfl ?_
      refine Ll_sym C dX1_complexityBackwards_29 (by omega) ?_
      refine Ls_work C dX1_complexityBackwards_30 (by omega) (by have := hsym c; omega) ?_
      refine r_aload_n C 0 dX1_complexityBackwards_31 rfl ?_
      refine r_dup C dX1_complexityBackwards_32 ?_
      refine Lg_workSize C dX1_complexityBackwards_33 ?_
      refine r_iconst C (v := nI 1) dX1_complexityBackwards_36 (by decide) ?_
      refine r_iadd C dX1_complexityBackwards_37 ?_
      refine Lp_workSize C dX1_complexityBackwards_38 ?_
      refine r_iinc C (k := 1) (v := (nI (size - (n + 1)) - 1)) (lv' := [(0, .ref (ad 0)), (1, .int (nI (size - (n + 1)) - 1))]) [1, 0] dX1_complexityBackwards_41 rfl (by rw [show size - (n + 1) = c by omega]; exact nI_decm c) (by decide) rfl ?_
      refine r_goto C 12 dX1_complexityBackwards_44 (by decide) ?_
      rw [bkF_s sym work size n c hcn]
      exact ih
  have hz := lp12 0 (by omega) (by omega)
  rw [bkF_0] at hz
  exact hz
set_option maxHeartbeats 4000000 in
theorem m_holdsUntil {l : Launch} {D : va_G} {dB : ClassId} {ad : Nat → Nat} {q lim size wsz rows cols rank rl : Nat} {sym work poly old copy : Nat → Nat} {M : Nat → Nat → Nat} {piv reg : Nat → Nat} {k : Int32} (hq : Q3 q) (hsl : size ≤ lim) (hlim : lim ≤ 12) (hsym : ∀ j, sym j < q) : MI l D [(dB, .byte)] yX1_holdsUntil cX1_holdsUntil 3 .int (rmk 5) [.ref (ad 0), .int k] (LW ad dB q lim size wsz rows cols rank rl sym work poly old copy M piv reg) (fun (r : Int32) (u : LI) => AHolI q sym size k r) (fun u => LX ad dB q lim size sym u) := by
  refine MI_of RX1 (by decide) rfl (Nat.le_of_ble_eq_true rfl) [(0, .ref (ad 0)), (1, .int k)] rfl ?_
  intro Z C hret
  have hq2 := Q3_2 hq
  have hq5 := Q3_5 hq
  refine r_iload_n C 1 dX1_holdsUntil_0 rfl ?_
  refine r_if_ltI C 12 dX1_holdsUntil_1 (by decide) (fun hc1 => ?_) (fun hc1 => ?_)
  · have hno := no_neg (n := size + 1) (by omega) hc1
    refine r_iconst C (v := -1) dX1_holdsUntil_12 (by decide) ?_
    exact hret (wsz, rows, cols, rank, rl, work, poly, old, copy, M, piv, reg) _ _ _ dX1_holdsUntil_13 rfl (Or.inr ⟨hno, rfl⟩)
  · refine r_iload_n C 1 dX1_holdsUntil_4 rfl ?_
    refine r_aload_n C 0 dX1_holdsUntil_5 rfl ?_
    refine Lg_size C dX1_holdsUntil_6 ?_
    refine r_icmp_leI C 14 dX1_holdsUntil_9 (by decide) (fun hc9 => ?_) (fun hc9 => ?_)
    · obtain ⟨t, ht, rfl⟩ := ix_le (n := size) (by omega) hc1 hc9
      refine r_aload_n C 0 dX1_holdsUntil_14 rfl ?_
      refine r_iload_n C 1 dX1_holdsUntil_15 rfl ?_
      refine r_callv C (ci := 0) (nA := 1) [.int (nI t)] (m_findRegister hq (by omega) hsym) rfl (lw_V q158 q160 qs9 q26 q161) (by decide +kernel) rfl ⟨rfl, rfl⟩ ⟨Nat.le_of_ble_eq_true rfl, Nat.le_of_ble_eq_true rfl⟩ rfl rfl (Nat.le_of_ble_eq_true rfl) dX1_holdsUntil_16 (fun u hu => ?_)
      obtain ⟨wk, P1, B1, K1, M1, pv, rg, L, rk⟩ := u
      obtain ⟨hwk, hLR, hrk, hcnt⟩ := hu
      dsimp only at hwk hLR hrk hcnt ⊢
      have hLk := hLR.1.1
      refine r_iload_n C 1 dX1_holdsUntil_19 rfl ?_
      refine r_istore_n C (lv' := [(0, .ref (ad 0)), (1, .int (nI t)), (2, .int (nI t))]) [1, 2, 0] dX1_holdsUntil_20 (by decide) rfl ?_
      have lp21 : ∀ j, t ≤ j → j ≤ size → ∀ (wv : Nat → Nat), ((∀ i, i < j → wv i = sym i) ∧ ∀ i, t ≤ i → i < j → rsum rg sym i L % q = sym i) → Z (LW ad dB q lim size j (t - L) L rk L sym wv P1 B1 K1 M1 pv rg) [(0, .ref (ad 0)), (1, .int (nI t)), (2, .int (nI j))] 21 [] := by
        refine nd_lo t size ?_ ?_
        · intro wv hI
          show Z (LW ad dB q lim size size (t - L) L rk L sym wv P1 B1 K1 M1 pv rg) [(0, .ref (ad 0)), (1, .int (nI t)), (2, .int (nI size))] 21 []
          refine r_iload_n C 2 dX1_holdsUntil_21 rfl ?_
          refine r_aload_n C 0 dX1_holdsUntil_22 rfl ?_
          refine Lg_size C dX1_holdsUntil_23 ?_
          refine r_icmp_ge C 56 dX1_holdsUntil_26 (by decide) (by omega) (by omega) (fun hc26 => ?_) (fun hc26 => absurd hc26 (by omega))
          refine r_aload_n C 0 dX1_holdsUntil_56 rfl ?_
          refine Lg_size C dX1_holdsUntil_57 ?_
          exact hret (size, (t - L), L, rk, L, wv, P1, B1, K1, M1, pv, rg) _ _ _ dX1_holdsUntil_60 rfl (Or.inl ⟨t, ht, rfl, L, rg, size, hLR, ⟨by omega, Nat.le_refl _, hI.2, fun h => absurd h (by omega)⟩, rfl⟩)
        · intro j hlj hj ih wv hI
          refine r_iload_n C 2 dX1_holdsUntil_21 rfl ?_
          refine r_aload_n C 0 dX1_holdsUntil_22 rfl ?_
          refine Lg_size C dX1_holdsUntil_23 ?_
          refine r_icmp_ge C 56 dX1_holdsUntil_26 (by decide) (by omega) (by omega) (fun hc26 => absurd hc26 (by omega)) (fun hc26 => ?_)
          refine r_aload_n C 0 dX1_holdsUntil_29 rfl ?_
          refine r_callv C (ci := 0) (nA := 0) [] (m_step (by omega) hq5 (by omega) (by omega) (by omega) (fun i h1 h2 => by have := hLR.2.1 i h1 h2; omega) (fun i hi => by rw [hI.1 i hi]; have := hsym i; omega)) rfl (lw_V q194 q196 qs16 q26 q197) (by decide +kernel) rfl ⟨rfl, rfl⟩ ⟨Nat.le_of_ble_eq_true rfl, Nat.le_of_ble_eq_true rfl⟩ rfl rfl (Nat.le_of_ble_eq_true rfl) dX1_holdsUntil_30 (fun u0 hu0 => ?_)
          have hsj : rsum rg wv j L = rsum rg sym j L := rsum_congr L (fun _ _ _ => rfl) (fun i h1 h2 => hI.1 _ (by omega))
          refine r_aload_n C 0 dX1_holdsUntil_33 rfl ?_
          refine Lg_work C dX1_holdsUntil_34 ?_
          refine r_iload_n C 2 dX1_holdsUntil_37 rfl ?_
          refine Ll_work C dX1_holdsUntil_38 (by omega) ?_
          refine r_top (b := rsum rg sym j L % q) (by rw [va_up_self, hsj]) ?_
          refine r_aload_n C 0 dX1_holdsUntil_39 rfl ?_
          refine Lg_symbols C dX1_holdsUntil_40 ?_
          refine r_iload_n C 2 dX1_holdsUntil_43 rfl ?_
          refine Ll_sym C dX1_holdsUntil_44 (by omega) ?_
          refine r_icmp_eq C 50 dX1_holdsUntil_45 (by decide) (by have := Nat.mod_lt (rsum rg sym j L) (show 0 < q by omega); omega) (by have := hsym j; omega) (fun hc45 => ?_) (fun hc45 => ?_)
          · refine r_iinc C (k := 2) (v := (nI (j + 1))) (lv' := [(0, .ref (ad 0)), (1, .int (nI t)), (2, .int (nI (j + 1)))]) [1, 2, 0] dX1_holdsUntil_50 rfl (nI_inc _) (by decide) rfl ?_
            refine r_goto C 21 dX1_holdsUntil_53 (by decide) ?_
            refine ih _ ⟨fun i hi => ?_, fun i h1 h2 => ?_⟩
            · by_cases h : i = j
              · rw [h, va_up_self, hsj]; exact hc45
              · rw [va_up_ne _ _ h]; exact hI.1 i (by omega)
            · rcases Nat.lt_or_ge i j with h | h
              · exact hI.2 i h1 h
              · rw [show i = j by omega]; exact hc45
          · refine r_iload_n C 2 dX1_holdsUntil_48 rfl ?_
            exact hret ((j + 1), (t - L), L, rk, L, (va_up wv j (rsum rg wv j L % q)), P1, B1, K1, M1, pv, rg) _ _ _ dX1_holdsUntil_49 rfl (Or.inl ⟨t, ht, rfl, L, rg, j, hLR, ⟨hlj, by omega, hI.2, fun _ => hc45⟩, rfl⟩)
      exact lp21 t (Nat.le_refl _) (by omega) wk ⟨hwk, fun i h1 h2 => absurd h2 (by omega)⟩
    · have hno := no_nle (n := size) (by omega) hc9
      refine r_iconst C (v := -1) dX1_holdsUntil_12 (by decide) ?_
      exact hret (wsz, rows, cols, rank, rl, work, poly, old, copy, M, piv, reg) _ _ _ dX1_holdsUntil_13 rfl (Or.inr ⟨hno, rfl⟩)
end
section
/-! the private methods of the reference -/
set_option maxRecDepth 100000
set_option maxHeartbeats 4000000 in
theorem mm_rest {l : Launch} {D : va_G} {dI : ClassId} {ad : Nat → Nat} {q lim n : Nat} {s row c : Nat → Nat} {x : Nat} (hq : Q3 q) (hx : x < 2 ^ 31) : MI l D [(dI, .int)] yX2_rest cX2_rest 2 .int (rmk 0) [.ref (ad 0), .int (nI x)] (MW ad dI q lim n s row c) (fun (r : Int32) (u : Unit) => r = nI (x % q)) (fun u => (MW ad dI q lim n s row c)) := by
  refine MI_of RX2 (by decide) rfl (Nat.le_of_ble_eq_true rfl) [(0, .ref (ad 0)), (1, .int (nI x))] rfl ?_
  intro Z C hret
  have hq2 := Q3_2 hq
  have hq5 := Q3_5 hq
  refine r_aload_n C 0 dX2_rest_0 rfl ?_
  refine Mg_q C dX2_rest_1 ?_
  refine r_iconst C (v := nI 2) dX2_rest_4 (by decide) ?_
  refine r_icmp_ne C 14 dX2_rest_5 (by decide) (by omega) (by omega) (fun hc5 => ?_) (fun hc5 => ?_)
  · refine r_aload_n C 0 dX2_rest_14 rfl ?_
    refine Mg_q C dX2_rest_15 ?_
    refine r_iconst C (v := nI 3) dX2_rest_18 (by decide) ?_
    refine r_icmp_ne C 28 dX2_rest_19 (by decide) (by omega) (by omega) (fun hc19 => ?_) (fun hc19 => ?_)
    · have h5 : q = 5 := by rcases hq with h | h | h <;> omega
      refine r_iload_n C 1 dX2_rest_28 rfl ?_
      refine r_iconst C (v := nI 5) dX2_rest_29 (by decide) ?_
      refine r_irem C dX2_rest_30 (by omega) (by omega) (by omega) ?_
      exact hret () _ _ _ dX2_rest_31 rfl (by rw [h5])
    · refine r_iload_n C 1 dX2_rest_22 rfl ?_
      refine r_iconst C (v := nI 3) dX2_rest_23 (by decide) ?_
      refine r_irem C dX2_rest_24 (by omega) (by omega) (by omega) ?_
      refine r_goto C 31 dX2_rest_25 (by decide) ?_
      exact hret () _ _ _ dX2_rest_31 rfl (by rw [hc19])
  · refine r_iload_n C 1 dX2_rest_8 rfl ?_
    refine r_iconst C (v := nI 2) dX2_rest_9 (by decide) ?_
    refine r_irem C dX2_rest_10 (by omega) (by omega) (by omega) ?_
    refine r_goto C 31 dX2_rest_11 (by decide) ?_
    exact hret () _ _ _ dX2_rest_31 rfl (by rw [hc5])
set_option maxHeartbeats 4000000 in
theorem mm_part {l : Launch} {D : va_G} {dI : ClassId} {ad : Nat → Nat} {q lim n : Nat} {s row c : Nat → Nat} {x : Nat} (hq : Q3 q) (hx : x < 2 ^ 31) : MI l D [(dI, .int)] yX2_part cX2_part 2 .int (rmk 0) [.ref (ad 0), .int (nI x)] (MW ad dI q lim n s row c) (fun (r : Int32) (u : Unit) => r = nI (x / q)) (fun u => (MW ad dI q lim n s row c)) := by
  refine MI_of RX2 (by decide) rfl (Nat.le_of_ble_eq_true rfl) [(0, .ref (ad 0)), (1, .int (nI x))] rfl ?_
  intro Z C hret
  have hq2 := Q3_2 hq
  have hq5 := Q3_5 hq
  refine r_aload_n C 0 dX2_part_0 rfl ?_
  refine Mg_q C dX2_part_1 ?_
  refine r_iconst C (v := nI 2) dX2_part_4 (by decide) ?_
  refine r_icmp_ne C 14 dX2_part_5 (by decide) (by omega) (by omega) (fun hc5 => ?_) (fun hc5 => ?_)
  · refine r_aload_n C 0 dX2_part_14 rfl ?_
    refine Mg_q C dX2_part_15 ?_
    refine r_iconst C (v := nI 3) dX2_part_18 (by decide) ?_
    refine r_icmp_ne C 28 dX2_part_19 (by decide) (by omega) (by omega) (fun hc19 => ?_) (fun hc19 => ?_)
    · have h5 : q = 5 := by rcases hq with h | h | h <;> omega
      refine r_iload_n C 1 dX2_part_28 rfl ?_
      refine r_iconst C (v := nI 5) dX2_part_29 (by decide) ?_
      refine r_idiv C dX2_part_30 (by omega) (by omega) (by omega) ?_
      exact hret () _ _ _ dX2_part_31 rfl (by rw [h5])
    · refine r_iload_n C 1 dX2_part_22 rfl ?_
      refine r_iconst C (v := nI 3) dX2_part_23 (by decide) ?_
      refine r_idiv C dX2_part_24 (by omega) (by omega) (by omega) ?_
      refine r_goto C 31 dX2_part_25 (by decide) ?_
      exact hret () _ _ _ dX2_part_31 rfl (by rw [hc19])
  · refine r_iload_n C 1 dX2_part_8 rfl ?_
    refine r_iconst C (v := nI 2) dX2_part_9 (by decide) ?_
    refine r_idiv C dX2_part_10 (by omega) (by omega) (by omega) ?_
    refine r_goto C 31 dX2_part_11 (by decide) ?_
    exact hret () _ _ _ dX2_part_31 rfl (by rw [hc5])
set_option maxHeartbeats 4000000 in
theorem mm_power {l : Launch} {D : va_G} {dI : ClassId} {ad : Nat → Nat} {q lim n : Nat} {s row c : Nat → Nat} {len : Nat} (hl : len < 100) : MI l D [(dI, .int)] yX2_power cX2_power 4 .int (rmk 0) [.ref (ad 0), .int (nI len)] (MW ad dI q lim n s row c) (fun (r : Int32) (u : Unit) => r = nI (q ^ len)) (fun u => (MW ad dI q lim n s row c)) := by
  refine MI_of RX2 (by decide) rfl (Nat.le_of_ble_eq_true rfl) [(0, .ref (ad 0)), (1, .int (nI len))] rfl ?_
  intro Z C hret
  refine r_iconst C (v := nI 1) dX2_power_0 (by decide) ?_
  refine r_istore_n C (lv' := [(0, .ref (ad 0)), (1, .int (nI len)), (2, .int (nI 1))]) [1, 2, 0] dX2_power_1 (by decide) rfl ?_
  refine r_iconst C (v := nI 0) dX2_power_2 (by decide) ?_
  refine r_istore_n C (lv' := [(0, .ref (ad 0)), (1, .int (nI len)), (2, .int (nI 1)), (3, .int (nI 0))]) [1, 2, 3, 0] dX2_power_3 (by decide) rfl ?_
  have lp4 : ∀ i, 0 ≤ i → i ≤ len → Z (MW ad dI q lim n s row c) [(0, .ref (ad 0)), (1, .int (nI len)), (2, .int (nI (q ^ i))), (3, .int (nI i))] 4 [] := by
    refine nd_lo 0 len ?_ ?_
    · show Z (MW ad dI q lim n s row c) [(0, .ref (ad 0)), (1, .int (nI len)), (2, .int (nI (q ^ len))), (3, .int (nI len))] 4 []
      refine r_iload_n C 3 dX2_power_4 rfl ?_
      refine r_iload_n C 1 dX2_power_5 rfl ?_
      refine r_icmp_ge C 22 dX2_power_6 (by decide) (by omega) (by omega) (fun hc6 => ?_) (fun hc6 => absurd hc6 (by omega))
      refine r_iload_n C 2 dX2_power_22 rfl ?_
      exact hret () _ _ _ dX2_power_23 rfl rfl
    · intro i hli hi ih 
      refine r_iload_n C 3 dX2_power_4 rfl ?_
      refine r_iload_n C 1 dX2_power_5 rfl ?_
      refine r_icmp_ge C 22 dX2_power_6 (by decide) (by omega) (by omega) (fun hc6 => absurd hc6 (by omega)) (fun hc6 => ?_)
      refine r_iload_n C 2 dX2_power_9 rfl ?_
      refine r_aload_n C 0 dX2_power_10 rfl ?_
      refine Mg_q C dX2_power_11 ?_
      refine r_imul C dX2_power_14 ?_
      refine r_istore_n C (lv' := [(0, .ref (ad 0)), (1, .int (nI len)), (2, .int (nI ((q ^ i) * q))), (3, .int (nI i))]) [1, 2, 0, 3] dX2_power_15 (by decide) rfl ?_
      refine r_iinc C (k := 3) (v := (nI (i + 1))) (lv' := [(0, .ref (ad 0)), (1, .int (nI len)), (2, .int (nI ((q ^ i) * q))), (3, .int (nI (i + 1)))]) [1, 2, 3, 0] dX2_power_16 rfl (nI_inc _) (by decide) rfl ?_
      refine r_goto C 4 dX2_power_19 (by decide) ?_
      rw [Nat.pow_succ] at ih
      exact ih
  have hz := lp4 0 (by omega) (by omega)
  exact hz
/-- c with a code's digits at 1..len -/
def spW (c : Nat → Nat) (q len code : Nat) : Nat → Nat := fun t => if 1 ≤ t ∧ t ≤ len then spl q len code t else c t
def spI (c : Nat → Nat) (q len code m : Nat) : Nat → Nat := fun t => if len - m < t ∧ t ≤ len then code / q ^ (len - t) % q else c t
theorem spI_0 (c : Nat → Nat) (q len code : Nat) : spI c q len code 0 = c := by
  funext t
  simp only [spI]
  rw [if_neg (by omega)]
theorem spI_e (c : Nat → Nat) (q len code : Nat) : spI c q len code len = spW c q len code := by
  funext t
  simp only [spI, spW, spl, dg]
  by_cases h : 1 ≤ t ∧ t ≤ len
  · rw [if_pos (by omega), if_pos h, show len - 1 - (t - 1) = len - t by omega]
  · rw [if_neg (by omega), if_neg h]
theorem spI_s (c : Nat → Nat) (q len code m : Nat) (h : m < len) : va_up (spI c q len code m) (len - m) (code / q ^ m % q) = spI c q len code (m + 1) := by
  funext t
  simp only [va_up, spI]
  by_cases h1 : t = len - m
  · rw [if_pos h1, if_pos (by omega), show len - t = m by omega]
  · rw [if_neg h1]
    by_cases h2 : len - m < t ∧ t ≤ len
    · rw [if_pos h2, if_pos (by omega)]
    · rw [if_neg h2, if_neg (by omega)]
theorem spW_at {c : Nat → Nat} {q len code t : Nat} (h1 : 1 ≤ t) (h2 : t ≤ len) : spW c q len code t = spl q len code t := by
  unfold spW
  rw [if_pos ⟨h1, h2⟩]
theorem div_part (x q m : Nat) : x / q ^ m / q = x / q ^ (m + 1) := by rw [Nat.div_div_eq_div_mul, Nat.pow_succ]
set_option maxHeartbeats 4000000 in
theorem mm_spell {l : Launch} {D : va_G} {dI : ClassId} {ad : Nat → Nat} {q lim n : Nat} {s row c : Nat → Nat} {code len : Nat} (hq : Q3 q) (hc : code < 2 ^ 31) (hl : len < 14) : MV l D [(dI, .int)] yX2_spell cX2_spell 5 (rmk 1) [.ref (ad 0), .int (nI code), .int (nI len)] (MW ad dI q lim n s row c) (fun (u : Unit) => True) (fun u => (MW ad dI q lim n s row (spW c q len code))) := by
  refine MV_of RX2 (by decide) rfl (Nat.le_of_ble_eq_true rfl) [(0, .ref (ad 0)), (1, .int (nI code)), (2, .int (nI len))] rfl ?_
  intro Z C hret
  have hq2 := Q3_2 hq
  have hq5 := Q3_5 hq
  refine r_iload_n C 1 dX2_spell_0 rfl ?_
  refine r_istore_n C (lv' := [(0, .ref (ad 0)), (1, .int (nI code)), (2, .int (nI len)), (3, .int (nI code))]) [1, 2, 3, 0] dX2_spell_1 (by decide) rfl ?_
  refine r_iload_n C 2 dX2_spell_2 rfl ?_
  refine r_istore C (lv' := [(0, .ref (ad 0)), (1, .int (nI code)), (2, .int (nI len)), (3, .int (nI code)), (4, .int (nI len))]) [1, 2, 3, 4, 0] dX2_spell_3 (by decide) rfl ?_
  have lp5 : ∀ m, 0 ≤ m → m ≤ len → Z (MW ad dI q lim n s row (spI c q len code m)) [(0, .ref (ad 0)), (1, .int (nI code)), (2, .int (nI len)), (3, .int (nI (code / q ^ m))), (4, .int (nI (len - m)))] 5 [] := by
    refine nd_lo 0 len ?_ ?_
    · show Z (MW ad dI q lim n s row (spI c q len code len)) [(0, .ref (ad 0)), (1, .int (nI code)), (2, .int (nI len)), (3, .int (nI (code / q ^ len))), (4, .int (nI (len - len)))] 5 []
      refine r_iload C 4 dX2_spell_5 rfl ?_
      refine r_iconst C (v := nI 1) dX2_spell_7 (by decide) ?_
      refine r_icmp_lt C 35 dX2_spell_8 (by decide) (by omega) (by omega) (fun hc8 => ?_) (fun hc8 => absurd hc8 (by omega))
      rw [spI_e]
      exact hret () _ _ dX2_spell_35 trivial
    · intro m hlm hm ih 
      refine r_iload C 4 dX2_spell_5 rfl ?_
      refine r_iconst C (v := nI 1) dX2_spell_7 (by decide) ?_
      refine r_icmp_lt C 35 dX2_spell_8 (by decide) (by omega) (by omega) (fun hc8 => absurd hc8 (by omega)) (fun hc8 => ?_)
      refine r_aload_n C 0 dX2_spell_11 rfl ?_
      refine Mg_c C dX2_spell_12 ?_
      refine r_iload C 4 dX2_spell_15 rfl ?_
      refine r_aload_n C 0 dX2_spell_17 rfl ?_
      refine r_iload_n C 3 dX2_spell_18 rfl ?_
      refine r_calli C (ci := 1) (nA := 1) [.int (nI (code / q ^ m))] (mm_rest hq (Nat.lt_of_le_of_lt (Nat.div_le_self _ _) hc)) rfl (lw_V q283 q285 qs20 q27 q286) (by decide +kernel) rfl ⟨rfl, rfl⟩ ⟨Nat.le_of_ble_eq_true rfl, Nat.le_of_ble_eq_true rfl⟩ rfl rfl (Nat.le_of_ble_eq_true rfl) dX2_spell_19 (fun r u0 hu => ?_)
      obtain rfl : _ = _ := hu
      refine Ms_c C dX2_spell_22 (by omega) ?_
      refine r_aload_n C 0 dX2_spell_23 rfl ?_
      refine r_iload_n C 3 dX2_spell_24 rfl ?_
      refine r_calli C (ci := 1) (nA := 1) [.int (nI (code / q ^ m))] (mm_part hq (Nat.lt_of_le_of_lt (Nat.div_le_self _ _) hc)) rfl (lw_V q287 q289 qs21 q27 q290) (by decide +kernel) rfl ⟨rfl, rfl⟩ ⟨Nat.le_of_ble_eq_true rfl, Nat.le_of_ble_eq_true rfl⟩ rfl rfl (Nat.le_of_ble_eq_true rfl) dX2_spell_25 (fun r u0 hu => ?_)
      obtain rfl : _ = _ := hu
      refine r_istore_n C (lv' := [(0, .ref (ad 0)), (1, .int (nI code)), (2, .int (nI len)), (3, .int (nI (code / q ^ m / q))), (4, .int (nI (len - m)))]) [1, 2, 3, 0, 4] dX2_spell_28 (by decide) rfl ?_
      refine r_iinc C (k := 4) (v := (nI (len - (m + 1)))) (lv' := [(0, .ref (ad 0)), (1, .int (nI code)), (2, .int (nI len)), (3, .int (nI (code / q ^ m / q))), (4, .int (nI (len - (m + 1))))]) [1, 2, 3, 4, 0] dX2_spell_29 rfl (by rw [show len - m = (len - (m + 1)) + 1 by omega]; exact nI_dec _) (by decide) rfl ?_
      refine r_goto C 5 dX2_spell_32 (by decide) ?_
      rw [spI_s c q len code m hm, div_part]
      exact ih
  have hz := lp5 0 (Nat.le_refl _) (Nat.zero_le _)
  rw [spI_0, Nat.pow_zero, Nat.div_one, Nat.sub_zero] at hz
  exact hz
set_option maxHeartbeats 4000000 in
theorem mm_sum {l : Launch} {D : va_G} {dI : ClassId} {ad : Nat → Nat} {q lim n : Nat} {s row c : Nat → Nat} {j len : Nat} (hq : Q3 q) (hl : len < 14) (hlj : len ≤ j) (hj : j < 60) (hc : ∀ i, 1 ≤ i → i ≤ len → c i < 5) (hr : ∀ t, t < j → row t < 5) : MI l D [(dI, .int)] yX2_sum cX2_sum 5 .int (rmk 1) [.ref (ad 0), .int (nI j), .int (nI len)] (MW ad dI q lim n s row c) (fun (r : Int32) (u : Unit) => r = nI (rsum c row j len % q)) (fun u => (MW ad dI q lim n s row c)) := by
  refine MI_of RX2 (by decide) rfl (Nat.le_of_ble_eq_true rfl) [(0, .ref (ad 0)), (1, .int (nI j)), (2, .int (nI len))] rfl ?_
  intro Z C hret
  have hq2 := Q3_2 hq
  have hq5 := Q3_5 hq
  refine r_iconst C (v := nI 0) dX2_sum_0 (by decide) ?_
  refine r_istore_n C (lv' := [(0, .ref (ad 0)), (1, .int (nI j)), (2, .int (nI len)), (3, .int (nI 0))]) [1, 2, 3, 0] dX2_sum_1 (by decide) rfl ?_
  refine r_iconst C (v := nI 1) dX2_sum_2 (by decide) ?_
  refine r_istore C (lv' := [(0, .ref (ad 0)), (1, .int (nI j)), (2, .int (nI len)), (3, .int (nI 0)), (4, .int (nI 1))]) [1, 2, 3, 4, 0] dX2_sum_3 (by decide) rfl ?_
  have lp5 : ∀ i, 1 ≤ i → i ≤ len + 1 → Z (MW ad dI q lim n s row c) [(0, .ref (ad 0)), (1, .int (nI j)), (2, .int (nI len)), (3, .int (nI (rsum c row j (i - 1)))), (4, .int (nI i))] 5 [] := by
    refine nd_lo 1 (len + 1) ?_ ?_
    · show Z (MW ad dI q lim n s row c) [(0, .ref (ad 0)), (1, .int (nI j)), (2, .int (nI len)), (3, .int (nI (rsum c row j len))), (4, .int (nI (len + 1)))] 5 []
      refine r_iload C 4 dX2_sum_5 rfl ?_
      refine r_iload_n C 2 dX2_sum_7 rfl ?_
      refine r_icmp_gt C 37 dX2_sum_8 (by decide) (by omega) (by omega) (fun hc8 => ?_) (fun hc8 => absurd hc8 (by omega))
      refine r_aload_n C 0 dX2_sum_37 rfl ?_
      refine r_iload_n C 3 dX2_sum_38 rfl ?_
      refine r_calli C (ci := 1) (nA := 1) [.int (nI (rsum c row j len))] (mm_rest hq (by have := rsum_le (c := c) (s := row) (j := j) len hc (fun t h1 h2 => hr _ (by omega)); omega)) rfl (lw_V q283 q285 qs20 q27 q286) (by decide +kernel) rfl ⟨rfl, rfl⟩ ⟨Nat.le_of_ble_eq_true rfl, Nat.le_of_ble_eq_true rfl⟩ rfl rfl (Nat.le_of_ble_eq_true rfl) dX2_sum_39 (fun r u0 hu => ?_)
      obtain rfl : _ = _ := hu
      exact hret () _ _ _ dX2_sum_42 rfl rfl
    · intro i hli hi ih 
      refine r_iload C 4 dX2_sum_5 rfl ?_
      refine r_iload_n C 2 dX2_sum_7 rfl ?_
      refine r_icmp_gt C 37 dX2_sum_8 (by decide) (by omega) (by omega) (fun hc8 => absurd hc8 (by omega)) (fun hc8 => ?_)
      refine r_iload_n C 3 dX2_sum_11 rfl ?_
      refine r_aload_n C 0 dX2_sum_12 rfl ?_
      refine Mg_c C dX2_sum_13 ?_
      refine r_iload C 4 dX2_sum_16 rfl ?_
      refine Ml_c C dX2_sum_18 (by omega) ?_
      refine r_aload_n C 0 dX2_sum_19 rfl ?_
      refine Mg_row C dX2_sum_20 ?_
      refine r_iload_n C 1 dX2_sum_23 rfl ?_
      refine r_iload C 4 dX2_sum_24 rfl ?_
      refine r_isub C dX2_sum_26 (by omega) ?_
      refine Ml_row C dX2_sum_27 (by omega) ?_
      refine r_imul C dX2_sum_28 ?_
      refine r_iadd C dX2_sum_29 ?_
      refine r_istore_n C (lv' := [(0, .ref (ad 0)), (1, .int (nI j)), (2, .int (nI len)), (3, .int (nI ((rsum c row j (i - 1)) + ((c i) * (row (j - i)))))), (4, .int (nI i))]) [1, 2, 3, 0, 4] dX2_sum_30 (by decide) rfl ?_
      refine r_iinc C (k := 4) (v := (nI (i + 1))) (lv' := [(0, .ref (ad 0)), (1, .int (nI j)), (2, .int (nI len)), (3, .int (nI ((rsum c row j (i - 1)) + ((c i) * (row (j - i)))))), (4, .int (nI (i + 1)))]) [1, 2, 3, 4, 0] dX2_sum_31 rfl (nI_inc _) (by decide) rfl ?_
      refine r_goto C 5 dX2_sum_34 (by decide) ?_
      obtain ⟨t, rfl⟩ : ∃ t, i = t + 1 := ⟨i - 1, by omega⟩
      exact ih
  have hz := lp5 1 (Nat.le_refl _) (by omega)
  exact hz
set_option maxHeartbeats 4000000 in
theorem mm_generates {l : Launch} {D : va_G} {dI : ClassId} {ad : Nat → Nat} {q lim n : Nat} {s row c : Nat → Nat} {len k : Nat} (hq : Q3 q) (hl : len < 14) (hlk : len ≤ k) (hk : k < 60) (hc : ∀ i, 1 ≤ i → i ≤ len → c i < 5) (hr : ∀ t, t < k → row t < 5) : MI l D [(dI, .int)] yX2_generates cX2_generates 4 .boolean (rmk 2) [.ref (ad 0), .int (nI len), .int (nI k)] (MW ad dI q lim n s row c) (fun (r : Int32) (u : Unit) => (r = 1 ∧ gen q row k len c) ∨ (r = 0 ∧ ¬ gen q row k len c)) (fun u => (MW ad dI q lim n s row c)) := by
  refine MI_of RX2 (by decide) rfl (Nat.le_of_ble_eq_true rfl) [(0, .ref (ad 0)), (1, .int (nI len)), (2, .int (nI k))] rfl ?_
  intro Z C hret
  have hq2 := Q3_2 hq
  have hq5 := Q3_5 hq
  refine r_iload_n C 1 dX2_generates_0 rfl ?_
  refine r_istore_n C (lv' := [(0, .ref (ad 0)), (1, .int (nI len)), (2, .int (nI k)), (3, .int (nI len))]) [1, 2, 3, 0] dX2_generates_1 (by decide) rfl ?_
  have lp2 : ∀ j, len ≤ j → j ≤ k → (∀ i, len ≤ i → i < j → rsum c row i len % q = row i) → Z (MW ad dI q lim n s row c) [(0, .ref (ad 0)), (1, .int (nI len)), (2, .int (nI k)), (3, .int (nI j))] 2 [] := by
    refine nd_lo len k ?_ ?_
    · intro hI
      show Z (MW ad dI q lim n s row c) [(0, .ref (ad 0)), (1, .int (nI len)), (2, .int (nI k)), (3, .int (nI k))] 2 []
      refine r_iload_n C 3 dX2_generates_2 rfl ?_
      refine r_iload_n C 2 dX2_generates_3 rfl ?_
      refine r_icmp_ge C 30 dX2_generates_4 (by decide) (by omega) (by omega) (fun hc4 => ?_) (fun hc4 => absurd hc4 (by omega))
      refine r_iconst C (v := nI 1) dX2_generates_30 (by decide) ?_
      exact hret () _ _ _ dX2_generates_31 rfl (Or.inl ⟨by decide, hI⟩)
    · intro j hlj hj ih hI
      refine r_iload_n C 3 dX2_generates_2 rfl ?_
      refine r_iload_n C 2 dX2_generates_3 rfl ?_
      refine r_icmp_ge C 30 dX2_generates_4 (by decide) (by omega) (by omega) (fun hc4 => absurd hc4 (by omega)) (fun hc4 => ?_)
      refine r_aload_n C 0 dX2_generates_7 rfl ?_
      refine r_iload_n C 3 dX2_generates_8 rfl ?_
      refine r_iload_n C 1 dX2_generates_9 rfl ?_
      refine r_calli C (ci := 1) (nA := 2) [.int (nI j), .int (nI len)] (mm_sum hq hl hlj (by omega) hc (fun t ht => hr t (by omega))) rfl (lw_V q295 q297 qs23 q27 q298) (by decide +kernel) rfl ⟨rfl, rfl⟩ ⟨Nat.le_of_ble_eq_true rfl, Nat.le_of_ble_eq_true rfl⟩ rfl rfl (Nat.le_of_ble_eq_true rfl) dX2_generates_10 (fun r u0 hu => ?_)
      obtain rfl : _ = _ := hu
      refine r_aload_n C 0 dX2_generates_13 rfl ?_
      refine Mg_row C dX2_generates_14 ?_
      refine r_iload_n C 3 dX2_generates_17 rfl ?_
      refine Ml_row C dX2_generates_18 (by omega) ?_
      refine r_icmp_eq C 24 dX2_generates_19 (by decide) (by have := Nat.mod_lt (rsum c row j len) (show 0 < q by omega); omega) (by have := hr j (by omega); omega) (fun hc19 => ?_) (fun hc19 => ?_)
      · refine r_iinc C (k := 3) (v := (nI (j + 1))) (lv' := [(0, .ref (ad 0)), (1, .int (nI len)), (2, .int (nI k)), (3, .int (nI (j + 1)))]) [1, 2, 3, 0] dX2_generates_24 rfl (nI_inc _) (by decide) rfl ?_
        refine r_goto C 2 dX2_generates_27 (by decide) ?_
        exact ih (fun i h1 h2 => by rcases Nat.lt_or_ge i j with h | h; exact hI i h1 h; rw [show i = j by omega]; exact hc19)
      · refine r_iconst C (v := nI 0) dX2_generates_22 (by decide) ?_
        exact hret () _ _ _ dX2_generates_23 rfl (Or.inr ⟨by decide, fun h => hc19 (h j hlj (by omega))⟩)
  exact lp2 len (Nat.le_refl _) hlk (fun i h1 h2 => absurd h2 (by omega))
set_option maxHeartbeats 4000000 in
theorem mm_least {l : Launch} {D : va_G} {dI : ClassId} {ad : Nat → Nat} {q lim n : Nat} {s row c : Nat → Nat} {k : Nat} (hq : Q3 q) (hk : k < 14) (hpw : ∀ t, t ≤ k → q ^ t < 100000) (hr : ∀ t, t < k → row t < 5) : MI l D [(dI, .int)] yX2_least cX2_least 5 .int (rmk 3) [.ref (ad 0), .int (nI k)] (MW ad dI q lim n s row c) (fun (r : Int32) (u : Nat → Nat) => ∃ L, r = nI L ∧ LR q row k L u) (fun u => (MW ad dI q lim n s row u)) := by
  refine MI_of RX2 (by decide) rfl (Nat.le_of_ble_eq_true rfl) [(0, .ref (ad 0)), (1, .int (nI k))] rfl ?_
  intro Z C hret
  have hq2 := Q3_2 hq
  have hq5 := Q3_5 hq
  refine r_iconst C (v := nI 0) dX2_least_0 (by decide) ?_
  refine r_istore_n C (lv' := [(0, .ref (ad 0)), (1, .int (nI k)), (2, .int (nI 0))]) [1, 2, 0] dX2_least_1 (by decide) rfl ?_
  have lp2 : ∀ len, 0 ≤ len → len ≤ k → ∀ (cc : Nat → Nat), (∀ L, L < len → ∀ code, code < q ^ L → ¬ gen q row k L (spl q L code)) → Z (MW ad dI q lim n s row cc) [(0, .ref (ad 0)), (1, .int (nI k)), (2, .int (nI len))] 2 [] := by
    refine nd_lo 0 k ?_ ?_
    · intro cc hI
      show Z (MW ad dI q lim n s row cc) [(0, .ref (ad 0)), (1, .int (nI k)), (2, .int (nI k))] 2 []
      refine r_iload_n C 2 dX2_least_2 rfl ?_
      refine r_iload_n C 1 dX2_least_3 rfl ?_
      refine r_icmp_ge C 52 dX2_least_4 (by decide) (by omega) (by omega) (fun hc4 => ?_) (fun hc4 => absurd hc4 (by omega))
      refine r_aload_n C 0 dX2_least_52 rfl ?_
      refine r_iconst C (v := nI 0) dX2_least_53 (by decide) ?_
      refine r_iload_n C 1 dX2_least_54 rfl ?_
      refine r_callv C (ci := 1) (nA := 2) [.int (nI 0), .int (nI k)] (mm_spell hq (by decide) (by omega)) rfl (lw_V q279 q281 qs19 q27 q282) (by decide +kernel) rfl ⟨rfl, rfl⟩ ⟨Nat.le_of_ble_eq_true rfl, Nat.le_of_ble_eq_true rfl⟩ rfl rfl (Nat.le_of_ble_eq_true rfl) dX2_least_55 (fun u0 hu => ?_)
      refine r_iload_n C 1 dX2_least_58 rfl ?_
      exact hret (spW cc q k 0) _ _ _ dX2_least_59 rfl ⟨k, rfl, LR_congr (fun _ _ => rfl) (fun i h1 h2 => (spW_at h1 h2).symm) (ref_LR (by omega) (Nat.le_refl _) hI (Nat.pow_pos (by omega)) (fun j h1 h2 => absurd h1 (by omega)) (fun code h => absurd h (by omega)))⟩
    · intro len hllen hlen ih cc hI
      have hIo := hI
      clear hI
      refine r_iload_n C 2 dX2_least_2 rfl ?_
      refine r_iload_n C 1 dX2_least_3 rfl ?_
      refine r_icmp_ge C 52 dX2_least_4 (by decide) (by omega) (by omega) (fun hc4 => absurd hc4 (by omega)) (fun hc4 => ?_)
      refine r_aload_n C 0 dX2_least_7 rfl ?_
      refine r_iload_n C 2 dX2_least_8 rfl ?_
      refine r_calli C (ci := 1) (nA := 1) [.int (nI len)] (mm_power (by omega)) rfl (lw_V q275 q277 qs18 q27 q278) (by decide +kernel) rfl ⟨rfl, rfl⟩ ⟨Nat.le_of_ble_eq_true rfl, Nat.le_of_ble_eq_true rfl⟩ rfl rfl (Nat.le_of_ble_eq_true rfl) dX2_least_9 (fun r u0 hu => ?_)
      obtain rfl : _ = _ := hu
      refine r_istore_n C (lv' := [(0, .ref (ad 0)), (1, .int (nI k)), (2, .int (nI len)), (3, .int (nI (q ^ len)))]) [1, 2, 3, 0] dX2_least_12 (by decide) rfl ?_
      refine r_iconst C (v := nI 0) dX2_least_13 (by decide) ?_
      refine r_istore C (lv' := [(0, .ref (ad 0)), (1, .int (nI k)), (2, .int (nI len)), (3, .int (nI (q ^ len))), (4, .int (nI 0))]) [1, 2, 3, 4, 0] dX2_least_14 (by decide) rfl ?_
      have lp16 : ∀ code, 0 ≤ code → code ≤ q ^ len → ∀ (cd : Nat → Nat), (∀ code2, code2 < code → ¬ gen q row k len (spl q len code2)) → Z (MW ad dI q lim n s row cd) [(0, .ref (ad 0)), (1, .int (nI k)), (2, .int (nI len)), (3, .int (nI (q ^ len))), (4, .int (nI code))] 16 [] := by
        refine nd_lo 0 (q ^ len) ?_ ?_
        · intro cd hI
          show Z (MW ad dI q lim n s row cd) [(0, .ref (ad 0)), (1, .int (nI k)), (2, .int (nI len)), (3, .int (nI (q ^ len))), (4, .int (nI (q ^ len)))] 16 []
          refine r_iload C 4 dX2_least_16 rfl ?_
          refine r_iload_n C 3 dX2_least_18 rfl ?_
          refine r_icmp_ge C 46 dX2_least_19 (by decide) (by have := hpw len (by omega); omega) (by have := hpw len (by omega); omega) (fun hc19 => ?_) (fun hc19 => absurd hc19 (by omega))
          refine r_iinc C (k := 2) (v := (nI (len + 1))) (lv' := [(0, .ref (ad 0)), (1, .int (nI k)), (2, .int (nI (len + 1))), (3, .int (nI (q ^ len))), (4, .int (nI (q ^ len)))]) [1, 2, 0, 3, 4] dX2_least_46 rfl (nI_inc _) (by decide) rfl ?_
          refine r_goto C 2 dX2_least_49 (by decide) ?_
          refine r_fewer C [0, 1, 2] rfl ?_
          exact ih _ (fun L hL => by rcases Nat.lt_or_ge L len with h | h; exact hIo L h; rw [show L = len by omega]; exact hI)
        · intro code hlcode hcode ih2 cd hI
          refine r_iload C 4 dX2_least_16 rfl ?_
          refine r_iload_n C 3 dX2_least_18 rfl ?_
          refine r_icmp_ge C 46 dX2_least_19 (by decide) (by have := hpw len (by omega); omega) (by have := hpw len (by omega); omega) (fun hc19 => absurd hc19 (by omega)) (fun hc19 => ?_)
          refine r_aload_n C 0 dX2_least_22 rfl ?_
          refine r_iload C 4 dX2_least_23 rfl ?_
          refine r_iload_n C 2 dX2_least_25 rfl ?_
          refine r_callv C (ci := 1) (nA := 2) [.int (nI code), .int (nI len)] (mm_spell hq (by have := hpw len (by omega); omega) (by omega)) rfl (lw_V q279 q281 qs19 q27 q282) (by decide +kernel) rfl ⟨rfl, rfl⟩ ⟨Nat.le_of_ble_eq_true rfl, Nat.le_of_ble_eq_true rfl⟩ rfl rfl (Nat.le_of_ble_eq_true rfl) dX2_least_26 (fun u0 hu => ?_)
          refine r_aload_n C 0 dX2_least_29 rfl ?_
          refine r_iload_n C 2 dX2_least_30 rfl ?_
          refine r_iload_n C 1 dX2_least_31 rfl ?_
          refine r_calli C (ci := 1) (nA := 2) [.int (nI len), .int (nI k)] (mm_generates hq (by omega) (by omega) (by omega) (fun i h1 h2 => by rw [spW_at h1 h2]; have := dg_lt (q := q) (n := len) (code := code) (b := i - 1) (by omega); unfold spl; omega) hr) rfl (lw_V q291 q293 qs22 q27 q294) (by decide +kernel) rfl ⟨rfl, rfl⟩ ⟨Nat.le_of_ble_eq_true rfl, Nat.le_of_ble_eq_true rfl⟩ rfl rfl (Nat.le_of_ble_eq_true rfl) dX2_least_32 (fun r u0 hu => ?_)
          rcases hu with ⟨rfl, hg⟩ | ⟨rfl, hg⟩
          · refine r_if_eqI C 40 dX2_least_35 (by decide) (fun hc35 => absurd hc35 (by decide)) (fun hc35 => ?_)
            refine r_iload_n C 2 dX2_least_38 rfl ?_
            exact hret (spW cd q len code) _ _ _ dX2_least_39 rfl ⟨len, rfl, LR_congr (fun _ _ => rfl) (fun i h1 h2 => (spW_at h1 h2).symm) (ref_LR (by omega) (by omega) hIo hcode (gen_congr (fun i h1 h2 => spW_at h1 h2) (fun _ _ => rfl) hg) hI)⟩
          · refine r_if_eqI C 40 dX2_least_35 (by decide) (fun hc35 => ?_) (fun hc35 => absurd hc35 (fun h => h rfl))
            refine r_iinc C (k := 4) (v := (nI (code + 1))) (lv' := [(0, .ref (ad 0)), (1, .int (nI k)), (2, .int (nI len)), (3, .int (nI (q ^ len))), (4, .int (nI (code + 1)))]) [1, 2, 3, 4, 0] dX2_least_40 rfl (nI_inc _) (by decide) rfl ?_
            refine r_goto C 16 dX2_least_43 (by decide) ?_
            exact ih2 _ (fun code2 h2 => by rcases Nat.lt_or_ge code2 code with h | h; exact hI code2 h; rw [show code2 = code by omega]; exact fun h3 => hg (gen_congr (fun i h1 h2 => (spW_at h1 h2).symm) (fun _ _ => rfl) h3))
      exact lp16 0 (Nat.le_refl _) (Nat.zero_le _) cc (fun code h => absurd h (by omega))
  exact lp2 0 (Nat.le_refl _) (Nat.zero_le _) c (fun L hL => absurd hL (by omega))
set_option maxHeartbeats 4000000 in
theorem mm_whole {l : Launch} {D : va_G} {dI : ClassId} {ad : Nat → Nat} {q lim n : Nat} {s row c : Nat → Nat}  (hn : n ≤ 12) : MV l D [(dI, .int)] yX2_whole cX2_whole 2 (rmk 0) [.ref (ad 0)] (MW ad dI q lim n s row c) (fun (u : Unit) => True) (fun u => (MW ad dI q lim n s (cpF s row n) c)) := by
  refine MV_of RX2 (by decide) rfl (Nat.le_of_ble_eq_true rfl) [(0, .ref (ad 0))] rfl ?_
  intro Z C hret
  refine r_iconst C (v := nI 0) dX2_whole_0 (by decide) ?_
  refine r_istore_n C (lv' := [(0, .ref (ad 0)), (1, .int (nI 0))]) [1, 0] dX2_whole_1 (by decide) rfl ?_
  have lp2 : ∀ i, 0 ≤ i → i ≤ n → Z (MW ad dI q lim n s (cpF s row i) c) [(0, .ref (ad 0)), (1, .int (nI i))] 2 [] := by
    refine nd_lo 0 n ?_ ?_
    · show Z (MW ad dI q lim n s (cpF s row n) c) [(0, .ref (ad 0)), (1, .int (nI n))] 2 []
      refine r_iload_n C 1 dX2_whole_2 rfl ?_
      refine r_aload_n C 0 dX2_whole_3 rfl ?_
      refine Mg_n C dX2_whole_4 ?_
      refine r_icmp_ge C 28 dX2_whole_7 (by decide) (by omega) (by omega) (fun hc7 => ?_) (fun hc7 => absurd hc7 (by omega))
      exact hret () _ _ dX2_whole_28 trivial
    · intro i hli hi ih 
      refine r_iload_n C 1 dX2_whole_2 rfl ?_
      refine r_aload_n C 0 dX2_whole_3 rfl ?_
      refine Mg_n C dX2_whole_4 ?_
      refine r_icmp_ge C 28 dX2_whole_7 (by decide) (by omega) (by omega) (fun hc7 => absurd hc7 (by omega)) (fun hc7 => ?_)
      refine r_aload_n C 0 dX2_whole_10 rfl ?_
      refine Mg_row C dX2_whole_11 ?_
      refine r_iload_n C 1 dX2_whole_14 rfl ?_
      refine r_aload_n C 0 dX2_whole_15 rfl ?_
      refine Mg_s C dX2_whole_16 ?_
      refine r_iload_n C 1 dX2_whole_19 rfl ?_
      refine Ml_s C dX2_whole_20 (by omega) ?_
      refine Ms_row C dX2_whole_21 (by omega) ?_
      refine r_iinc C (k := 1) (v := (nI (i + 1))) (lv' := [(0, .ref (ad 0)), (1, .int (nI (i + 1)))]) [1, 0] dX2_whole_22 rfl (nI_inc _) (by decide) rfl ?_
      refine r_goto C 2 dX2_whole_25 (by decide) ?_
      rw [cpF_s]
      exact ih
  have hz := lp2 0 (by omega) (by omega)
  rw [cpF_0] at hz
  exact hz
end
section
/-! the public methods of the reference -/
set_option maxRecDepth 100000
set_option maxHeartbeats 4000000 in
theorem mm_modulus {l : Launch} {D : va_G} {dI : ClassId} {ad : Nat → Nat} {q lim n : Nat} {s row c : Nat → Nat}  (hq : Q3 q) (hsl : n ≤ lim) (hlim : lim ≤ 12) (hs : ∀ j, s j < q) (hpw : ∀ t, t ≤ lim + 1 → q ^ t < 100000) : MI l D [(dI, .int)] yX2_modulus cX2_modulus 1 .int (rmk 4) [.ref (ad 0)] (MW ad dI q lim n s row c) (fun (r : Int32) (u : (Nat → Nat) × (Nat → Nat)) => r = nI q) (fun u => (MW ad dI q lim n s u.1 u.2)) := by
  refine MI_of RX2 (by decide) rfl (Nat.le_of_ble_eq_true rfl) [(0, .ref (ad 0))] rfl ?_
  intro Z C hret
  refine r_aload_n C 0 dX2_modulus_0 rfl ?_
  refine Mg_q C dX2_modulus_1 ?_
  exact hret (row, c) _ _ _ dX2_modulus_4 rfl rfl
set_option maxHeartbeats 4000000 in
theorem mm_length {l : Launch} {D : va_G} {dI : ClassId} {ad : Nat → Nat} {q lim n : Nat} {s row c : Nat → Nat}  (hq : Q3 q) (hsl : n ≤ lim) (hlim : lim ≤ 12) (hs : ∀ j, s j < q) (hpw : ∀ t, t ≤ lim + 1 → q ^ t < 100000) : MI l D [(dI, .int)] yX2_length cX2_length 1 .int (rmk 4) [.ref (ad 0)] (MW ad dI q lim n s row c) (fun (r : Int32) (u : (Nat → Nat) × (Nat → Nat)) => r = nI n) (fun u => (MW ad dI q lim n s u.1 u.2)) := by
  refine MI_of RX2 (by decide) rfl (Nat.le_of_ble_eq_true rfl) [(0, .ref (ad 0))] rfl ?_
  intro Z C hret
  refine r_aload_n C 0 dX2_length_0 rfl ?_
  refine Mg_n C dX2_length_1 ?_
  exact hret (row, c) _ _ _ dX2_length_4 rfl rfl
set_option maxHeartbeats 4000000 in
theorem mm_clear {l : Launch} {D : va_G} {dI : ClassId} {ad : Nat → Nat} {q lim n : Nat} {s row c : Nat → Nat}  (hq : Q3 q) (hsl : n ≤ lim) (hlim : lim ≤ 12) (hs : ∀ j, s j < q) (hpw : ∀ t, t ≤ lim + 1 → q ^ t < 100000) : MV l D [(dI, .int)] yX2_clear cX2_clear 1 (rmk 4) [.ref (ad 0)] (MW ad dI q lim n s row c) (fun (u : (Nat → Nat) × (Nat → Nat)) => True) (fun u => (MW ad dI q lim 0 s u.1 u.2)) := by
  refine MV_of RX2 (by decide) rfl (Nat.le_of_ble_eq_true rfl) [(0, .ref (ad 0))] rfl ?_
  intro Z C hret
  refine r_aload_n C 0 dX2_clear_0 rfl ?_
  refine r_iconst C (v := nI 0) dX2_clear_1 (by decide) ?_
  refine Mp_n C dX2_clear_2 ?_
  exact hret (row, c) _ _ dX2_clear_5 trivial
set_option maxHeartbeats 4000000 in
theorem mm_append {l : Launch} {D : va_G} {dI : ClassId} {ad : Nat → Nat} {q lim n : Nat} {s row c : Nat → Nat} {v : Int32} (hq : Q3 q) (hsl : n ≤ lim) (hlim : lim ≤ 12) (hs : ∀ j, s j < q) (hpw : ∀ t, t ≤ lim + 1 → q ^ t < 100000) : MI l D [(dI, .int)] yX2_append cX2_append 2 .boolean (rmk 4) [.ref (ad 0), .int v] (MW ad dI q lim n s row c) (fun (r : Int32) (u : Nat × (Nat → Nat)) => AApp q lim n s v r u) (fun u => (MW ad dI q lim u.1 u.2 row c)) := by
  refine MI_of RX2 (by decide) rfl (Nat.le_of_ble_eq_true rfl) [(0, .ref (ad 0)), (1, .int v)] rfl ?_
  intro Z C hret
  have hq2 := Q3_2 hq
  have hq5 := Q3_5 hq
  refine r_iload_n C 1 dX2_append_0 rfl ?_
  refine r_if_ltI C 23 dX2_append_1 (by decide) (fun hc1 => ?_) (fun hc1 => ?_)
  · have hno : ¬ Ix q v ∨ lim ≤ n := Or.inl (no_neg (by omega) hc1)
    refine r_iconst C (v := nI 0) dX2_append_23 (by decide) ?_
    exact hret (n, s) _ _ _ dX2_append_24 rfl (Or.inr ⟨hno, by decide, rfl⟩)
  · refine r_iload_n C 1 dX2_append_4 rfl ?_
    refine r_aload_n C 0 dX2_append_5 rfl ?_
    refine Mg_q C dX2_append_6 ?_
    refine r_icmp_geI C 23 dX2_append_9 (by decide) (fun hc9 => ?_) (fun hc9 => ?_)
    · have hno : ¬ Ix q v ∨ lim ≤ n := Or.inl (no_ge (by omega) hc9)
      refine r_iconst C (v := nI 0) dX2_append_23 (by decide) ?_
      exact hret (n, s) _ _ _ dX2_append_24 rfl (Or.inr ⟨hno, by decide, rfl⟩)
    · obtain ⟨t, ht, rfl⟩ := ix_of (by omega) hc1 hc9
      refine r_aload_n C 0 dX2_append_12 rfl ?_
      refine Mg_n C dX2_append_13 ?_
      refine r_aload_n C 0 dX2_append_16 rfl ?_
      refine Mg_limit C dX2_append_17 ?_
      refine r_icmp_lt C 25 dX2_append_20 (by decide) (by omega) (by omega) (fun hc20 => ?_) (fun hc20 => ?_)
      · refine r_aload_n C 0 dX2_append_25 rfl ?_
        refine Mg_s C dX2_append_26 ?_
        refine r_aload_n C 0 dX2_append_29 rfl ?_
        refine Mg_n C dX2_append_30 ?_
        refine r_iload_n C 1 dX2_append_33 rfl ?_
        refine Ms_s C dX2_append_34 (by omega) ?_
        refine r_aload_n C 0 dX2_append_35 rfl ?_
        refine r_dup C dX2_append_36 ?_
        refine Mg_n C dX2_append_37 ?_
        refine r_iconst C (v := nI 1) dX2_append_40 (by decide) ?_
        refine r_iadd C dX2_append_41 ?_
        refine Mp_n C dX2_append_42 ?_
        refine r_iconst C (v := nI 1) dX2_append_45 (by decide) ?_
        exact hret (n + 1, va_up s n t) _ _ _ dX2_append_46 rfl (Or.inl ⟨t, ht, rfl, hc20, by decide, rfl⟩)
      · have hno : ¬ Ix q (nI t) ∨ lim ≤ n := Or.inr hc20
        refine r_iconst C (v := nI 0) dX2_append_23 (by decide) ?_
        exact hret (n, s) _ _ _ dX2_append_24 rfl (Or.inr ⟨hno, by decide, rfl⟩)
set_option maxHeartbeats 4000000 in
theorem mm_drop {l : Launch} {D : va_G} {dI : ClassId} {ad : Nat → Nat} {q lim n : Nat} {s row c : Nat → Nat}  (hq : Q3 q) (hsl : n ≤ lim) (hlim : lim ≤ 12) (hs : ∀ j, s j < q) (hpw : ∀ t, t ≤ lim + 1 → q ^ t < 100000) : MI l D [(dI, .int)] yX2_drop cX2_drop 1 .int (rmk 4) [.ref (ad 0)] (MW ad dI q lim n s row c) (fun (r : Int32) (u : Nat) => ADrop n s r u) (fun u => (MW ad dI q lim u s row c)) := by
  refine MI_of RX2 (by decide) rfl (Nat.le_of_ble_eq_true rfl) [(0, .ref (ad 0))] rfl ?_
  intro Z C hret
  have hq2 := Q3_2 hq
  have hq5 := Q3_5 hq
  refine r_aload_n C 0 dX2_drop_0 rfl ?_
  refine Mg_n C dX2_drop_1 ?_
  refine r_if_ne C 9 dX2_drop_4 (by decide) (by omega) (fun hc4 => ?_) (fun hc4 => ?_)
  · refine r_aload_n C 0 dX2_drop_9 rfl ?_
    refine r_dup C dX2_drop_10 ?_
    refine Mg_n C dX2_drop_11 ?_
    refine r_iconst C (v := nI 1) dX2_drop_14 (by decide) ?_
    refine r_isub C dX2_drop_15 (by omega) ?_
    refine Mp_n C dX2_drop_16 ?_
    refine r_aload_n C 0 dX2_drop_19 rfl ?_
    refine Mg_s C dX2_drop_20 ?_
    refine r_aload_n C 0 dX2_drop_23 rfl ?_
    refine Mg_n C dX2_drop_24 ?_
    refine Ml_s C dX2_drop_27 (by omega) ?_
    exact hret (n - 1) _ _ _ dX2_drop_28 rfl (Or.inr ⟨by omega, rfl, rfl⟩)
  · subst hc4
    refine r_iconst C (v := -1) dX2_drop_7 (by decide) ?_
    exact hret 0 _ _ _ dX2_drop_8 rfl (Or.inl ⟨rfl, rfl, rfl⟩)
set_option maxHeartbeats 4000000 in
theorem mm_change {l : Launch} {D : va_G} {dI : ClassId} {ad : Nat → Nat} {q lim n : Nat} {s row c : Nat → Nat} {k v : Int32} (hq : Q3 q) (hsl : n ≤ lim) (hlim : lim ≤ 12) (hs : ∀ j, s j < q) (hpw : ∀ t, t ≤ lim + 1 → q ^ t < 100000) : MI l D [(dI, .int)] yX2_change cX2_change 3 .boolean (rmk 4) [.ref (ad 0), .int k, .int v] (MW ad dI q lim n s row c) (fun (r : Int32) (u : Nat → Nat) => AChg q n s k v r u) (fun u => (MW ad dI q lim n u row c)) := by
  refine MI_of RX2 (by decide) rfl (Nat.le_of_ble_eq_true rfl) [(0, .ref (ad 0)), (1, .int k), (2, .int v)] rfl ?_
  intro Z C hret
  have hq2 := Q3_2 hq
  have hq5 := Q3_5 hq
  refine r_iload_n C 1 dX2_change_0 rfl ?_
  refine r_if_ltI C 24 dX2_change_1 (by decide) (fun hc1 => ?_) (fun hc1 => ?_)
  · have hno : ¬ Ix n k ∨ ¬ Ix q v := Or.inl (no_neg (by omega) hc1)
    refine r_iconst C (v := nI 0) dX2_change_24 (by decide) ?_
    exact hret s _ _ _ dX2_change_25 rfl (Or.inr ⟨hno, by decide, rfl⟩)
  · refine r_iload_n C 1 dX2_change_4 rfl ?_
    refine r_aload_n C 0 dX2_change_5 rfl ?_
    refine Mg_n C dX2_change_6 ?_
    refine r_icmp_geI C 24 dX2_change_9 (by decide) (fun hc9 => ?_) (fun hc9 => ?_)
    · have hno : ¬ Ix n k ∨ ¬ Ix q v := Or.inl (no_ge (by omega) hc9)
      refine r_iconst C (v := nI 0) dX2_change_24 (by decide) ?_
      exact hret s _ _ _ dX2_change_25 rfl (Or.inr ⟨hno, by decide, rfl⟩)
    · obtain ⟨a, ha, rfl⟩ := ix_of (by omega) hc1 hc9
      refine r_iload_n C 2 dX2_change_12 rfl ?_
      refine r_if_ltI C 24 dX2_change_13 (by decide) (fun hc13 => ?_) (fun hc13 => ?_)
      · have hno : ¬ Ix n (nI a) ∨ ¬ Ix q v := Or.inr (no_neg (by omega) hc13)
        refine r_iconst C (v := nI 0) dX2_change_24 (by decide) ?_
        exact hret s _ _ _ dX2_change_25 rfl (Or.inr ⟨hno, by decide, rfl⟩)
      · refine r_iload_n C 2 dX2_change_16 rfl ?_
        refine r_aload_n C 0 dX2_change_17 rfl ?_
        refine Mg_q C dX2_change_18 ?_
        refine r_icmp_ltI C 26 dX2_change_21 (by decide) (fun hc21 => ?_) (fun hc21 => ?_)
        · obtain ⟨t, ht, rfl⟩ := ix_lt (by omega) hc13 hc21
          refine r_aload_n C 0 dX2_change_26 rfl ?_
          refine Mg_s C dX2_change_27 ?_
          refine r_iload_n C 1 dX2_change_30 rfl ?_
          refine r_iload_n C 2 dX2_change_31 rfl ?_
          refine Ms_s C dX2_change_32 (by omega) ?_
          refine r_iconst C (v := nI 1) dX2_change_33 (by decide) ?_
          exact hret (va_up s a t) _ _ _ dX2_change_34 rfl (Or.inl ⟨a, t, ha, ht, rfl, rfl, by decide, rfl⟩)
        · have hno : ¬ Ix n (nI a) ∨ ¬ Ix q v := Or.inr (no_nlt (by omega) hc21)
          refine r_iconst C (v := nI 0) dX2_change_24 (by decide) ?_
          exact hret s _ _ _ dX2_change_25 rfl (Or.inr ⟨hno, by decide, rfl⟩)
set_option maxHeartbeats 4000000 in
theorem mm_symbol {l : Launch} {D : va_G} {dI : ClassId} {ad : Nat → Nat} {q lim n : Nat} {s row c : Nat → Nat} {k : Int32} (hq : Q3 q) (hsl : n ≤ lim) (hlim : lim ≤ 12) (hs : ∀ j, s j < q) (hpw : ∀ t, t ≤ lim + 1 → q ^ t < 100000) : MI l D [(dI, .int)] yX2_symbol cX2_symbol 2 .int (rmk 4) [.ref (ad 0), .int k] (MW ad dI q lim n s row c) (fun (r : Int32) (u : (Nat → Nat) × (Nat → Nat)) => ASym n s k r) (fun u => (MW ad dI q lim n s u.1 u.2)) := by
  refine MI_of RX2 (by decide) rfl (Nat.le_of_ble_eq_true rfl) [(0, .ref (ad 0)), (1, .int k)] rfl ?_
  intro Z C hret
  have hq2 := Q3_2 hq
  have hq5 := Q3_5 hq
  refine r_iload_n C 1 dX2_symbol_0 rfl ?_
  refine r_if_ltI C 12 dX2_symbol_1 (by decide) (fun hc1 => ?_) (fun hc1 => ?_)
  · have hno := no_neg (n := n) (by omega) hc1
    refine r_iconst C (v := -1) dX2_symbol_12 (by decide) ?_
    refine r_goto C 22 dX2_symbol_13 (by decide) ?_
    exact hret (row, c) _ _ _ dX2_symbol_22 rfl (Or.inr ⟨hno, rfl⟩)
  · refine r_iload_n C 1 dX2_symbol_4 rfl ?_
    refine r_aload_n C 0 dX2_symbol_5 rfl ?_
    refine Mg_n C dX2_symbol_6 ?_
    refine r_icmp_ltI C 16 dX2_symbol_9 (by decide) (fun hc9 => ?_) (fun hc9 => ?_)
    · obtain ⟨a, ha, rfl⟩ := ix_lt (by omega) hc1 hc9
      refine r_aload_n C 0 dX2_symbol_16 rfl ?_
      refine Mg_s C dX2_symbol_17 ?_
      refine r_iload_n C 1 dX2_symbol_20 rfl ?_
      refine Ml_s C dX2_symbol_21 (by omega) ?_
      exact hret (row, c) _ _ _ dX2_symbol_22 rfl (Or.inl ⟨a, ha, rfl, rfl⟩)
    · have hno := no_nlt (n := n) (by omega) hc9
      refine r_iconst C (v := -1) dX2_symbol_12 (by decide) ?_
      refine r_goto C 22 dX2_symbol_13 (by decide) ?_
      exact hret (row, c) _ _ _ dX2_symbol_22 rfl (Or.inr ⟨hno, rfl⟩)
set_option maxHeartbeats 4000000 in
theorem mm_complexity {l : Launch} {D : va_G} {dI : ClassId} {ad : Nat → Nat} {q lim n : Nat} {s row c : Nat → Nat} {x y : Int32} (hq : Q3 q) (hsl : n ≤ lim) (hlim : lim ≤ 12) (hs : ∀ j, s j < q) (hpw : ∀ t, t ≤ lim + 1 → q ^ t < 100000) : MI l D [(dI, .int)] yX2_complexity cX2_complexity 4 .int (rmk 4) [.ref (ad 0), .int x, .int y] (MW ad dI q lim n s row c) (fun (r : Int32) (u : (Nat → Nat) × (Nat → Nat)) => AComI q s n x y r) (fun u => (MW ad dI q lim n s u.1 u.2)) := by
  refine MI_of RX2 (by decide) rfl (Nat.le_of_ble_eq_true rfl) [(0, .ref (ad 0)), (1, .int x), (2, .int y)] rfl ?_
  intro Z C hret
  have hq2 := Q3_2 hq
  have hq5 := Q3_5 hq
  refine r_iload_n C 1 dX2_complexity_0 rfl ?_
  refine r_if_ltI C 17 dX2_complexity_1 (by decide) (fun hc1 => ?_) (fun hc1 => ?_)
  · have hno := iv_n0 (y := y) (n := n) (by omega) hc1
    refine r_iconst C (v := -1) dX2_complexity_17 (by decide) ?_
    exact hret (row, c) _ _ _ dX2_complexity_18 rfl (Or.inr ⟨hno, rfl⟩)
  · refine r_iload_n C 1 dX2_complexity_4 rfl ?_
    refine r_iload_n C 2 dX2_complexity_5 rfl ?_
    refine r_icmp_gtI C 17 dX2_complexity_6 (by decide) (fun hc6 => ?_) (fun hc6 => ?_)
    · have hno := iv_n2 (n := n) (by omega) (Int32.not_le.mpr hc6)
      refine r_iconst C (v := -1) dX2_complexity_17 (by decide) ?_
      exact hret (row, c) _ _ _ dX2_complexity_18 rfl (Or.inr ⟨hno, rfl⟩)
    · refine r_iload_n C 2 dX2_complexity_9 rfl ?_
      refine r_aload_n C 0 dX2_complexity_10 rfl ?_
      refine Mg_n C dX2_complexity_11 ?_
      refine r_icmp_leI C 19 dX2_complexity_14 (by decide) (fun hc14 => ?_) (fun hc14 => ?_)
      · obtain ⟨a, b, hab, hb, rfl, rfl⟩ := iv_of (by omega) hc1 (Int32.not_lt.mpr hc14) (Int32.not_lt.mp hc6)
        refine r_iload_n C 1 dX2_complexity_19 rfl ?_
        refine r_istore_n C (lv' := [(0, .ref (ad 0)), (1, .int (nI a)), (2, .int (nI b)), (3, .int (nI a))]) [1, 2, 3, 0] dX2_complexity_20 (by decide) rfl ?_
        have lp21 : ∀ k, a ≤ k → k ≤ b → Z (MW ad dI q lim n s (tkF s row a k) c) [(0, .ref (ad 0)), (1, .int (nI a)), (2, .int (nI b)), (3, .int (nI k))] 21 [] := by
          refine nd_lo a b ?_ ?_
          · show Z (MW ad dI q lim n s (tkF s row a b) c) [(0, .ref (ad 0)), (1, .int (nI a)), (2, .int (nI b)), (3, .int (nI b))] 21 []
            refine r_iload_n C 3 dX2_complexity_21 rfl ?_
            refine r_iload_n C 2 dX2_complexity_22 rfl ?_
            refine r_icmp_ge C 46 dX2_complexity_23 (by decide) (by omega) (by omega) (fun hc23 => ?_) (fun hc23 => absurd hc23 (by omega))
            refine r_aload_n C 0 dX2_complexity_46 rfl ?_
            refine r_iload_n C 2 dX2_complexity_47 rfl ?_
            refine r_iload_n C 1 dX2_complexity_48 rfl ?_
            refine r_isub C dX2_complexity_49 (by omega) ?_
            refine r_calli C (ci := 1) (nA := 1) [.int (nI (b - a))] (mm_least hq (by omega) (fun t ht => hpw t (by omega)) (fun t ht => by simp only [tkF]; rw [if_pos ht]; have := hs (a + t); omega)) rfl (lw_V q271 q273 qs17 q27 q274) (by decide +kernel) rfl ⟨rfl, rfl⟩ ⟨Nat.le_of_ble_eq_true rfl, Nat.le_of_ble_eq_true rfl⟩ rfl rfl (Nat.le_of_ble_eq_true rfl) dX2_complexity_50 (fun r cl hu => ?_)
            obtain ⟨L, rfl, hLR⟩ := hu
            have hLk := hLR.1.1
            exact hret (tkF s row a b, cl) _ _ _ dX2_complexity_53 rfl (Or.inl ⟨a, b, hab, hb, rfl, rfl, L, Len_congr (fun j hj => by simp only [tkF]; rw [if_pos hj]) hLR.1, rfl⟩)
          · intro k hlk hk ih 
            refine r_iload_n C 3 dX2_complexity_21 rfl ?_
            refine r_iload_n C 2 dX2_complexity_22 rfl ?_
            refine r_icmp_ge C 46 dX2_complexity_23 (by decide) (by omega) (by omega) (fun hc23 => absurd hc23 (by omega)) (fun hc23 => ?_)
            refine r_aload_n C 0 dX2_complexity_26 rfl ?_
            refine Mg_row C dX2_complexity_27 ?_
            refine r_iload_n C 3 dX2_complexity_30 rfl ?_
            refine r_iload_n C 1 dX2_complexity_31 rfl ?_
            refine r_isub C dX2_complexity_32 (by omega) ?_
            refine r_aload_n C 0 dX2_complexity_33 rfl ?_
            refine Mg_s C dX2_complexity_34 ?_
            refine r_iload_n C 3 dX2_complexity_37 rfl ?_
            refine Ml_s C dX2_complexity_38 (by omega) ?_
            refine Ms_row C dX2_complexity_39 (by omega) ?_
            refine r_iinc C (k := 3) (v := (nI (k + 1))) (lv' := [(0, .ref (ad 0)), (1, .int (nI a)), (2, .int (nI b)), (3, .int (nI (k + 1)))]) [1, 2, 3, 0] dX2_complexity_40 rfl (nI_inc _) (by decide) rfl ?_
            refine r_goto C 21 dX2_complexity_43 (by decide) ?_
            rw [tkF_s s row a k hlk]
            exact ih
        have hz := lp21 a (Nat.le_refl _) hab
        rw [tkF_0] at hz
        exact hz
      · have hno := iv_n1 (x := x) (n := n) (by omega) (Int32.not_le.mp hc14)
        refine r_iconst C (v := -1) dX2_complexity_17 (by decide) ?_
        exact hret (row, c) _ _ _ dX2_complexity_18 rfl (Or.inr ⟨hno, rfl⟩)
set_option maxHeartbeats 4000000 in
theorem mm_registers {l : Launch} {D : va_G} {dI : ClassId} {ad : Nat → Nat} {q lim n : Nat} {s row c : Nat → Nat}  (hq : Q3 q) (hsl : n ≤ lim) (hlim : lim ≤ 12) (hs : ∀ j, s j < q) (hpw : ∀ t, t ≤ lim + 1 → q ^ t < 100000) : MI l D [(dI, .int)] yX2_registers cX2_registers 5 .int (rmk 4) [.ref (ad 0)] (MW ad dI q lim n s row c) (fun (r : Int32) (u : (Nat → Nat) × (Nat → Nat)) => AReg q s n r) (fun u => (MW ad dI q lim n s u.1 u.2)) := by
  refine MI_of RX2 (by decide) rfl (Nat.le_of_ble_eq_true rfl) [(0, .ref (ad 0))] rfl ?_
  intro Z C hret
  have hq2 := Q3_2 hq
  have hq5 := Q3_5 hq
  refine r_aload_n C 0 dX2_registers_0 rfl ?_
  refine r_callv C (ci := 1) (nA := 0) [] (mm_whole (by omega)) rfl (lw_V q303 q305 qs24 q27 q306) (by decide +kernel) rfl ⟨rfl, rfl⟩ ⟨Nat.le_of_ble_eq_true rfl, Nat.le_of_ble_eq_true rfl⟩ rfl rfl (Nat.le_of_ble_eq_true rfl) dX2_registers_1 (fun u0 hu0 => ?_)
  have hrw : ∀ j, j < n → cpF s row n j = s j := fun j hj => by
    simp only [cpF]
    rw [if_pos hj]
  generalize cpF s row n = rw0 at hrw ⊢
  have hrq : ∀ j, j < n → rw0 j < q := fun j hj => by rw [hrw j hj]; exact hs j
  refine r_aload_n C 0 dX2_registers_4 rfl ?_
  refine r_aload_n C 0 dX2_registers_5 rfl ?_
  refine Mg_n C dX2_registers_6 ?_
  refine r_calli C (ci := 1) (nA := 1) [.int (nI n)] (mm_least hq (by omega) (fun t ht => hpw t (by omega)) (fun t ht => by have := hrq t ht; omega)) rfl (lw_V q271 q273 qs17 q27 q274) (by decide +kernel) rfl ⟨rfl, rfl⟩ ⟨Nat.le_of_ble_eq_true rfl, Nat.le_of_ble_eq_true rfl⟩ rfl rfl (Nat.le_of_ble_eq_true rfl) dX2_registers_9 (fun r cl hu => ?_)
  obtain ⟨L, rfl, hLR⟩ := hu
  have hLk := hLR.1.1
  refine r_istore_n C (lv' := [(0, .ref (ad 0)), (1, .int (nI L))]) [1, 0] dX2_registers_12 (by decide) rfl ?_
  refine r_aload_n C 0 dX2_registers_13 rfl ?_
  refine r_iload_n C 1 dX2_registers_14 rfl ?_
  refine r_calli C (ci := 1) (nA := 1) [.int (nI L)] (mm_power (by omega)) rfl (lw_V q275 q277 qs18 q27 q278) (by decide +kernel) rfl ⟨rfl, rfl⟩ ⟨Nat.le_of_ble_eq_true rfl, Nat.le_of_ble_eq_true rfl⟩ rfl rfl (Nat.le_of_ble_eq_true rfl) dX2_registers_15 (fun r u0 hu => ?_)
  obtain rfl : _ = _ := hu
  have hpL := hpw L (by omega)
  refine r_istore_n C (lv' := [(0, .ref (ad 0)), (1, .int (nI L)), (2, .int (nI (q ^ L)))]) [1, 2, 0] dX2_registers_18 (by decide) rfl ?_
  refine r_iconst C (v := nI 0) dX2_registers_19 (by decide) ?_
  refine r_istore_n C (lv' := [(0, .ref (ad 0)), (1, .int (nI L)), (2, .int (nI (q ^ L))), (3, .int (nI 0))]) [1, 2, 3, 0] dX2_registers_20 (by decide) rfl ?_
  refine r_iconst C (v := nI 0) dX2_registers_21 (by decide) ?_
  refine r_istore C (lv' := [(0, .ref (ad 0)), (1, .int (nI L)), (2, .int (nI (q ^ L))), (3, .int (nI 0)), (4, .int (nI 0))]) [1, 2, 3, 4, 0] dX2_registers_22 (by decide) rfl ?_
  have lp24 : ∀ code, 0 ≤ code → code ≤ q ^ L → ∀ (cv : Nat → Nat), Z (MW ad dI q lim n s rw0 cv) [(0, .ref (ad 0)), (1, .int (nI L)), (2, .int (nI (q ^ L))), (3, .int (nI (csum (fun code => b1 (gen q rw0 n L (spl q L code))) code))), (4, .int (nI code))] 24 [] := by
    refine nd_lo 0 (q ^ L) ?_ ?_
    · intro cv
      show Z (MW ad dI q lim n s rw0 cv) [(0, .ref (ad 0)), (1, .int (nI L)), (2, .int (nI (q ^ L))), (3, .int (nI (csum (fun code => b1 (gen q rw0 n L (spl q L code))) (q ^ L)))), (4, .int (nI (q ^ L)))] 24 []
      refine r_iload C 4 dX2_registers_24 rfl ?_
      refine r_iload_n C 2 dX2_registers_26 rfl ?_
      refine r_icmp_ge C 63 dX2_registers_27 (by decide) (by omega) (by omega) (fun hc27 => ?_) (fun hc27 => absurd hc27 (by omega))
      refine r_iload_n C 3 dX2_registers_63 rfl ?_
      exact hret (rw0, cv) _ _ _ dX2_registers_64 rfl ⟨L, Len_congr hrw hLR.1, congrArg nI (csum_congr _ (fun code _ => b1_congr ⟨gen_congr (fun _ _ _ => rfl) hrw, gen_congr (fun _ _ _ => rfl) (fun j hj => (hrw j hj).symm)⟩))⟩
    · intro code hlcode hcode ih cv
      refine r_iload C 4 dX2_registers_24 rfl ?_
      refine r_iload_n C 2 dX2_registers_26 rfl ?_
      refine r_icmp_ge C 63 dX2_registers_27 (by decide) (by omega) (by omega) (fun hc27 => absurd hc27 (by omega)) (fun hc27 => ?_)
      refine r_aload_n C 0 dX2_registers_30 rfl ?_
      refine r_iload C 4 dX2_registers_31 rfl ?_
      refine r_iload_n C 1 dX2_registers_33 rfl ?_
      refine r_callv C (ci := 1) (nA := 2) [.int (nI code), .int (nI L)] (mm_spell hq (by omega) (by omega)) rfl (lw_V q279 q281 qs19 q27 q282) (by decide +kernel) rfl ⟨rfl, rfl⟩ ⟨Nat.le_of_ble_eq_true rfl, Nat.le_of_ble_eq_true rfl⟩ rfl rfl (Nat.le_of_ble_eq_true rfl) dX2_registers_34 (fun u0 hu => ?_)
      refine r_iload_n C 3 dX2_registers_37 rfl ?_
      refine r_aload_n C 0 dX2_registers_38 rfl ?_
      refine r_iload_n C 1 dX2_registers_39 rfl ?_
      refine r_aload_n C 0 dX2_registers_40 rfl ?_
      refine Mg_n C dX2_registers_41 ?_
      refine r_calli C (ci := 1) (nA := 2) [.int (nI L), .int (nI n)] (mm_generates hq (by omega) hLk (by omega) (fun i h1 h2 => by rw [spW_at h1 h2]; have := dg_lt (q := q) (n := L) (code := code) (b := i - 1) (by omega); unfold spl; omega) (fun t ht => by have := hrq t ht; omega)) rfl (lw_V q291 q293 qs22 q27 q294) (by decide +kernel) rfl ⟨rfl, rfl⟩ ⟨Nat.le_of_ble_eq_true rfl, Nat.le_of_ble_eq_true rfl⟩ rfl rfl (Nat.le_of_ble_eq_true rfl) dX2_registers_44 (fun r u0 hu => ?_)
      rcases hu with ⟨rfl, hg⟩ | ⟨rfl, hg⟩
      · refine r_if_eqI C 54 dX2_registers_47 (by decide) (fun hc47 => absurd hc47 (by decide)) (fun hc47 => ?_)
        refine r_iconst C (v := nI 1) dX2_registers_50 (by decide) ?_
        refine r_goto C 55 dX2_registers_51 (by decide) ?_
        refine r_iadd C dX2_registers_55 ?_
        refine r_istore_n C (lv' := [(0, .ref (ad 0)), (1, .int (nI L)), (2, .int (nI (q ^ L))), (3, .int (nI ((csum (fun code => b1 (gen q rw0 n L (spl q L code))) code) + 1))), (4, .int (nI code))]) [1, 2, 3, 0, 4] dX2_registers_56 (by decide) rfl ?_
        refine r_iinc C (k := 4) (v := (nI (code + 1))) (lv' := [(0, .ref (ad 0)), (1, .int (nI L)), (2, .int (nI (q ^ L))), (3, .int (nI ((csum (fun code => b1 (gen q rw0 n L (spl q L code))) code) + 1))), (4, .int (nI (code + 1)))]) [1, 2, 3, 4, 0] dX2_registers_57 rfl (nI_inc _) (by decide) rfl ?_
        refine r_goto C 24 dX2_registers_60 (by decide) ?_
        have e : csum (fun code => b1 (gen q rw0 n L (spl q L code))) (code + 1) = csum (fun code => b1 (gen q rw0 n L (spl q L code))) code + 1 := by
          show csum (fun code => b1 (gen q rw0 n L (spl q L code))) code + b1 (gen q rw0 n L (spl q L code)) = _
          rw [b1_t (gen_congr (fun i h1 h2 => spW_at h1 h2) (fun _ _ => rfl) hg)]
        rw [e] at ih
        exact ih _
      · refine r_if_eqI C 54 dX2_registers_47 (by decide) (fun hc47 => ?_) (fun hc47 => absurd hc47 (fun h => h rfl))
        refine r_iconst C (v := nI 0) dX2_registers_54 (by decide) ?_
        refine r_iadd C dX2_registers_55 ?_
        refine r_istore_n C (lv' := [(0, .ref (ad 0)), (1, .int (nI L)), (2, .int (nI (q ^ L))), (3, .int (nI ((csum (fun code => b1 (gen q rw0 n L (spl q L code))) code) + 0))), (4, .int (nI code))]) [1, 2, 3, 0, 4] dX2_registers_56 (by decide) rfl ?_
        refine r_iinc C (k := 4) (v := (nI (code + 1))) (lv' := [(0, .ref (ad 0)), (1, .int (nI L)), (2, .int (nI (q ^ L))), (3, .int (nI ((csum (fun code => b1 (gen q rw0 n L (spl q L code))) code) + 0))), (4, .int (nI (code + 1)))]) [1, 2, 3, 4, 0] dX2_registers_57 rfl (nI_inc _) (by decide) rfl ?_
        refine r_goto C 24 dX2_registers_60 (by decide) ?_
        have e : csum (fun code => b1 (gen q rw0 n L (spl q L code))) (code + 1) = csum (fun code => b1 (gen q rw0 n L (spl q L code))) code + 0 := by
          show csum (fun code => b1 (gen q rw0 n L (spl q L code))) code + b1 (gen q rw0 n L (spl q L code)) = _
          rw [b1_f (fun h3 => hg (gen_congr (fun i h1 h2 => (spW_at h1 h2).symm) (fun _ _ => rfl) h3))]
        rw [e] at ih
        exact ih _
  exact lp24 0 (Nat.le_refl _) (Nat.zero_le _) cl
set_option maxHeartbeats 4000000 in
theorem mm_coefficient {l : Launch} {D : va_G} {dI : ClassId} {ad : Nat → Nat} {q lim n : Nat} {s row c : Nat → Nat} {i : Int32} (hq : Q3 q) (hsl : n ≤ lim) (hlim : lim ≤ 12) (hs : ∀ j, s j < q) (hpw : ∀ t, t ≤ lim + 1 → q ^ t < 100000) : MI l D [(dI, .int)] yX2_coefficient cX2_coefficient 3 .int (rmk 4) [.ref (ad 0), .int i] (MW ad dI q lim n s row c) (fun (r : Int32) (u : (Nat → Nat) × (Nat → Nat)) => ACoe q s n i r) (fun u => (MW ad dI q lim n s u.1 u.2)) := by
  refine MI_of RX2 (by decide) rfl (Nat.le_of_ble_eq_true rfl) [(0, .ref (ad 0)), (1, .int i)] rfl ?_
  intro Z C hret
  have hq2 := Q3_2 hq
  have hq5 := Q3_5 hq
  refine r_aload_n C 0 dX2_coefficient_0 rfl ?_
  refine r_callv C (ci := 1) (nA := 0) [] (mm_whole (by omega)) rfl (lw_V q303 q305 qs24 q27 q306) (by decide +kernel) rfl ⟨rfl, rfl⟩ ⟨Nat.le_of_ble_eq_true rfl, Nat.le_of_ble_eq_true rfl⟩ rfl rfl (Nat.le_of_ble_eq_true rfl) dX2_coefficient_1 (fun u0 hu0 => ?_)
  have hrw : ∀ j, j < n → cpF s row n j = s j := fun j hj => by
    simp only [cpF]
    rw [if_pos hj]
  generalize cpF s row n = rw0 at hrw ⊢
  have hrq : ∀ j, j < n → rw0 j < q := fun j hj => by rw [hrw j hj]; exact hs j
  refine r_aload_n C 0 dX2_coefficient_4 rfl ?_
  refine r_aload_n C 0 dX2_coefficient_5 rfl ?_
  refine Mg_n C dX2_coefficient_6 ?_
  refine r_calli C (ci := 1) (nA := 1) [.int (nI n)] (mm_least hq (by omega) (fun t ht => hpw t (by omega)) (fun t ht => by have := hrq t ht; omega)) rfl (lw_V q271 q273 qs17 q27 q274) (by decide +kernel) rfl ⟨rfl, rfl⟩ ⟨Nat.le_of_ble_eq_true rfl, Nat.le_of_ble_eq_true rfl⟩ rfl rfl (Nat.le_of_ble_eq_true rfl) dX2_coefficient_9 (fun r cl hu => ?_)
  obtain ⟨L, rfl, hLR⟩ := hu
  have hLk := hLR.1.1
  refine r_istore_n C (lv' := [(0, .ref (ad 0)), (1, .int i), (2, .int (nI L))]) [1, 2, 0] dX2_coefficient_12 (by decide) rfl ?_
  refine r_iload_n C 1 dX2_coefficient_13 rfl ?_
  refine r_iconst C (v := nI 1) dX2_coefficient_14 (by decide) ?_
  refine r_icmp_ltI C 23 dX2_coefficient_15 (by decide) (fun hc15 => ?_) (fun hc15 => ?_)
  · have hno : i < 1 ∨ nI L < i := Or.inl hc15
    refine r_iconst C (v := -1) dX2_coefficient_23 (by decide) ?_
    refine r_goto C 33 dX2_coefficient_24 (by decide) ?_
    exact hret (rw0, cl) _ _ _ dX2_coefficient_33 rfl ⟨L, cl, LR_congr hrw (fun _ _ _ => rfl) hLR, Or.inl ⟨hno, rfl⟩⟩
  · refine r_iload_n C 1 dX2_coefficient_18 rfl ?_
    refine r_iload_n C 2 dX2_coefficient_19 rfl ?_
    refine r_icmp_leI C 27 dX2_coefficient_20 (by decide) (fun hc20 => ?_) (fun hc20 => ?_)
    · obtain ⟨t, ht1, ht2, rfl⟩ := ix_1 (by omega) hc15 hc20
      refine r_aload_n C 0 dX2_coefficient_27 rfl ?_
      refine Mg_c C dX2_coefficient_28 ?_
      refine r_iload_n C 1 dX2_coefficient_31 rfl ?_
      refine Ml_c C dX2_coefficient_32 (by omega) ?_
      exact hret (rw0, cl) _ _ _ dX2_coefficient_33 rfl ⟨L, cl, LR_congr hrw (fun _ _ _ => rfl) hLR, Or.inr ⟨t, ht1, ht2, rfl, rfl⟩⟩
    · have hno : i < 1 ∨ nI L < i := Or.inr (Int32.not_le.mp hc20)
      refine r_iconst C (v := -1) dX2_coefficient_23 (by decide) ?_
      refine r_goto C 33 dX2_coefficient_24 (by decide) ?_
      exact hret (rw0, cl) _ _ _ dX2_coefficient_33 rfl ⟨L, cl, LR_congr hrw (fun _ _ _ => rfl) hLR, Or.inl ⟨hno, rfl⟩⟩
set_option maxHeartbeats 4000000 in
theorem mm_predict {l : Launch} {D : va_G} {dI : ClassId} {ad : Nat → Nat} {q lim n : Nat} {s row c : Nat → Nat} {j : Int32} (hq : Q3 q) (hsl : n ≤ lim) (hlim : lim ≤ 12) (hs : ∀ j, s j < q) (hpw : ∀ t, t ≤ lim + 1 → q ^ t < 100000) : MI l D [(dI, .int)] yX2_predict cX2_predict 4 .int (rmk 4) [.ref (ad 0), .int j] (MW ad dI q lim n s row c) (fun (r : Int32) (u : (Nat → Nat) × (Nat → Nat)) => APreI q s n j r) (fun u => (MW ad dI q lim n s u.1 u.2)) := by
  refine MI_of RX2 (by decide) rfl (Nat.le_of_ble_eq_true rfl) [(0, .ref (ad 0)), (1, .int j)] rfl ?_
  intro Z C hret
  have hq2 := Q3_2 hq
  have hq5 := Q3_5 hq
  refine r_iload_n C 1 dX2_predict_0 rfl ?_
  refine r_if_ltI C 10 dX2_predict_1 (by decide) (fun hc1 => ?_) (fun hc1 => ?_)
  · have hno := no_neg (n := 41) (by omega) hc1
    refine r_iconst C (v := -1) dX2_predict_10 (by decide) ?_
    exact hret (row, c) _ _ _ dX2_predict_11 rfl (Or.inr ⟨hno, rfl⟩)
  · refine r_iload_n C 1 dX2_predict_4 rfl ?_
    refine r_bipush C (v := nI 40) dX2_predict_5 (by decide) ?_
    refine r_icmp_leI C 12 dX2_predict_7 (by decide) (fun hc7 => ?_) (fun hc7 => ?_)
    · obtain ⟨t, ht, rfl⟩ := ix_le (n := 40) (by omega) hc1 hc7
      refine r_aload_n C 0 dX2_predict_12 rfl ?_
      refine r_callv C (ci := 1) (nA := 0) [] (mm_whole (by omega)) rfl (lw_V q303 q305 qs24 q27 q306) (by decide +kernel) rfl ⟨rfl, rfl⟩ ⟨Nat.le_of_ble_eq_true rfl, Nat.le_of_ble_eq_true rfl⟩ rfl rfl (Nat.le_of_ble_eq_true rfl) dX2_predict_13 (fun u0 hu0 => ?_)
      have hrw : ∀ j, j < n → cpF s row n j = s j := fun j hj => by
        simp only [cpF]
        rw [if_pos hj]
      generalize cpF s row n = rw0 at hrw ⊢
      have hrq : ∀ j, j < n → rw0 j < q := fun j hj => by rw [hrw j hj]; exact hs j
      refine r_aload_n C 0 dX2_predict_16 rfl ?_
      refine r_aload_n C 0 dX2_predict_17 rfl ?_
      refine Mg_n C dX2_predict_18 ?_
      refine r_calli C (ci := 1) (nA := 1) [.int (nI n)] (mm_least hq (by omega) (fun t ht => hpw t (by omega)) (fun t ht => by have := hrq t ht; omega)) rfl (lw_V q271 q273 qs17 q27 q274) (by decide +kernel) rfl ⟨rfl, rfl⟩ ⟨Nat.le_of_ble_eq_true rfl, Nat.le_of_ble_eq_true rfl⟩ rfl rfl (Nat.le_of_ble_eq_true rfl) dX2_predict_21 (fun r cl hu => ?_)
      obtain ⟨L, rfl, hLR⟩ := hu
      have hLk := hLR.1.1
      refine r_istore_n C (lv' := [(0, .ref (ad 0)), (1, .int (nI t)), (2, .int (nI L))]) [1, 2, 0] dX2_predict_24 (by decide) rfl ?_
      refine r_aload_n C 0 dX2_predict_25 rfl ?_
      refine Mg_n C dX2_predict_26 ?_
      refine r_istore_n C (lv' := [(0, .ref (ad 0)), (1, .int (nI t)), (2, .int (nI L)), (3, .int (nI n))]) [1, 2, 3, 0] dX2_predict_29 (by decide) rfl ?_
      have lp30 : ∀ i, 0 ≤ i → i ≤ t + 1 → Z (MW ad dI q lim n s (runF q L cl rw0 n i) cl) [(0, .ref (ad 0)), (1, .int (nI t)), (2, .int (nI L)), (3, .int (nI (n + i)))] 30 [] := by
        refine nd_lo 0 (t + 1) ?_ ?_
        · show Z (MW ad dI q lim n s (runF q L cl rw0 n (t + 1)) cl) [(0, .ref (ad 0)), (1, .int (nI t)), (2, .int (nI L)), (3, .int (nI (n + (t + 1))))] 30 []
          refine r_iload_n C 3 dX2_predict_30 rfl ?_
          refine r_aload_n C 0 dX2_predict_31 rfl ?_
          refine Mg_n C dX2_predict_32 ?_
          refine r_iload_n C 1 dX2_predict_35 rfl ?_
          refine r_iadd C dX2_predict_36 ?_
          refine r_icmp_gt C 58 dX2_predict_37 (by decide) (by omega) (by omega) (fun hc37 => ?_) (fun hc37 => absurd hc37 (by omega))
          refine r_aload_n C 0 dX2_predict_58 rfl ?_
          refine Mg_row C dX2_predict_59 ?_
          refine r_aload_n C 0 dX2_predict_62 rfl ?_
          refine Mg_n C dX2_predict_63 ?_
          refine r_iload_n C 1 dX2_predict_66 rfl ?_
          refine r_iadd C dX2_predict_67 ?_
          refine Ml_row C dX2_predict_68 (by omega) ?_
          exact hret (runF q L cl rw0 n (t + 1), cl) _ _ _ dX2_predict_69 rfl (Or.inl ⟨t, ht, rfl, L, cl, LR_congr hrw (fun _ _ _ => rfl) hLR, by rw [runF_congr hLk (fun _ _ _ => rfl) hrw (t + 1) (n + t) (by omega)]⟩)
        · intro i hli hi ih 
          refine r_iload_n C 3 dX2_predict_30 rfl ?_
          refine r_aload_n C 0 dX2_predict_31 rfl ?_
          refine Mg_n C dX2_predict_32 ?_
          refine r_iload_n C 1 dX2_predict_35 rfl ?_
          refine r_iadd C dX2_predict_36 ?_
          refine r_icmp_gt C 58 dX2_predict_37 (by decide) (by omega) (by omega) (fun hc37 => absurd hc37 (by omega)) (fun hc37 => ?_)
          refine r_aload_n C 0 dX2_predict_40 rfl ?_
          refine Mg_row C dX2_predict_41 ?_
          refine r_iload_n C 3 dX2_predict_44 rfl ?_
          refine r_aload_n C 0 dX2_predict_45 rfl ?_
          refine r_iload_n C 3 dX2_predict_46 rfl ?_
          refine r_iload_n C 2 dX2_predict_47 rfl ?_
          refine r_calli C (ci := 1) (nA := 2) [.int (nI (n + i)), .int (nI L)] (mm_sum hq (by omega) (by omega) (by omega) (fun i h1 h2 => by have := hLR.2.1 i h1 h2; omega) (fun j hj => by have := runF_lt (L := L) (c := cl) (f := rw0) (show 0 < q by omega) hrq i j hj; omega)) rfl (lw_V q295 q297 qs23 q27 q298) (by decide +kernel) rfl ⟨rfl, rfl⟩ ⟨Nat.le_of_ble_eq_true rfl, Nat.le_of_ble_eq_true rfl⟩ rfl rfl (Nat.le_of_ble_eq_true rfl) dX2_predict_48 (fun r u0 hu => ?_)
          obtain rfl : _ = _ := hu
          refine Ms_row C dX2_predict_51 (by omega) ?_
          refine r_iinc C (k := 3) (v := (nI ((n + i) + 1))) (lv' := [(0, .ref (ad 0)), (1, .int (nI t)), (2, .int (nI L)), (3, .int (nI ((n + i) + 1)))]) [1, 2, 3, 0] dX2_predict_52 rfl (nI_inc _) (by decide) rfl ?_
          refine r_goto C 30 dX2_predict_55 (by decide) ?_
          exact ih
      have hz := lp30 0 (by omega) (by omega)
      exact hz
    · have hno := no_nle (n := 40) (by omega) hc7
      refine r_iconst C (v := -1) dX2_predict_10 (by decide) ?_
      exact hret (row, c) _ _ _ dX2_predict_11 rfl (Or.inr ⟨hno, rfl⟩)
set_option maxHeartbeats 4000000 in
theorem mm_complexityWith {l : Launch} {D : va_G} {dI : ClassId} {ad : Nat → Nat} {q lim n : Nat} {s row c : Nat → Nat} {v : Int32} (hq : Q3 q) (hsl : n ≤ lim) (hlim : lim ≤ 12) (hs : ∀ j, s j < q) (hpw : ∀ t, t ≤ lim + 1 → q ^ t < 100000) : MI l D [(dI, .int)] yX2_complexityWith cX2_complexityWith 2 .int (rmk 4) [.ref (ad 0), .int v] (MW ad dI q lim n s row c) (fun (r : Int32) (u : (Nat → Nat) × (Nat → Nat)) => AWith q s n v r) (fun u => (MW ad dI q lim n s u.1 u.2)) := by
  refine MI_of RX2 (by decide) rfl (Nat.le_of_ble_eq_true rfl) [(0, .ref (ad 0)), (1, .int v)] rfl ?_
  intro Z C hret
  have hq2 := Q3_2 hq
  have hq5 := Q3_5 hq
  refine r_iload_n C 1 dX2_complexityWith_0 rfl ?_
  refine r_if_ltI C 12 dX2_complexityWith_1 (by decide) (fun hc1 => ?_) (fun hc1 => ?_)
  · have hno := no_neg (n := q) (by omega) hc1
    refine r_iconst C (v := -1) dX2_complexityWith_12 (by decide) ?_
    exact hret (row, c) _ _ _ dX2_complexityWith_13 rfl (Or.inr ⟨hno, rfl⟩)
  · refine r_iload_n C 1 dX2_complexityWith_4 rfl ?_
    refine r_aload_n C 0 dX2_complexityWith_5 rfl ?_
    refine Mg_q C dX2_complexityWith_6 ?_
    refine r_icmp_ltI C 14 dX2_complexityWith_9 (by decide) (fun hc9 => ?_) (fun hc9 => ?_)
    · obtain ⟨t, ht, rfl⟩ := ix_lt (by omega) hc1 hc9
      refine r_aload_n C 0 dX2_complexityWith_14 rfl ?_
      refine r_callv C (ci := 1) (nA := 0) [] (mm_whole (by omega)) rfl (lw_V q303 q305 qs24 q27 q306) (by decide +kernel) rfl ⟨rfl, rfl⟩ ⟨Nat.le_of_ble_eq_true rfl, Nat.le_of_ble_eq_true rfl⟩ rfl rfl (Nat.le_of_ble_eq_true rfl) dX2_complexityWith_15 (fun u0 hu0 => ?_)
      have hrw : ∀ j, j < n → cpF s row n j = s j := fun j hj => by
        simp only [cpF]
        rw [if_pos hj]
      generalize cpF s row n = rw0 at hrw ⊢
      have hrq : ∀ j, j < n → rw0 j < q := fun j hj => by rw [hrw j hj]; exact hs j
      refine r_aload_n C 0 dX2_complexityWith_18 rfl ?_
      refine Mg_row C dX2_complexityWith_19 ?_
      refine r_aload_n C 0 dX2_complexityWith_22 rfl ?_
      refine Mg_n C dX2_complexityWith_23 ?_
      refine r_iload_n C 1 dX2_complexityWith_26 rfl ?_
      refine Ms_row C dX2_complexityWith_27 (by omega) ?_
      refine r_aload_n C 0 dX2_complexityWith_28 rfl ?_
      refine r_aload_n C 0 dX2_complexityWith_29 rfl ?_
      refine Mg_n C dX2_complexityWith_30 ?_
      refine r_iconst C (v := nI 1) dX2_complexityWith_33 (by decide) ?_
      refine r_iadd C dX2_complexityWith_34 ?_
      have hws : ∀ j, j < n + 1 → va_up rw0 n t j = va_up s n t j := fun j hj => by
        by_cases h : j = n
        · rw [h, va_up_self, va_up_self]
        · rw [va_up_ne _ _ h, va_up_ne _ _ h]; exact hrw j (by omega)
      refine r_calli C (ci := 1) (nA := 1) [.int (nI (n + 1))] (mm_least hq (by omega) (fun t ht => hpw t (by omega)) (fun j hj => by rw [hws j hj]; unfold va_up; split; omega; have := hs j; omega)) rfl (lw_V q271 q273 qs17 q27 q274) (by decide +kernel) rfl ⟨rfl, rfl⟩ ⟨Nat.le_of_ble_eq_true rfl, Nat.le_of_ble_eq_true rfl⟩ rfl rfl (Nat.le_of_ble_eq_true rfl) dX2_complexityWith_35 (fun r cl hu => ?_)
      obtain ⟨L, rfl, hLR⟩ := hu
      have hLk := hLR.1.1
      exact hret (va_up rw0 n t, cl) _ _ _ dX2_complexityWith_38 rfl (Or.inl ⟨t, ht, rfl, L, Len_congr hws hLR.1, rfl⟩)
    · have hno := no_nlt (n := q) (by omega) hc9
      refine r_iconst C (v := -1) dX2_complexityWith_12 (by decide) ?_
      exact hret (row, c) _ _ _ dX2_complexityWith_13 rfl (Or.inr ⟨hno, rfl⟩)
theorem bkF_m (s row : Nat → Nat) (n m : Nat) (h : m < n) : va_up (bkF s row n m) m (s (n - 1 - m)) = bkF s row n (m + 1) := bkF_s s row n m (n - 1 - m) (by omega)
set_option maxHeartbeats 4000000 in
theorem mm_complexityBackwards {l : Launch} {D : va_G} {dI : ClassId} {ad : Nat → Nat} {q lim n : Nat} {s row c : Nat → Nat}  (hq : Q3 q) (hsl : n ≤ lim) (hlim : lim ≤ 12) (hs : ∀ j, s j < q) (hpw : ∀ t, t ≤ lim + 1 → q ^ t < 100000) : MI l D [(dI, .int)] yX2_complexityBackwards cX2_complexityBackwards 2 .int (rmk 4) [.ref (ad 0)] (MW ad dI q lim n s row c) (fun (r : Int32) (u : (Nat → Nat) × (Nat → Nat)) => ACom q (fun j => s (n - 1 - j)) n r) (fun u => (MW ad dI q lim n s u.1 u.2)) := by
  refine MI_of RX2 (by decide) rfl (Nat.le_of_ble_eq_true rfl) [(0, .ref (ad 0))] rfl ?_
  intro Z C hret
  have hq2 := Q3_2 hq
  have hq5 := Q3_5 hq
  refine r_iconst C (v := nI 0) dX2_complexityBackwards_0 (by decide) ?_
  refine r_istore_n C (lv' := [(0, .ref (ad 0)), (1, .int (nI 0))]) [1, 0] dX2_complexityBackwards_1 (by decide) rfl ?_
  have lp2 : ∀ i, 0 ≤ i → i ≤ n → Z (MW ad dI q lim n s (bkF s row n i) c) [(0, .ref (ad 0)), (1, .int (nI i))] 2 [] := by
    refine nd_lo 0 n ?_ ?_
    · show Z (MW ad dI q lim n s (bkF s row n n) c) [(0, .ref (ad 0)), (1, .int (nI n))] 2 []
      refine r_iload_n C 1 dX2_complexityBackwards_2 rfl ?_
      refine r_aload_n C 0 dX2_complexityBackwards_3 rfl ?_
      refine Mg_n C dX2_complexityBackwards_4 ?_
      refine r_icmp_ge C 35 dX2_complexityBackwards_7 (by decide) (by omega) (by omega) (fun hc7 => ?_) (fun hc7 => absurd hc7 (by omega))
      refine r_aload_n C 0 dX2_complexityBackwards_35 rfl ?_
      refine r_aload_n C 0 dX2_complexityBackwards_36 rfl ?_
      refine Mg_n C dX2_complexityBackwards_37 ?_
      refine r_calli C (ci := 1) (nA := 1) [.int (nI n)] (mm_least hq (by omega) (fun t ht => hpw t (by omega)) (fun t ht => by simp only [bkF]; rw [if_pos ht]; have := hs (n - 1 - t); omega)) rfl (lw_V q271 q273 qs17 q27 q274) (by decide +kernel) rfl ⟨rfl, rfl⟩ ⟨Nat.le_of_ble_eq_true rfl, Nat.le_of_ble_eq_true rfl⟩ rfl rfl (Nat.le_of_ble_eq_true rfl) dX2_complexityBackwards_40 (fun r cl hu => ?_)
      obtain ⟨L, rfl, hLR⟩ := hu
      have hLk := hLR.1.1
      exact hret (bkF s row n n, cl) _ _ _ dX2_complexityBackwards_43 rfl ⟨L, Len_congr (fun j hj => by simp only [bkF]; rw [if_pos hj]) hLR.1, rfl⟩
    · intro i hli hi ih 
      refine r_iload_n C 1 dX2_complexityBackwards_2 rfl ?_
      refine r_aload_n C 0 dX2_complexityBackwards_3 rfl ?_
      refine Mg_n C dX2_complexityBackwards_4 ?_
      refine r_icmp_ge C 35 dX2_complexityBackwards_7 (by decide) (by omega) (by omega) (fun hc7 => absurd hc7 (by omega)) (fun hc7 => ?_)
      refine r_aload_n C 0 dX2_complexityBackwards_10 rfl ?_
      refine Mg_row C dX2_complexityBackwards_11 ?_
      refine r_iload_n C 1 dX2_complexityBackwards_14 rfl ?_
      refine r_aload_n C 0 dX2_complexityBackwards_15 rfl ?_
      refine Mg_s C dX2_complexityBackwards_16 ?_
      refine r_aload_n C 0 dX2_complexityBackwards_19 rfl ?_
      refine Mg_n C dX2_complexityBackwards_20 ?_
      refine r_iconst C (v := nI 1) dX2_complexityBackwards_23 (by decide) ?_
      refine r_isub C dX2_complexityBackwards_24 (by omega) ?_
      refine r_iload_n C 1 dX2_complexityBackwards_25 rfl ?_
      refine r_isub C dX2_complexityBackwards_26 (by omega) ?_
      refine Ml_s C dX2_complexityBackwards_27 (by omega) ?_
      refine Ms_row C dX2_complexityBackwards_28 (by omega) ?_
      refine r_iinc C (k := 1) (v := (nI (i + 1))) (lv' := [(0, .ref (ad 0)), (1, .int (nI (i + 1)))]) [1, 0] dX2_complexityBackwards_29 rfl (nI_inc _) (by decide) rfl ?_
      refine r_goto C 2 dX2_complexityBackwards_32 (by decide) ?_
      rw [bkF_m s row n i hi]
      exact ih
  have hz := lp2 0 (by omega) (by omega)
  rw [bkF_0] at hz
  exact hz
set_option maxHeartbeats 4000000 in
theorem mm_holdsUntil {l : Launch} {D : va_G} {dI : ClassId} {ad : Nat → Nat} {q lim n : Nat} {s row c : Nat → Nat} {k : Int32} (hq : Q3 q) (hsl : n ≤ lim) (hlim : lim ≤ 12) (hs : ∀ j, s j < q) (hpw : ∀ t, t ≤ lim + 1 → q ^ t < 100000) : MI l D [(dI, .int)] yX2_holdsUntil cX2_holdsUntil 4 .int (rmk 4) [.ref (ad 0), .int k] (MW ad dI q lim n s row c) (fun (r : Int32) (u : (Nat → Nat) × (Nat → Nat)) => AHolI q s n k r) (fun u => (MW ad dI q lim n s u.1 u.2)) := by
  refine MI_of RX2 (by decide) rfl (Nat.le_of_ble_eq_true rfl) [(0, .ref (ad 0)), (1, .int k)] rfl ?_
  intro Z C hret
  have hq2 := Q3_2 hq
  have hq5 := Q3_5 hq
  refine r_iload_n C 1 dX2_holdsUntil_0 rfl ?_
  refine r_if_ltI C 12 dX2_holdsUntil_1 (by decide) (fun hc1 => ?_) (fun hc1 => ?_)
  · have hno := no_neg (n := n + 1) (by omega) hc1
    refine r_iconst C (v := -1) dX2_holdsUntil_12 (by decide) ?_
    exact hret (row, c) _ _ _ dX2_holdsUntil_13 rfl (Or.inr ⟨hno, rfl⟩)
  · refine r_iload_n C 1 dX2_holdsUntil_4 rfl ?_
    refine r_aload_n C 0 dX2_holdsUntil_5 rfl ?_
    refine Mg_n C dX2_holdsUntil_6 ?_
    refine r_icmp_leI C 14 dX2_holdsUntil_9 (by decide) (fun hc9 => ?_) (fun hc9 => ?_)
    · obtain ⟨t, ht, rfl⟩ := ix_le (n := n) (by omega) hc1 hc9
      refine r_aload_n C 0 dX2_holdsUntil_14 rfl ?_
      refine r_callv C (ci := 1) (nA := 0) [] (mm_whole (by omega)) rfl (lw_V q303 q305 qs24 q27 q306) (by decide +kernel) rfl ⟨rfl, rfl⟩ ⟨Nat.le_of_ble_eq_true rfl, Nat.le_of_ble_eq_true rfl⟩ rfl rfl (Nat.le_of_ble_eq_true rfl) dX2_holdsUntil_15 (fun u0 hu0 => ?_)
      have hrw : ∀ j, j < n → cpF s row n j = s j := fun j hj => by
        simp only [cpF]
        rw [if_pos hj]
      generalize cpF s row n = rw0 at hrw ⊢
      have hrq : ∀ j, j < n → rw0 j < q := fun j hj => by rw [hrw j hj]; exact hs j
      refine r_aload_n C 0 dX2_holdsUntil_18 rfl ?_
      refine r_iload_n C 1 dX2_holdsUntil_19 rfl ?_
      refine r_calli C (ci := 1) (nA := 1) [.int (nI t)] (mm_least hq (by omega) (fun t ht => hpw t (by omega)) (fun i hi => by have := hrq i (by omega); omega)) rfl (lw_V q271 q273 qs17 q27 q274) (by decide +kernel) rfl ⟨rfl, rfl⟩ ⟨Nat.le_of_ble_eq_true rfl, Nat.le_of_ble_eq_true rfl⟩ rfl rfl (Nat.le_of_ble_eq_true rfl) dX2_holdsUntil_20 (fun r cl hu => ?_)
      obtain ⟨L, rfl, hLR⟩ := hu
      have hLk := hLR.1.1
      have hLs : LR q s t L cl := LR_congr (fun j hj => hrw j (by omega)) (fun _ _ _ => rfl) hLR
      refine r_istore_n C (lv' := [(0, .ref (ad 0)), (1, .int (nI t)), (2, .int (nI L))]) [1, 2, 0] dX2_holdsUntil_23 (by decide) rfl ?_
      refine r_iload_n C 1 dX2_holdsUntil_24 rfl ?_
      refine r_istore_n C (lv' := [(0, .ref (ad 0)), (1, .int (nI t)), (2, .int (nI L)), (3, .int (nI t))]) [1, 2, 3, 0] dX2_holdsUntil_25 (by decide) rfl ?_
      have lp26 : ∀ j, t ≤ j → j ≤ n → ∀ (wv : Nat → Nat), ((∀ i, i < n → wv i = s i) ∧ ∀ i, t ≤ i → i < j → rsum cl s i L % q = s i) → Z (MW ad dI q lim n s wv cl) [(0, .ref (ad 0)), (1, .int (nI t)), (2, .int (nI L)), (3, .int (nI j))] 26 [] := by
        refine nd_lo t n ?_ ?_
        · intro wv hI
          show Z (MW ad dI q lim n s wv cl) [(0, .ref (ad 0)), (1, .int (nI t)), (2, .int (nI L)), (3, .int (nI n))] 26 []
          refine r_iload_n C 3 dX2_holdsUntil_26 rfl ?_
          refine r_aload_n C 0 dX2_holdsUntil_27 rfl ?_
          refine Mg_n C dX2_holdsUntil_28 ?_
          refine r_icmp_ge C 69 dX2_holdsUntil_31 (by decide) (by omega) (by omega) (fun hc31 => ?_) (fun hc31 => absurd hc31 (by omega))
          refine r_aload_n C 0 dX2_holdsUntil_69 rfl ?_
          refine Mg_n C dX2_holdsUntil_70 ?_
          exact hret (wv, cl) _ _ _ dX2_holdsUntil_73 rfl (Or.inl ⟨t, ht, rfl, L, cl, n, hLs, ⟨by omega, Nat.le_refl _, hI.2, fun h => absurd h (by omega)⟩, rfl⟩)
        · intro j hlj hj ih wv hI
          refine r_iload_n C 3 dX2_holdsUntil_26 rfl ?_
          refine r_aload_n C 0 dX2_holdsUntil_27 rfl ?_
          refine Mg_n C dX2_holdsUntil_28 ?_
          refine r_icmp_ge C 69 dX2_holdsUntil_31 (by decide) (by omega) (by omega) (fun hc31 => absurd hc31 (by omega)) (fun hc31 => ?_)
          refine r_aload_n C 0 dX2_holdsUntil_34 rfl ?_
          refine Mg_row C dX2_holdsUntil_35 ?_
          refine r_iload_n C 3 dX2_holdsUntil_38 rfl ?_
          refine r_aload_n C 0 dX2_holdsUntil_39 rfl ?_
          refine r_iload_n C 3 dX2_holdsUntil_40 rfl ?_
          refine r_iload_n C 2 dX2_holdsUntil_41 rfl ?_
          refine r_calli C (ci := 1) (nA := 2) [.int (nI j), .int (nI L)] (mm_sum hq (by omega) (by omega) (by omega) (fun i h1 h2 => by have := hLR.2.1 i h1 h2; omega) (fun i hi => by rw [hI.1 i (by omega)]; have := hs i; omega)) rfl (lw_V q295 q297 qs23 q27 q298) (by decide +kernel) rfl ⟨rfl, rfl⟩ ⟨Nat.le_of_ble_eq_true rfl, Nat.le_of_ble_eq_true rfl⟩ rfl rfl (Nat.le_of_ble_eq_true rfl) dX2_holdsUntil_42 (fun r u0 hu => ?_)
          obtain rfl : _ = _ := hu
          have hsj : rsum cl wv j L = rsum cl s j L := rsum_congr L (fun _ _ _ => rfl) (fun i h1 h2 => hI.1 _ (by omega))
          refine Ms_row C dX2_holdsUntil_45 (by omega) ?_
          refine r_aload_n C 0 dX2_holdsUntil_46 rfl ?_
          refine Mg_row C dX2_holdsUntil_47 ?_
          refine r_iload_n C 3 dX2_holdsUntil_50 rfl ?_
          refine Ml_row C dX2_holdsUntil_51 (by omega) ?_
          refine r_top (b := rsum cl s j L % q) (by rw [va_up_self, hsj]) ?_
          refine r_aload_n C 0 dX2_holdsUntil_52 rfl ?_
          refine Mg_s C dX2_holdsUntil_53 ?_
          refine r_iload_n C 3 dX2_holdsUntil_56 rfl ?_
          refine Ml_s C dX2_holdsUntil_57 (by omega) ?_
          refine r_icmp_eq C 63 dX2_holdsUntil_58 (by decide) (by have := Nat.mod_lt (rsum cl s j L) (show 0 < q by omega); omega) (by have := hs j; omega) (fun hc58 => ?_) (fun hc58 => ?_)
          · refine r_iinc C (k := 3) (v := (nI (j + 1))) (lv' := [(0, .ref (ad 0)), (1, .int (nI t)), (2, .int (nI L)), (3, .int (nI (j + 1)))]) [1, 2, 3, 0] dX2_holdsUntil_63 rfl (nI_inc _) (by decide) rfl ?_
            refine r_goto C 26 dX2_holdsUntil_66 (by decide) ?_
            refine ih _ ⟨fun i hi => ?_, fun i h1 h2 => ?_⟩
            · by_cases h : i = j
              · rw [h, va_up_self, hsj]; exact hc58
              · rw [va_up_ne _ _ h]; exact hI.1 i hi
            · rcases Nat.lt_or_ge i j with h | h
              · exact hI.2 i h1 h
              · rw [show i = j by omega]; exact hc58
          · refine r_iload_n C 3 dX2_holdsUntil_61 rfl ?_
            exact hret (va_up wv j (rsum cl wv j L % q), cl) _ _ _ dX2_holdsUntil_62 rfl (Or.inl ⟨t, ht, rfl, L, cl, j, hLs, ⟨hlj, by omega, hI.2, fun _ => hc58⟩, rfl⟩)
      exact lp26 t (Nat.le_refl _) (by omega) rw0 ⟨hrw, fun i h1 h2 => absurd h2 (by omega)⟩
    · have hno := no_nle (n := n) (by omega) hc9
      refine r_iconst C (v := -1) dX2_holdsUntil_12 (by decide) ?_
      exact hret (row, c) _ _ _ dX2_holdsUntil_13 rfl (Or.inr ⟨hno, rfl⟩)
end
section
/-! constructors: cells are made; ZZ k n: the judgement with k cells of n slots made so far, KK tys: the array classes known -/
set_option maxRecDepth 100000
def Cy (l : Launch) (R : Room) (D : va_G) (own : String) (cc : ByteArray) (nL : Nat) (ZZ : Nat → Nat → zz_J) (KK : List (ClassId × FieldType) → Prop) : Prop :=
  ∃ (p : Program) (e : Env) (s : State) (m : MethodId) (args : Array Value) (below : List Frame) (meth : Method) (c : Code) (A : Nat → Prop) (Q : State → Prop),
    ZZ = (fun k n => zz_at p l e R s m args below meth c D A nL k n Q) ∧ KK = (fun tys => va_K D vwCl tys s) ∧ p.tables.exec = Jvm.exec ∧ c.code = cc ∧ c.maxLocals = nL ∧ s.vm.findClass own = some m.cls ∧ (∀ w ∈ lw_all, w.before args s = true) ∧ (∀ q : Nat, s.heap.size ≤ q → A q) ∧ meth.name = "<init>"
theorem Cy.cx {l : Launch} {R : Room} {D : va_G} {own : String} {cc : ByteArray} {nL : Nat} {ZZ : Nat → Nat → zz_J} {KK : List (ClassId × FieldType) → Prop} (Y : Cy l R D own cc nL ZZ KK) {tys : List (ClassId × FieldType)} (hK : KK tys) {k n : Nat} (hk : k ≤ R.cells) (hn : n ≤ R.slots) : Cx l R D tys own cc nL (ZZ k n) := by
  obtain ⟨p, e, s, m, args, below, meth, c, A, Q, rfl, rfl, hx, hb, hml, hown, hts, hA, hin⟩ := Y
  exact ⟨p, e, s, m, args, below, meth, c, A, k, n, Q, rfl, hx, hb, hml, hown, hts, hK, hA, hk, hn⟩
theorem Cy.same {l : Launch} {R : Room} {D : va_G} {own : String} {cc : ByteArray} {nL : Nat} {ZZ : Nat → Nat → zz_J} {KK : List (ClassId × FieldType) → Prop} (Y : Cy l R D own cc nL ZZ KK) {tys : List (ClassId × FieldType)} (hK : KK tys) {ty : FieldType} (hty : ∀ C, ty ≠ .object C) (i j : Nat) {a b : ClassId} (hi : tys[i]? = some (a, ty)) (hj : tys[j]? = some (b, ty)) : a = b := by
  obtain ⟨p, e, s, m, args, below, meth, c, A, Q, rfl, rfl, hx, hb, hml, hown, hts, hA, hin⟩ := Y
  have h1 := (hK.2 i _ hi).2
  have h2 := (hK.2 j _ hj).2
  cases ty with
  | object C => exact absurd rfl (hty C)
  | _ => exact Option.some.inj (h1.symm.trans h2)
theorem Cy.sub {l : Launch} {R : Room} {D : va_G} {own : String} {cc : ByteArray} {nL : Nat} {ZZ : Nat → Nat → zz_J} {KK : List (ClassId × FieldType) → Prop} (Y : Cy l R D own cc nL ZZ KK) {tys tys' : List (ClassId × FieldType)} (hK : KK tys) (is : List Nat) (hs : is.filterMap (fun i => tys[i]?) = tys') : KK tys' := by
  obtain ⟨p, e, s, m, args, below, meth, c, A, Q, rfl, rfl, hx, hb, hml, hown, hts, hA, hin⟩ := Y
  exact va_K.sub hK is hs
section
variable {l : Launch} {R : Room} {D : va_G} {own : String} {cc : ByteArray} {nL : Nat} {ZZ : Nat → Nat → zz_J} {KK : List (ClassId × FieldType) → Prop} {tys : List (ClassId × FieldType)} {w w' : va_W} {lv : List (Nat × Value)} {pc k n : Nat} {st : List Value}
theorem y_newa (Y : Cy l R D own cc nL ZZ KK) {N : Nat} {a0 : vp_A} {atype : ArrayType} {ty : FieldType} (harr : Cond.arrayClass (newarray.typeOf atype) ∈ lw_all) (hty : newarray.typeOf atype = ty) (hK : KK tys) (ha : ∀ cA : ClassId, vp_cell cA a0 = arrV cA N (fun _ => defaultValue ty)) (hN : N < 2 ^ 31) (hbytes : N * componentBytes ty ≤ 536870912) (hcells : k + 1 ≤ R.cells) (hslots : n + N ≤ R.slots) (hdg : decode cc pc = .ok (.newarray atype, 2))
    (kk : ∀ (q : Nat) (cA : ClassId), KK (tys ++ [(cA, ty)]) → ZZ (k + 1) (n + N) (w ++ [(q, .inl (cA, a0))]) lv (pc + 2) (.ref q :: st)) : ZZ k n w lv pc (.int (nI N) :: st) := by
  obtain ⟨p, e, s, m, args, below, meth, c, A, Q, rfl, rfl, hx, hb, hml, hown, hts, hA, hin⟩ := Y
  intro H locs ls hP hD hS hl
  exact va_newa hx hb (hts _ harr) hty hK hP hD hS hA ha (nI_pos hN) (nI_clamp hN) hbytes hcells hslots hdg (fun q cA H1 hK1 hP1 hD1 hS1 => kk q cA hK1 H1 locs ls hP1 hD1 hS1 hl)
theorem y_putF (Y : Cy l R D own cc nL ZZ KK) (hK : KK tys) {index ci N : Nat} {CC : String} {T : u_T} {a q0 : Nat} {fs : List Value} {v : Value} {ty : FieldType} (f : Nat) (hk : f < N) (hin : ∀ w ∈ u_ws CC T N, w ∈ lw_all) (ty0 : Nat → FieldType) (hty : ∀ k, k < N → parseFieldDescriptor (T k).2.2.1 = some (ty0 k)) (hnm : ∀ a, a < N → ∀ b, b < N → a ≠ b → (T a).2.1 ≠ (T b).2.1) (he : w[q0]? = some (a, .inr (ci, fs))) (hc : vwCl[ci]? = some (CC, T, N)) (hlink : Cond.fieldLink own index (T f).1 (T f).2.1 (T f).2.2.1 ∈ lw_all) (hfin : (T f).2.2.2 = true) (hdecl : (T f).1 = own) (hd : parseFieldDescriptor (T f).2.2.1 = some ty) (hn : narrow ty v = v) (hfit : fits ty v = true) (hl' : f < fs.length) (hw : w.set q0 (a, .inr (ci, fs.set f v)) = w') (hdg : decode cc pc = .ok (.putfield index, 3)) (kk : ZZ k n w' lv (pc + 3) st) : ZZ k n w lv pc (v :: .ref a :: st) := by
  obtain ⟨p, e, s, m, args, below, meth, c, A, Q, rfl, rfl, hx, hb, hml, hown, hts, hA, hin2⟩ := Y
  intro H locs ls hP hD hS hl
  subst hw
  exact va_putF hx hb hts hin ty0 hty hnm hown hK hP hD hS q0 he hc f hk (hts _ hlink) (fun _ h => h) hfin hin2 hdecl hd hn hfit hl' hdg (fun H1 locs1 hP1 hD1 hS1 => kk H1 locs1 ls hP1 hD1 hS1 hl)
theorem y_obj (Y : Cy l R D own cc nL ZZ KK) {idx a : Nat} (h1 : Cond.methodLink own idx Lib.objectInit ∈ lw_all) (h2 : Cond.instanceMethod Lib.objectInit ∈ lw_all) (h3 : Cond.code Lib.objectInit ⟨#[0xb1]⟩ 1 none ∈ lw_all) (hd : decode cc pc = .ok (.invokespecial idx, 3)) (hfr : 1 ≤ R.frames) (hlo : 12 ≤ R.locals) (kk : ZZ k n w lv (pc + 3) []) : ZZ k n w lv pc [.ref a] := by
  obtain ⟨p, e, s, m, args, below, meth, c, A, Q, rfl, rfl, hx, hb, hml, hown, hts, hA, hin2⟩ := Y
  intro H locs ls hP hD hS hl
  exact W.objInit hx hb hown (hts _ h1) (hts _ h2) (hts _ h3) rfl (by rw [hml]; exact hl.1) rfl hd hfr hlo (kk H locs ls hP hD hS hl)
end
def MC (l : Launch) (D : va_G) (y : MethodName) (bytes : ByteArray) (maxL : Nat) (rm : Room) (mc ms : Nat) (av : List Value) (w : va_W) {S : Type} (post : S → Prop) (w' : S → va_W) (ty : S → List (ClassId × FieldType)) : Prop :=
  ∀ sz : Nat, Met l y (ws_ y bytes maxL none) rm (va_Pc av (fun U => U.heap.size = sz ∧ va_P D vwCl w U.heap ∧ va_K D vwCl [] U ∧ va_D (fun _ => True) w)) (va_Qv post (fun u t => va_P D vwCl (w' u) t.heap ∧ va_K D vwCl (ty u) t ∧ va_D (va_A w sz) (w' u)) (va_A w sz)) mc ms (va_A w sz)
theorem MC_of {l : Launch} {D : va_G} {y : MethodName} {bytes : ByteArray} {maxL : Nat} {rm : Room} {mc ms : Nat} {av : List Value} {w : va_W} {S : Type} {post : S → Prop} {w' : S → va_W} {ty : S → List (ClassId × FieldType)} (own : String) (hy : plainName y.cls = true) (ho : y.cls = own) (hn : y.name = "<init>") (hav : (lg_sl av).length ≤ maxL) (lv : List (Nat × Value)) (hlv : lv_args 0 av = lv)
    (h : ∀ (ZZ : Nat → Nat → zz_J) (KK : List (ClassId × FieldType) → Prop), Cy l rm D own bytes maxL ZZ KK → KK [] → (∀ (u : S) (lv : List (Nat × Value)) (pc : Nat), decode bytes pc = .ok (.return_, 1) → post u → KK (ty u) → ZZ mc ms (w' u) lv pc []) → ZZ 0 0 w lv 0 []) : MC l D y bytes maxL rm mc ms av w post w' ty := by
  intro sz
  refine Met.ofW (cc := bytes) (maxL := maxL) (ret := none) hy rfl ?_
  intro p e s m args below meth c s₁ B hml hv
  obtain ⟨rfl, hsz, hP, hK, hD0⟩ := hv
  have hts := atoms_spec (ws := ws_ y bytes maxL none) B.pre
  have hts : ∀ w ∈ lw_all, w.before _ s = true := fun w h => hts w (List.mem_cons_of_mem _ h)
  have hown : s.vm.findClass y.cls = some m.cls := findClass_of_methodNamed B.named
  rw [ho] at hown
  have hin : meth.name = "<init>" := (name_of_methodNamed B.named B.method).1.trans hn
  have hlocks := B.notSynchronized
  subst hsz
  have hD := hD0.self (sz := s.heap.size)
  generalize hAe : va_A w s.heap.size = A at hD ⊢
  have hA : ∀ q : Nat, s.heap.size ≤ q → A q := fun q h => by rw [← hAe]; exact Or.inr h
  have hl := lv_entry av (n := maxL) hav
  rw [lg_entry_eq]
  rw [hlv] at hl
  exact h (fun k n => zz_at p l e rm s m av.toArray below meth c D A maxL k n (MQ below (va_Qv post (fun u t => va_P D vwCl (w' u) t.heap ∧ va_K D vwCl (ty u) t ∧ va_D A (w' u)) A) av.toArray s mc ms A)) (fun tys => va_K D vwCl tys s) ⟨p, e, s, m, av.toArray, below, meth, c, A, _, rfl, rfl, B.exec, B.bytes, hml, hown, hts, hA, hin⟩ hK
    (fun u lv pc hdg hp hK2 H locs ls hP hD hS hl => W.vret B.exec B.bytes B.returns (fun t ht hW => ⟨⟨u, rfl, hp, by rw [ht]; exact hP, va_K.moved hW.alike hK2, hD⟩, hS.F ht⟩) hS.2.2 hdg hlocks)
    s.heap [] _ hP hD va_S.rf hl
theorem r_sipush {l : Launch} {R : Room} {D : va_G} {tys : List (ClassId × FieldType)} {own : String} {cc : ByteArray} {nL : Nat} {Z : zz_J} {w : va_W} {lv : List (Nat × Value)} {pc : Nat} {st : List Value} (C : Cx l R D tys own cc nL Z) {n : Int} {v : Int32} (hdg : decode cc pc = .ok (.sipush n, 3)) (hv : (Int16.ofInt n).toInt32 = v) (kk : Z w lv (pc + 3) (.int v :: st)) : Z w lv pc st := by
  obtain ⟨p, e, s, m, args, below, meth, c, A, cells, slots, Q, rfl, hx, hb, hml, hown, hts, hK, hA, hc, hs⟩ := C
  intro H locs ls hP hD hS hl
  exact lv_sipush hx hb hdg hv (kk H locs ls hP hD hS hl)
/-- the choice of q and the limit -/
def qOf (ch : Int32) : Nat := if 0 < ch then (if ch = 1 then 3 else 5) else 2
def limOf (ch : Int32) : Nat := if 0 < ch then (if ch = 1 then 7 else 5) else 12
def ad9 (a0 a1 a2 a3 a4 a5 a6 a7 a8 : Nat) : Nat → Nat := fun i => ([a0, a1, a2, a3, a4, a5, a6, a7, a8] : List Nat).getD i 0
def LI0 : LI := (0, 0, 0, 0, 0, fun _ => 0, fun _ => 0, fun _ => 0, fun _ => 0, fun _ _ => 0, fun _ => 1, fun _ => 0)
theorem new_b (N : Nat) (cA : ClassId) : vp_cell cA (N, .inl (fun _ => nI 0)) = arrV cA N (fun _ => defaultValue .byte) := by
  rw [vp_cell_i, nI_0]; rfl
theorem new_p (N : Nat) (cA : ClassId) : vp_cell cA (N, .inl (fun _ => nI 1 - 1)) = arrV cA N (fun _ => defaultValue .byte) := by
  rw [vp_cell_i, show nI 1 - 1 = (0 : Int32) by decide]; rfl
theorem new_i (N : Nat) (cA : ClassId) : vp_cell cA (N, .inl (fun _ => nI 0)) = arrV cA N (fun _ => defaultValue .int) := by
  rw [vp_cell_i, nI_0]; rfl
set_option maxHeartbeats 4000000 in
theorem m_init {l : Launch} {D : va_G} {h0 : Nat} {ch : Int32} : MC l D yX1_init cX1_init 2 { frames := 1, cells := 8, slots := 396, locals := 40 } 8 396 [.ref h0, .int ch] [(h0, .inr (0, [.int (nI 0), .int (nI 0), .null, .int (nI 0), .null, .int (nI 0), .null, .null, .null, .null, .int (nI 0), .int (nI 0), .int (nI 0), .null, .int (nI 0), .null]))] (fun (u : (Nat → Nat) × ClassId) => u.1 0 = h0) (fun u => LX u.1 u.2 (qOf ch) (limOf ch) 0 (fun _ => 0) LI0) (fun u => [(u.2, .byte)]) := by
  refine MC_of RX1 (by decide) rfl rfl (Nat.le_of_ble_eq_true rfl) [(0, .ref h0), (1, .int ch)] rfl ?_
  intro ZZ KK Y hK0 hret
  refine r_aload_n (Y.cx hK0 (Nat.zero_le _) (Nat.zero_le _)) 0 dX1_init_0 rfl ?_
  refine y_obj Y q33 q34 q35 dX1_init_1 (Nat.le_refl _) (Nat.le_of_ble_eq_true rfl) ?_
  refine r_aload_n (Y.cx hK0 (Nat.le_of_ble_eq_true rfl) (Nat.le_of_ble_eq_true rfl)) 0 dX1_init_4 rfl ?_
  refine r_bipush (Y.cx hK0 (Nat.le_of_ble_eq_true rfl) (Nat.le_of_ble_eq_true rfl)) (v := nI 12) dX1_init_5 (by decide) ?_
  refine y_newa Y (N := 12) (a0 := (12, .inl (fun _ => nI 0))) (atype := .byte) (ty := .byte) q85 rfl hK0 (new_b 12) (by decide) (by decide) (Nat.le_of_ble_eq_true rfl) (Nat.le_of_ble_eq_true rfl) dX1_init_7 (fun a1 c1 hK1 => ?_)
  refine y_putF Y hK1 (q0 := 0) (ci := 0) (w' := [(h0, .inr (0, [.int (nI 0), .int (nI 0), .ref a1, .int (nI 0), .null, .int (nI 0), .null, .null, .null, .null, .int (nI 0), .int (nI 0), .int (nI 0), .null, .int (nI 0), .null])), (a1, .inl (c1, 12, .inl (fun _ => nI 0)))]) (ty := .array .byte) 2 (by decide) in_X1 tyX1 tyX1_ok nmX1 rfl rfl q38 rfl rfl (by decide +kernel) rfl rfl (Nat.le_of_ble_eq_true rfl) rfl dX1_init_9 ?_
  refine r_aload_n (Y.cx hK1 (Nat.le_of_ble_eq_true rfl) (Nat.le_of_ble_eq_true rfl)) 0 dX1_init_12 rfl ?_
  refine r_bipush (Y.cx hK1 (Nat.le_of_ble_eq_true rfl) (Nat.le_of_ble_eq_true rfl)) (v := nI 64) dX1_init_13 (by decide) ?_
  refine y_newa Y (N := 64) (a0 := (64, .inl (fun _ => nI 0))) (atype := .byte) (ty := .byte) q85 rfl hK1 (new_b 64) (by decide) (by decide) (Nat.le_of_ble_eq_true rfl) (Nat.le_of_ble_eq_true rfl) dX1_init_15 (fun a2 c2 hK2 => ?_)
  have e2 : c2 = c1 := Y.same hK2 (fun _ h => by cases h) 1 0 rfl rfl
  subst c2
  refine y_putF Y hK2 (q0 := 0) (ci := 0) (w' := [(h0, .inr (0, [.int (nI 0), .int (nI 0), .ref a1, .int (nI 0), .ref a2, .int (nI 0), .null, .null, .null, .null, .int (nI 0), .int (nI 0), .int (nI 0), .null, .int (nI 0), .null])), (a1, .inl (c1, 12, .inl (fun _ => nI 0))), (a2, .inl (c1, 64, .inl (fun _ => nI 0)))]) (ty := .array .byte) 4 (by decide) in_X1 tyX1 tyX1_ok nmX1 rfl rfl q40 rfl rfl (by decide +kernel) rfl rfl (Nat.le_of_ble_eq_true rfl) rfl dX1_init_17 ?_
  refine r_aload_n (Y.cx hK2 (Nat.le_of_ble_eq_true rfl) (Nat.le_of_ble_eq_true rfl)) 0 dX1_init_20 rfl ?_
  refine r_bipush (Y.cx hK2 (Nat.le_of_ble_eq_true rfl) (Nat.le_of_ble_eq_true rfl)) (v := nI 32) dX1_init_21 (by decide) ?_
  refine y_newa Y (N := 32) (a0 := (32, .inl (fun _ => nI 0))) (atype := .byte) (ty := .byte) q85 rfl hK2 (new_b 32) (by decide) (by decide) (Nat.le_of_ble_eq_true rfl) (Nat.le_of_ble_eq_true rfl) dX1_init_23 (fun a3 c3 hK3 => ?_)
  have e3 : c3 = c1 := Y.same hK3 (fun _ h => by cases h) 2 0 rfl rfl
  subst c3
  refine y_putF Y hK3 (q0 := 0) (ci := 0) (w' := [(h0, .inr (0, [.int (nI 0), .int (nI 0), .ref a1, .int (nI 0), .ref a2, .int (nI 0), .ref a3, .null, .null, .null, .int (nI 0), .int (nI 0), .int (nI 0), .null, .int (nI 0), .null])), (a1, .inl (c1, 12, .inl (fun _ => nI 0))), (a2, .inl (c1, 64, .inl (fun _ => nI 0))), (a3, .inl (c1, 32, .inl (fun _ => nI 0)))]) (ty := .array .byte) 6 (by decide) in_X1 tyX1 tyX1_ok nmX1 rfl rfl q42 rfl rfl (by decide +kernel) rfl rfl (Nat.le_of_ble_eq_true rfl) rfl dX1_init_25 ?_
  refine r_aload_n (Y.cx hK3 (Nat.le_of_ble_eq_true rfl) (Nat.le_of_ble_eq_true rfl)) 0 dX1_init_28 rfl ?_
  refine r_bipush (Y.cx hK3 (Nat.le_of_ble_eq_true rfl) (Nat.le_of_ble_eq_true rfl)) (v := nI 32) dX1_init_29 (by decide) ?_
  refine y_newa Y (N := 32) (a0 := (32, .inl (fun _ => nI 0))) (atype := .byte) (ty := .byte) q85 rfl hK3 (new_b 32) (by decide) (by decide) (Nat.le_of_ble_eq_true rfl) (Nat.le_of_ble_eq_true rfl) dX1_init_31 (fun a4 c4 hK4 => ?_)
  have e4 : c4 = c1 := Y.same hK4 (fun _ h => by cases h) 3 0 rfl rfl
  subst c4
  refine y_putF Y hK4 (q0 := 0) (ci := 0) (w' := [(h0, .inr (0, [.int (nI 0), .int (nI 0), .ref a1, .int (nI 0), .ref a2, .int (nI 0), .ref a3, .ref a4, .null, .null, .int (nI 0), .int (nI 0), .int (nI 0), .null, .int (nI 0), .null])), (a1, .inl (c1, 12, .inl (fun _ => nI 0))), (a2, .inl (c1, 64, .inl (fun _ => nI 0))), (a3, .inl (c1, 32, .inl (fun _ => nI 0))), (a4, .inl (c1, 32, .inl (fun _ => nI 0)))]) (ty := .array .byte) 7 (by decide) in_X1 tyX1 tyX1_ok nmX1 rfl rfl q43 rfl rfl (by decide +kernel) rfl rfl (Nat.le_of_ble_eq_true rfl) rfl dX1_init_33 ?_
  refine r_aload_n (Y.cx hK4 (Nat.le_of_ble_eq_true rfl) (Nat.le_of_ble_eq_true rfl)) 0 dX1_init_36 rfl ?_
  refine r_bipush (Y.cx hK4 (Nat.le_of_ble_eq_true rfl) (Nat.le_of_ble_eq_true rfl)) (v := nI 32) dX1_init_37 (by decide) ?_
  refine y_newa Y (N := 32) (a0 := (32, .inl (fun _ => nI 0))) (atype := .byte) (ty := .byte) q85 rfl hK4 (new_b 32) (by decide) (by decide) (Nat.le_of_ble_eq_true rfl) (Nat.le_of_ble_eq_true rfl) dX1_init_39 (fun a5 c5 hK5 => ?_)
  have e5 : c5 = c1 := Y.same hK5 (fun _ h => by cases h) 4 0 rfl rfl
  subst c5
  refine y_putF Y hK5 (q0 := 0) (ci := 0) (w' := [(h0, .inr (0, [.int (nI 0), .int (nI 0), .ref a1, .int (nI 0), .ref a2, .int (nI 0), .ref a3, .ref a4, .ref a5, .null, .int (nI 0), .int (nI 0), .int (nI 0), .null, .int (nI 0), .null])), (a1, .inl (c1, 12, .inl (fun _ => nI 0))), (a2, .inl (c1, 64, .inl (fun _ => nI 0))), (a3, .inl (c1, 32, .inl (fun _ => nI 0))), (a4, .inl (c1, 32, .inl (fun _ => nI 0))), (a5, .inl (c1, 32, .inl (fun _ => nI 0)))]) (ty := .array .byte) 8 (by decide) in_X1 tyX1 tyX1_ok nmX1 rfl rfl q44 rfl rfl (by decide +kernel) rfl rfl (Nat.le_of_ble_eq_true rfl) rfl dX1_init_41 ?_
  refine r_aload_n (Y.cx hK5 (Nat.le_of_ble_eq_true rfl) (Nat.le_of_ble_eq_true rfl)) 0 dX1_init_44 rfl ?_
  refine r_sipush (Y.cx hK5 (Nat.le_of_ble_eq_true rfl) (Nat.le_of_ble_eq_true rfl)) (v := nI 196) dX1_init_45 (by decide) ?_
  refine y_newa Y (N := 196) (a0 := (196, .inl (fun _ => nI 0))) (atype := .byte) (ty := .byte) q85 rfl hK5 (new_b 196) (by decide) (by decide) (Nat.le_of_ble_eq_true rfl) (Nat.le_of_ble_eq_true rfl) dX1_init_48 (fun a6 c6 hK6 => ?_)
  have e6 : c6 = c1 := Y.same hK6 (fun _ h => by cases h) 5 0 rfl rfl
  subst c6
  refine y_putF Y hK6 (q0 := 0) (ci := 0) (w' := [(h0, .inr (0, [.int (nI 0), .int (nI 0), .ref a1, .int (nI 0), .ref a2, .int (nI 0), .ref a3, .ref a4, .ref a5, .ref a6, .int (nI 0), .int (nI 0), .int (nI 0), .null, .int (nI 0), .null])), (a1, .inl (c1, 12, .inl (fun _ => nI 0))), (a2, .inl (c1, 64, .inl (fun _ => nI 0))), (a3, .inl (c1, 32, .inl (fun _ => nI 0))), (a4, .inl (c1, 32, .inl (fun _ => nI 0))), (a5, .inl (c1, 32, .inl (fun _ => nI 0))), (a6, .inl (c1, 196, .inl (fun _ => nI 0)))]) (ty := .array .byte) 9 (by decide) in_X1 tyX1 tyX1_ok nmX1 rfl rfl q45 rfl rfl (by decide +kernel) rfl rfl (Nat.le_of_ble_eq_true rfl) rfl dX1_init_50 ?_
  refine r_aload_n (Y.cx hK6 (Nat.le_of_ble_eq_true rfl) (Nat.le_of_ble_eq_true rfl)) 0 dX1_init_53 rfl ?_
  refine r_bipush (Y.cx hK6 (Nat.le_of_ble_eq_true rfl) (Nat.le_of_ble_eq_true rfl)) (v := nI 14) dX1_init_54 (by decide) ?_
  refine y_newa Y (N := 14) (a0 := (14, .inl (fun _ => nI 1 - 1))) (atype := .byte) (ty := .byte) q85 rfl hK6 (new_p 14) (by decide) (by decide) (Nat.le_of_ble_eq_true rfl) (Nat.le_of_ble_eq_true rfl) dX1_init_56 (fun a7 c7 hK7 => ?_)
  have e7 : c7 = c1 := Y.same hK7 (fun _ h => by cases h) 6 0 rfl rfl
  subst c7
  refine y_putF Y hK7 (q0 := 0) (ci := 0) (w' := [(h0, .inr (0, [.int (nI 0), .int (nI 0), .ref a1, .int (nI 0), .ref a2, .int (nI 0), .ref a3, .ref a4, .ref a5, .ref a6, .int (nI 0), .int (nI 0), .int (nI 0), .ref a7, .int (nI 0), .null])), (a1, .inl (c1, 12, .inl (fun _ => nI 0))), (a2, .inl (c1, 64, .inl (fun _ => nI 0))), (a3, .inl (c1, 32, .inl (fun _ => nI 0))), (a4, .inl (c1, 32, .inl (fun _ => nI 0))), (a5, .inl (c1, 32, .inl (fun _ => nI 0))), (a6, .inl (c1, 196, .inl (fun _ => nI 0))), (a7, .inl (c1, 14, .inl (fun _ => nI 1 - 1)))]) (ty := .array .byte) 13 (by decide) in_X1 tyX1 tyX1_ok nmX1 rfl rfl q49 rfl rfl (by decide +kernel) rfl rfl (Nat.le_of_ble_eq_true rfl) rfl dX1_init_58 ?_
  refine r_aload_n (Y.cx hK7 (Nat.le_of_ble_eq_true rfl) (Nat.le_of_ble_eq_true rfl)) 0 dX1_init_61 rfl ?_
  refine r_bipush (Y.cx hK7 (Nat.le_of_ble_eq_true rfl) (Nat.le_of_ble_eq_true rfl)) (v := nI 14) dX1_init_62 (by decide) ?_
  refine y_newa Y (N := 14) (a0 := (14, .inl (fun _ => nI 0))) (atype := .byte) (ty := .byte) q85 rfl hK7 (new_b 14) (by decide) (by decide) (Nat.le_of_ble_eq_true rfl) (Nat.le_of_ble_eq_true rfl) dX1_init_64 (fun a8 c8 hK8 => ?_)
  have e8 : c8 = c1 := Y.same hK8 (fun _ h => by cases h) 7 0 rfl rfl
  subst c8
  refine y_putF Y hK8 (q0 := 0) (ci := 0) (w' := [(h0, .inr (0, [.int (nI 0), .int (nI 0), .ref a1, .int (nI 0), .ref a2, .int (nI 0), .ref a3, .ref a4, .ref a5, .ref a6, .int (nI 0), .int (nI 0), .int (nI 0), .ref a7, .int (nI 0), .ref a8])), (a1, .inl (c1, 12, .inl (fun _ => nI 0))), (a2, .inl (c1, 64, .inl (fun _ => nI 0))), (a3, .inl (c1, 32, .inl (fun _ => nI 0))), (a4, .inl (c1, 32, .inl (fun _ => nI 0))), (a5, .inl (c1, 32, .inl (fun _ => nI 0))), (a6, .inl (c1, 196, .inl (fun _ => nI 0))), (a7, .inl (c1, 14, .inl (fun _ => nI 1 - 1))), (a8, .inl (c1, 14, .inl (fun _ => nI 0)))]) (ty := .array .byte) 15 (by decide) in_X1 tyX1 tyX1_ok nmX1 rfl rfl q51 rfl rfl (by decide +kernel) rfl rfl (Nat.le_of_ble_eq_true rfl) rfl dX1_init_66 ?_
  refine r_iload_n (Y.cx hK8 (Nat.le_of_ble_eq_true rfl) (Nat.le_of_ble_eq_true rfl)) 1 dX1_init_69 rfl ?_
  refine r_if_gtI (Y.cx hK8 (Nat.le_of_ble_eq_true rfl) (Nat.le_of_ble_eq_true rfl)) 87 dX1_init_70 (by decide) (fun hc70 => ?_) (fun hc70 => ?_)
  · refine r_iload_n (Y.cx hK8 (Nat.le_of_ble_eq_true rfl) (Nat.le_of_ble_eq_true rfl)) 1 dX1_init_87 rfl ?_
    refine r_iconst (Y.cx hK8 (Nat.le_of_ble_eq_true rfl) (Nat.le_of_ble_eq_true rfl)) (v := 1) dX1_init_88 (by decide) ?_
    refine r_icmp_neI (Y.cx hK8 (Nat.le_of_ble_eq_true rfl) (Nat.le_of_ble_eq_true rfl)) 106 dX1_init_89 (by decide) (fun hc89 => ?_) (fun hc89 => ?_)
    · refine r_aload_n (Y.cx hK8 (Nat.le_of_ble_eq_true rfl) (Nat.le_of_ble_eq_true rfl)) 0 dX1_init_106 rfl ?_
      refine r_iconst (Y.cx hK8 (Nat.le_of_ble_eq_true rfl) (Nat.le_of_ble_eq_true rfl)) (v := nI 5) dX1_init_107 (by decide) ?_
      refine y_putF Y hK8 (q0 := 0) (ci := 0) (w' := [(h0, .inr (0, [.int (nI 5), .int (nI 0), .ref a1, .int (nI 0), .ref a2, .int (nI 0), .ref a3, .ref a4, .ref a5, .ref a6, .int (nI 0), .int (nI 0), .int (nI 0), .ref a7, .int (nI 0), .ref a8])), (a1, .inl (c1, 12, .inl (fun _ => nI 0))), (a2, .inl (c1, 64, .inl (fun _ => nI 0))), (a3, .inl (c1, 32, .inl (fun _ => nI 0))), (a4, .inl (c1, 32, .inl (fun _ => nI 0))), (a5, .inl (c1, 32, .inl (fun _ => nI 0))), (a6, .inl (c1, 196, .inl (fun _ => nI 0))), (a7, .inl (c1, 14, .inl (fun _ => nI 1 - 1))), (a8, .inl (c1, 14, .inl (fun _ => nI 0)))]) (ty := .int) 0 (by decide) in_X1 tyX1 tyX1_ok nmX1 rfl rfl q36 rfl rfl (by decide +kernel) rfl rfl (Nat.le_of_ble_eq_true rfl) rfl dX1_init_108 ?_
      refine r_aload_n (Y.cx hK8 (Nat.le_of_ble_eq_true rfl) (Nat.le_of_ble_eq_true rfl)) 0 dX1_init_111 rfl ?_
      refine r_iconst (Y.cx hK8 (Nat.le_of_ble_eq_true rfl) (Nat.le_of_ble_eq_true rfl)) (v := nI 5) dX1_init_112 (by decide) ?_
      refine y_putF Y hK8 (q0 := 0) (ci := 0) (w' := [(h0, .inr (0, [.int (nI 5), .int (nI 5), .ref a1, .int (nI 0), .ref a2, .int (nI 0), .ref a3, .ref a4, .ref a5, .ref a6, .int (nI 0), .int (nI 0), .int (nI 0), .ref a7, .int (nI 0), .ref a8])), (a1, .inl (c1, 12, .inl (fun _ => nI 0))), (a2, .inl (c1, 64, .inl (fun _ => nI 0))), (a3, .inl (c1, 32, .inl (fun _ => nI 0))), (a4, .inl (c1, 32, .inl (fun _ => nI 0))), (a5, .inl (c1, 32, .inl (fun _ => nI 0))), (a6, .inl (c1, 196, .inl (fun _ => nI 0))), (a7, .inl (c1, 14, .inl (fun _ => nI 1 - 1))), (a8, .inl (c1, 14, .inl (fun _ => nI 0)))]) (ty := .int) 1 (by decide) in_X1 tyX1 tyX1_ok nmX1 rfl rfl q37 rfl rfl (by decide +kernel) rfl rfl (Nat.le_of_ble_eq_true rfl) rfl dX1_init_113 ?_
      have eq0 : qOf ch = 5 := by unfold qOf; rw [if_pos hc70, if_neg hc89]
      have el0 : limOf ch = 5 := by unfold limOf; rw [if_pos hc70, if_neg hc89]
      have hz := hret (ad9 h0 a1 a2 a3 a4 a5 a6 a7 a8, c1) [(0, .ref h0), (1, .int ch)] 116 dX1_init_116 rfl (Y.sub hK8 [0] rfl)
      rw [eq0, el0] at hz
      exact hz
    · refine r_aload_n (Y.cx hK8 (Nat.le_of_ble_eq_true rfl) (Nat.le_of_ble_eq_true rfl)) 0 dX1_init_92 rfl ?_
      refine r_iconst (Y.cx hK8 (Nat.le_of_ble_eq_true rfl) (Nat.le_of_ble_eq_true rfl)) (v := nI 3) dX1_init_93 (by decide) ?_
      refine y_putF Y hK8 (q0 := 0) (ci := 0) (w' := [(h0, .inr (0, [.int (nI 3), .int (nI 0), .ref a1, .int (nI 0), .ref a2, .int (nI 0), .ref a3, .ref a4, .ref a5, .ref a6, .int (nI 0), .int (nI 0), .int (nI 0), .ref a7, .int (nI 0), .ref a8])), (a1, .inl (c1, 12, .inl (fun _ => nI 0))), (a2, .inl (c1, 64, .inl (fun _ => nI 0))), (a3, .inl (c1, 32, .inl (fun _ => nI 0))), (a4, .inl (c1, 32, .inl (fun _ => nI 0))), (a5, .inl (c1, 32, .inl (fun _ => nI 0))), (a6, .inl (c1, 196, .inl (fun _ => nI 0))), (a7, .inl (c1, 14, .inl (fun _ => nI 1 - 1))), (a8, .inl (c1, 14, .inl (fun _ => nI 0)))]) (ty := .int) 0 (by decide) in_X1 tyX1 tyX1_ok nmX1 rfl rfl q36 rfl rfl (by decide +kernel) rfl rfl (Nat.le_of_ble_eq_true rfl) rfl dX1_init_94 ?_
      refine r_aload_n (Y.cx hK8 (Nat.le_of_ble_eq_true rfl) (Nat.le_of_ble_eq_true rfl)) 0 dX1_init_97 rfl ?_
      refine r_bipush (Y.cx hK8 (Nat.le_of_ble_eq_true rfl) (Nat.le_of_ble_eq_true rfl)) (v := nI 7) dX1_init_98 (by decide) ?_
      refine y_putF Y hK8 (q0 := 0) (ci := 0) (w' := [(h0, .inr (0, [.int (nI 3), .int (nI 7), .ref a1, .int (nI 0), .ref a2, .int (nI 0), .ref a3, .ref a4, .ref a5, .ref a6, .int (nI 0), .int (nI 0), .int (nI 0), .ref a7, .int (nI 0), .ref a8])), (a1, .inl (c1, 12, .inl (fun _ => nI 0))), (a2, .inl (c1, 64, .inl (fun _ => nI 0))), (a3, .inl (c1, 32, .inl (fun _ => nI 0))), (a4, .inl (c1, 32, .inl (fun _ => nI 0))), (a5, .inl (c1, 32, .inl (fun _ => nI 0))), (a6, .inl (c1, 196, .inl (fun _ => nI 0))), (a7, .inl (c1, 14, .inl (fun _ => nI 1 - 1))), (a8, .inl (c1, 14, .inl (fun _ => nI 0)))]) (ty := .int) 1 (by decide) in_X1 tyX1 tyX1_ok nmX1 rfl rfl q37 rfl rfl (by decide +kernel) rfl rfl (Nat.le_of_ble_eq_true rfl) rfl dX1_init_100 ?_
      refine r_goto (Y.cx hK8 (Nat.le_of_ble_eq_true rfl) (Nat.le_of_ble_eq_true rfl)) 116 dX1_init_103 (by decide) ?_
      have eq0 : qOf ch = 3 := by unfold qOf; rw [if_pos hc70, if_pos hc89]
      have el0 : limOf ch = 7 := by unfold limOf; rw [if_pos hc70, if_pos hc89]
      have hz := hret (ad9 h0 a1 a2 a3 a4 a5 a6 a7 a8, c1) [(0, .ref h0), (1, .int ch)] 116 dX1_init_116 rfl (Y.sub hK8 [0] rfl)
      rw [eq0, el0] at hz
      exact hz
  · refine r_aload_n (Y.cx hK8 (Nat.le_of_ble_eq_true rfl) (Nat.le_of_ble_eq_true rfl)) 0 dX1_init_73 rfl ?_
    refine r_iconst (Y.cx hK8 (Nat.le_of_ble_eq_true rfl) (Nat.le_of_ble_eq_true rfl)) (v := nI 2) dX1_init_74 (by decide) ?_
    refine y_putF Y hK8 (q0 := 0) (ci := 0) (w' := [(h0, .inr (0, [.int (nI 2), .int (nI 0), .ref a1, .int (nI 0), .ref a2, .int (nI 0), .ref a3, .ref a4, .ref a5, .ref a6, .int (nI 0), .int (nI 0), .int (nI 0), .ref a7, .int (nI 0), .ref a8])), (a1, .inl (c1, 12, .inl (fun _ => nI 0))), (a2, .inl (c1, 64, .inl (fun _ => nI 0))), (a3, .inl (c1, 32, .inl (fun _ => nI 0))), (a4, .inl (c1, 32, .inl (fun _ => nI 0))), (a5, .inl (c1, 32, .inl (fun _ => nI 0))), (a6, .inl (c1, 196, .inl (fun _ => nI 0))), (a7, .inl (c1, 14, .inl (fun _ => nI 1 - 1))), (a8, .inl (c1, 14, .inl (fun _ => nI 0)))]) (ty := .int) 0 (by decide) in_X1 tyX1 tyX1_ok nmX1 rfl rfl q36 rfl rfl (by decide +kernel) rfl rfl (Nat.le_of_ble_eq_true rfl) rfl dX1_init_75 ?_
    refine r_aload_n (Y.cx hK8 (Nat.le_of_ble_eq_true rfl) (Nat.le_of_ble_eq_true rfl)) 0 dX1_init_78 rfl ?_
    refine r_bipush (Y.cx hK8 (Nat.le_of_ble_eq_true rfl) (Nat.le_of_ble_eq_true rfl)) (v := nI 12) dX1_init_79 (by decide) ?_
    refine y_putF Y hK8 (q0 := 0) (ci := 0) (w' := [(h0, .inr (0, [.int (nI 2), .int (nI 12), .ref a1, .int (nI 0), .ref a2, .int (nI 0), .ref a3, .ref a4, .ref a5, .ref a6, .int (nI 0), .int (nI 0), .int (nI 0), .ref a7, .int (nI 0), .ref a8])), (a1, .inl (c1, 12, .inl (fun _ => nI 0))), (a2, .inl (c1, 64, .inl (fun _ => nI 0))), (a3, .inl (c1, 32, .inl (fun _ => nI 0))), (a4, .inl (c1, 32, .inl (fun _ => nI 0))), (a5, .inl (c1, 32, .inl (fun _ => nI 0))), (a6, .inl (c1, 196, .inl (fun _ => nI 0))), (a7, .inl (c1, 14, .inl (fun _ => nI 1 - 1))), (a8, .inl (c1, 14, .inl (fun _ => nI 0)))]) (ty := .int) 1 (by decide) in_X1 tyX1 tyX1_ok nmX1 rfl rfl q37 rfl rfl (by decide +kernel) rfl rfl (Nat.le_of_ble_eq_true rfl) rfl dX1_init_81 ?_
    refine r_goto (Y.cx hK8 (Nat.le_of_ble_eq_true rfl) (Nat.le_of_ble_eq_true rfl)) 116 dX1_init_84 (by decide) ?_
    have eq0 : qOf ch = 2 := by unfold qOf; rw [if_neg hc70]
    have el0 : limOf ch = 12 := by unfold limOf; rw [if_neg hc70]
    have hz := hret (ad9 h0 a1 a2 a3 a4 a5 a6 a7 a8, c1) [(0, .ref h0), (1, .int ch)] 116 dX1_init_116 rfl (Y.sub hK8 [0] rfl)
    rw [eq0, el0] at hz
    exact hz
set_option maxHeartbeats 4000000 in
theorem mm_init {l : Launch} {D : va_G} {h0 : Nat} {ch : Int32} : MC l D yX2_init cX2_init 2 { frames := 1, cells := 3, slots := 86, locals := 40 } 3 86 [.ref h0, .int ch] [(h0, .inr (1, [.int (nI 0), .int (nI 0), .int (nI 0), .null, .null, .null]))] (fun (u : (Nat → Nat) × ClassId) => u.1 0 = h0) (fun u => MW u.1 u.2 (qOf ch) (limOf ch) 0 (fun _ => 0) (fun _ => 0) (fun _ => 0)) (fun u => [(u.2, .int)]) := by
  refine MC_of RX2 (by decide) rfl rfl (Nat.le_of_ble_eq_true rfl) [(0, .ref h0), (1, .int ch)] rfl ?_
  intro ZZ KK Y hK0 hret
  refine r_aload_n (Y.cx hK0 (Nat.zero_le _) (Nat.zero_le _)) 0 dX2_init_0 rfl ?_
  refine y_obj Y q218 q34 q35 dX2_init_1 (Nat.le_refl _) (Nat.le_of_ble_eq_true rfl) ?_
  refine r_aload_n (Y.cx hK0 (Nat.le_of_ble_eq_true rfl) (Nat.le_of_ble_eq_true rfl)) 0 dX2_init_4 rfl ?_
  refine r_bipush (Y.cx hK0 (Nat.le_of_ble_eq_true rfl) (Nat.le_of_ble_eq_true rfl)) (v := nI 12) dX2_init_5 (by decide) ?_
  refine y_newa Y (N := 12) (a0 := (12, .inl (fun _ => nI 0))) (atype := .int) (ty := .int) q238 rfl hK0 (new_i 12) (by decide) (by decide) (Nat.le_of_ble_eq_true rfl) (Nat.le_of_ble_eq_true rfl) dX2_init_7 (fun a1 c1 hK1 => ?_)
  refine r_put (Y.cx hK1 (Nat.le_of_ble_eq_true rfl) (Nat.le_of_ble_eq_true rfl)) (q0 := 0) (ci := 1) (w' := [(h0, .inr (1, [.int (nI 0), .int (nI 0), .int (nI 0), .ref a1, .null, .null])), (a1, .inl (c1, 12, .inl (fun _ => nI 0)))]) (ty := .array .int) 3 (by decide) in_X2 tyX2 tyX2_ok nmX2 rfl rfl q222 rfl (by decide +kernel) rfl rfl (Nat.le_of_ble_eq_true rfl) rfl dX2_init_9 ?_
  refine r_aload_n (Y.cx hK1 (Nat.le_of_ble_eq_true rfl) (Nat.le_of_ble_eq_true rfl)) 0 dX2_init_12 rfl ?_
  refine r_bipush (Y.cx hK1 (Nat.le_of_ble_eq_true rfl) (Nat.le_of_ble_eq_true rfl)) (v := nI 60) dX2_init_13 (by decide) ?_
  refine y_newa Y (N := 60) (a0 := (60, .inl (fun _ => nI 0))) (atype := .int) (ty := .int) q238 rfl hK1 (new_i 60) (by decide) (by decide) (Nat.le_of_ble_eq_true rfl) (Nat.le_of_ble_eq_true rfl) dX2_init_15 (fun a2 c2 hK2 => ?_)
  have e2 : c2 = c1 := Y.same hK2 (fun _ h => by cases h) 1 0 rfl rfl
  subst c2
  refine r_put (Y.cx hK2 (Nat.le_of_ble_eq_true rfl) (Nat.le_of_ble_eq_true rfl)) (q0 := 0) (ci := 1) (w' := [(h0, .inr (1, [.int (nI 0), .int (nI 0), .int (nI 0), .ref a1, .ref a2, .null])), (a1, .inl (c1, 12, .inl (fun _ => nI 0))), (a2, .inl (c1, 60, .inl (fun _ => nI 0)))]) (ty := .array .int) 4 (by decide) in_X2 tyX2 tyX2_ok nmX2 rfl rfl q223 rfl (by decide +kernel) rfl rfl (Nat.le_of_ble_eq_true rfl) rfl dX2_init_17 ?_
  refine r_aload_n (Y.cx hK2 (Nat.le_of_ble_eq_true rfl) (Nat.le_of_ble_eq_true rfl)) 0 dX2_init_20 rfl ?_
  refine r_bipush (Y.cx hK2 (Nat.le_of_ble_eq_true rfl) (Nat.le_of_ble_eq_true rfl)) (v := nI 14) dX2_init_21 (by decide) ?_
  refine y_newa Y (N := 14) (a0 := (14, .inl (fun _ => nI 0))) (atype := .int) (ty := .int) q238 rfl hK2 (new_i 14) (by decide) (by decide) (Nat.le_of_ble_eq_true rfl) (Nat.le_of_ble_eq_true rfl) dX2_init_23 (fun a3 c3 hK3 => ?_)
  have e3 : c3 = c1 := Y.same hK3 (fun _ h => by cases h) 2 0 rfl rfl
  subst c3
  refine r_put (Y.cx hK3 (Nat.le_of_ble_eq_true rfl) (Nat.le_of_ble_eq_true rfl)) (q0 := 0) (ci := 1) (w' := [(h0, .inr (1, [.int (nI 0), .int (nI 0), .int (nI 0), .ref a1, .ref a2, .ref a3])), (a1, .inl (c1, 12, .inl (fun _ => nI 0))), (a2, .inl (c1, 60, .inl (fun _ => nI 0))), (a3, .inl (c1, 14, .inl (fun _ => nI 0)))]) (ty := .array .int) 5 (by decide) in_X2 tyX2 tyX2_ok nmX2 rfl rfl q224 rfl (by decide +kernel) rfl rfl (Nat.le_of_ble_eq_true rfl) rfl dX2_init_25 ?_
  refine r_aload_n (Y.cx hK3 (Nat.le_of_ble_eq_true rfl) (Nat.le_of_ble_eq_true rfl)) 0 dX2_init_28 rfl ?_
  refine r_iload_n (Y.cx hK3 (Nat.le_of_ble_eq_true rfl) (Nat.le_of_ble_eq_true rfl)) 1 dX2_init_29 rfl ?_
  refine r_if_gtI (Y.cx hK3 (Nat.le_of_ble_eq_true rfl) (Nat.le_of_ble_eq_true rfl)) 37 dX2_init_30 (by decide) (fun hc30 => ?_) (fun hc30 => ?_)
  · refine r_iload_n (Y.cx hK3 (Nat.le_of_ble_eq_true rfl) (Nat.le_of_ble_eq_true rfl)) 1 dX2_init_37 rfl ?_
    refine r_iconst (Y.cx hK3 (Nat.le_of_ble_eq_true rfl) (Nat.le_of_ble_eq_true rfl)) (v := 1) dX2_init_38 (by decide) ?_
    refine r_icmp_neI (Y.cx hK3 (Nat.le_of_ble_eq_true rfl) (Nat.le_of_ble_eq_true rfl)) 46 dX2_init_39 (by decide) (fun hc39 => ?_) (fun hc39 => ?_)
    · refine r_iconst (Y.cx hK3 (Nat.le_of_ble_eq_true rfl) (Nat.le_of_ble_eq_true rfl)) (v := nI 5) dX2_init_46 (by decide) ?_
      refine r_put (Y.cx hK3 (Nat.le_of_ble_eq_true rfl) (Nat.le_of_ble_eq_true rfl)) (q0 := 0) (ci := 1) (w' := [(h0, .inr (1, [.int (nI 5), .int (nI 0), .int (nI 0), .ref a1, .ref a2, .ref a3])), (a1, .inl (c1, 12, .inl (fun _ => nI 0))), (a2, .inl (c1, 60, .inl (fun _ => nI 0))), (a3, .inl (c1, 14, .inl (fun _ => nI 0)))]) (ty := .int) 0 (by decide) in_X2 tyX2 tyX2_ok nmX2 rfl rfl q219 rfl (by decide +kernel) rfl rfl (Nat.le_of_ble_eq_true rfl) rfl dX2_init_47 ?_
      refine r_aload_n (Y.cx hK3 (Nat.le_of_ble_eq_true rfl) (Nat.le_of_ble_eq_true rfl)) 0 dX2_init_50 rfl ?_
      refine r_iload_n (Y.cx hK3 (Nat.le_of_ble_eq_true rfl) (Nat.le_of_ble_eq_true rfl)) 1 dX2_init_51 rfl ?_
      refine r_if_gtI (Y.cx hK3 (Nat.le_of_ble_eq_true rfl) (Nat.le_of_ble_eq_true rfl)) 60 dX2_init_52 (by decide) (fun _ => ?_) (fun h => absurd hc30 h)
      refine r_iload_n (Y.cx hK3 (Nat.le_of_ble_eq_true rfl) (Nat.le_of_ble_eq_true rfl)) 1 dX2_init_60 rfl ?_
      refine r_iconst (Y.cx hK3 (Nat.le_of_ble_eq_true rfl) (Nat.le_of_ble_eq_true rfl)) (v := 1) dX2_init_61 (by decide) ?_
      refine r_icmp_neI (Y.cx hK3 (Nat.le_of_ble_eq_true rfl) (Nat.le_of_ble_eq_true rfl)) 70 dX2_init_62 (by decide) (fun _ => ?_) (fun h => absurd h hc39)
      refine r_iconst (Y.cx hK3 (Nat.le_of_ble_eq_true rfl) (Nat.le_of_ble_eq_true rfl)) (v := nI 5) dX2_init_70 (by decide) ?_
      refine r_put (Y.cx hK3 (Nat.le_of_ble_eq_true rfl) (Nat.le_of_ble_eq_true rfl)) (q0 := 0) (ci := 1) (w' := [(h0, .inr (1, [.int (nI 5), .int (nI 5), .int (nI 0), .ref a1, .ref a2, .ref a3])), (a1, .inl (c1, 12, .inl (fun _ => nI 0))), (a2, .inl (c1, 60, .inl (fun _ => nI 0))), (a3, .inl (c1, 14, .inl (fun _ => nI 0)))]) (ty := .int) 1 (by decide) in_X2 tyX2 tyX2_ok nmX2 rfl rfl q220 rfl (by decide +kernel) rfl rfl (Nat.le_of_ble_eq_true rfl) rfl dX2_init_71 ?_
      have eq0 : qOf ch = 5 := by unfold qOf; rw [if_pos hc30, if_neg hc39]
      have el0 : limOf ch = 5 := by unfold limOf; rw [if_pos hc30, if_neg hc39]
      have hz := hret (fun i => ([h0, a1, a2, a3] : List Nat).getD i 0, c1) [(0, .ref h0), (1, .int ch)] 74 dX2_init_74 rfl (Y.sub hK3 [0] rfl)
      rw [eq0, el0] at hz
      exact hz
    · refine r_iconst (Y.cx hK3 (Nat.le_of_ble_eq_true rfl) (Nat.le_of_ble_eq_true rfl)) (v := nI 3) dX2_init_42 (by decide) ?_
      refine r_goto (Y.cx hK3 (Nat.le_of_ble_eq_true rfl) (Nat.le_of_ble_eq_true rfl)) 47 dX2_init_43 (by decide) ?_
      refine r_put (Y.cx hK3 (Nat.le_of_ble_eq_true rfl) (Nat.le_of_ble_eq_true rfl)) (q0 := 0) (ci := 1) (w' := [(h0, .inr (1, [.int (nI 3), .int (nI 0), .int (nI 0), .ref a1, .ref a2, .ref a3])), (a1, .inl (c1, 12, .inl (fun _ => nI 0))), (a2, .inl (c1, 60, .inl (fun _ => nI 0))), (a3, .inl (c1, 14, .inl (fun _ => nI 0)))]) (ty := .int) 0 (by decide) in_X2 tyX2 tyX2_ok nmX2 rfl rfl q219 rfl (by decide +kernel) rfl rfl (Nat.le_of_ble_eq_true rfl) rfl dX2_init_47 ?_
      refine r_aload_n (Y.cx hK3 (Nat.le_of_ble_eq_true rfl) (Nat.le_of_ble_eq_true rfl)) 0 dX2_init_50 rfl ?_
      refine r_iload_n (Y.cx hK3 (Nat.le_of_ble_eq_true rfl) (Nat.le_of_ble_eq_true rfl)) 1 dX2_init_51 rfl ?_
      refine r_if_gtI (Y.cx hK3 (Nat.le_of_ble_eq_true rfl) (Nat.le_of_ble_eq_true rfl)) 60 dX2_init_52 (by decide) (fun _ => ?_) (fun h => absurd hc30 h)
      refine r_iload_n (Y.cx hK3 (Nat.le_of_ble_eq_true rfl) (Nat.le_of_ble_eq_true rfl)) 1 dX2_init_60 rfl ?_
      refine r_iconst (Y.cx hK3 (Nat.le_of_ble_eq_true rfl) (Nat.le_of_ble_eq_true rfl)) (v := 1) dX2_init_61 (by decide) ?_
      refine r_icmp_neI (Y.cx hK3 (Nat.le_of_ble_eq_true rfl) (Nat.le_of_ble_eq_true rfl)) 70 dX2_init_62 (by decide) (fun h => absurd hc39 h) (fun _ => ?_)
      refine r_bipush (Y.cx hK3 (Nat.le_of_ble_eq_true rfl) (Nat.le_of_ble_eq_true rfl)) (v := nI 7) dX2_init_65 (by decide) ?_
      refine r_goto (Y.cx hK3 (Nat.le_of_ble_eq_true rfl) (Nat.le_of_ble_eq_true rfl)) 71 dX2_init_67 (by decide) ?_
      refine r_put (Y.cx hK3 (Nat.le_of_ble_eq_true rfl) (Nat.le_of_ble_eq_true rfl)) (q0 := 0) (ci := 1) (w' := [(h0, .inr (1, [.int (nI 3), .int (nI 7), .int (nI 0), .ref a1, .ref a2, .ref a3])), (a1, .inl (c1, 12, .inl (fun _ => nI 0))), (a2, .inl (c1, 60, .inl (fun _ => nI 0))), (a3, .inl (c1, 14, .inl (fun _ => nI 0)))]) (ty := .int) 1 (by decide) in_X2 tyX2 tyX2_ok nmX2 rfl rfl q220 rfl (by decide +kernel) rfl rfl (Nat.le_of_ble_eq_true rfl) rfl dX2_init_71 ?_
      have eq0 : qOf ch = 3 := by unfold qOf; rw [if_pos hc30, if_pos hc39]
      have el0 : limOf ch = 7 := by unfold limOf; rw [if_pos hc30, if_pos hc39]
      have hz := hret (fun i => ([h0, a1, a2, a3] : List Nat).getD i 0, c1) [(0, .ref h0), (1, .int ch)] 74 dX2_init_74 rfl (Y.sub hK3 [0] rfl)
      rw [eq0, el0] at hz
      exact hz
  · refine r_iconst (Y.cx hK3 (Nat.le_of_ble_eq_true rfl) (Nat.le_of_ble_eq_true rfl)) (v := nI 2) dX2_init_33 (by decide) ?_
    refine r_goto (Y.cx hK3 (Nat.le_of_ble_eq_true rfl) (Nat.le_of_ble_eq_true rfl)) 47 dX2_init_34 (by decide) ?_
    refine r_put (Y.cx hK3 (Nat.le_of_ble_eq_true rfl) (Nat.le_of_ble_eq_true rfl)) (q0 := 0) (ci := 1) (w' := [(h0, .inr (1, [.int (nI 2), .int (nI 0), .int (nI 0), .ref a1, .ref a2, .ref a3])), (a1, .inl (c1, 12, .inl (fun _ => nI 0))), (a2, .inl (c1, 60, .inl (fun _ => nI 0))), (a3, .inl (c1, 14, .inl (fun _ => nI 0)))]) (ty := .int) 0 (by decide) in_X2 tyX2 tyX2_ok nmX2 rfl rfl q219 rfl (by decide +kernel) rfl rfl (Nat.le_of_ble_eq_true rfl) rfl dX2_init_47 ?_
    refine r_aload_n (Y.cx hK3 (Nat.le_of_ble_eq_true rfl) (Nat.le_of_ble_eq_true rfl)) 0 dX2_init_50 rfl ?_
    refine r_iload_n (Y.cx hK3 (Nat.le_of_ble_eq_true rfl) (Nat.le_of_ble_eq_true rfl)) 1 dX2_init_51 rfl ?_
    refine r_if_gtI (Y.cx hK3 (Nat.le_of_ble_eq_true rfl) (Nat.le_of_ble_eq_true rfl)) 60 dX2_init_52 (by decide) (fun h => absurd h hc30) (fun _ => ?_)
    refine r_bipush (Y.cx hK3 (Nat.le_of_ble_eq_true rfl) (Nat.le_of_ble_eq_true rfl)) (v := nI 12) dX2_init_55 (by decide) ?_
    refine r_goto (Y.cx hK3 (Nat.le_of_ble_eq_true rfl) (Nat.le_of_ble_eq_true rfl)) 71 dX2_init_57 (by decide) ?_
    refine r_put (Y.cx hK3 (Nat.le_of_ble_eq_true rfl) (Nat.le_of_ble_eq_true rfl)) (q0 := 0) (ci := 1) (w' := [(h0, .inr (1, [.int (nI 2), .int (nI 12), .int (nI 0), .ref a1, .ref a2, .ref a3])), (a1, .inl (c1, 12, .inl (fun _ => nI 0))), (a2, .inl (c1, 60, .inl (fun _ => nI 0))), (a3, .inl (c1, 14, .inl (fun _ => nI 0)))]) (ty := .int) 1 (by decide) in_X2 tyX2 tyX2_ok nmX2 rfl rfl q220 rfl (by decide +kernel) rfl rfl (Nat.le_of_ble_eq_true rfl) rfl dX2_init_71 ?_
    have eq0 : qOf ch = 2 := by unfold qOf; rw [if_neg hc30]
    have el0 : limOf ch = 12 := by unfold limOf; rw [if_neg hc30]
    have hz := hret (fun i => ([h0, a1, a2, a3] : List Nat).getD i 0, c1) [(0, .ref h0), (1, .int ch)] 74 dX2_init_74 rfl (Y.sub hK3 [0] rfl)
    rw [eq0, el0] at hz
    exact hz
end
section
/-! THE CLAIM OUT OF ONE WALK OF THE LAW'S BODY. Your part is whole_start (and what it stands on); all else here is the same for every law, but numbers. -/
def R_law : String := "RegisterLabLaw"
def lw_P (b : Addr) (xs : List Int32) (args : Array Value) (s : State) : Prop := args = #[.ref b] ∧ s.IntsAt b xs ∧ xs.length ≤ 193 ∧ (Jvm.Cond.and given_1 narrow_1).before args s = true
def lw_Q (_ : Array Value) (s : State) (o : Outcome) (t : State) : Prop := o = .returned (some (.int 1)) ∧ Framed s o t [] 600000 7290000
def lw_Z (below : List Frame) (a : Array Value) (s : State) : State → Prop := fun t => ∃ o, t.status = .running ∧ Ended t below o ∧ lw_Q a s o t
/-- the law's own end, with 1 on the stack, nothing written that was there before, its room as the claim has it -/
theorem lw_ret {p : Program} {l : Launch} {e : Env} {s : State} {m : MethodId} {below : List Frame} {meth : Method} {c : Code} {b : Nat} (hx : p.tables.exec = Jvm.exec) (hb : c.code = code) (hr : meth.sig.returnType = ret) (hlocks : meth.locks = false) {pc : Nat} {H : Heap} {ls : Array Slot} (hdg : decode code pc = .ok (.ireturn, 1)) : W p l e room_1 s m #[Value.ref b] below meth c H [] 600000 7290000 (lw_Z below #[Value.ref b] s) (F0 m pc ls [.int 1]) := by
  intro T hT X
  obtain ⟨fs, hret, hrun, hended, hW, hframe⟩ := X.leave (v := some (.int 1)) (hlocks := hlocks) (fun h => by rw [hr] at h; cases h)
  have hmeth' : T.vm.method? m = some meth := X.method'
  refine ⟨T.setFrames fs, ?_, .returned (some (.int 1)), hrun, hended, rfl, ⟨_, rfl⟩, hW, hframe⟩
  jvm_step X.here [X.here.top, hx, hb, hdg, hmeth', hr, ret, narrow_b1]
  (try refine ⟨rfl, ?_⟩); (try refine ⟨rfl, ?_⟩)
  first | (intro acts; rw [hret _ acts rfl rfl rfl]) | rw [hret _ _ rfl rfl rfl]
  exact Steps.refl _
/-- what holds at the law's entry: the machine, the code, the tables' words (any of lw_tbl by 'hts w (by decide +kernel)'), the script of L ints xs at the cell b, what the Statement gives of the start (any of its parts by flat_of_before) -/
def lw_At (p : Program) (s : State) (m : MethodId) (meth : Method) (c : Code) (b L : Nat) (xs : Nat → Int32) : Prop :=
  p.tables.exec = Jvm.exec ∧ c.code = code ∧ meth.sig.returnType = ret ∧ c.maxLocals = 4 ∧ s.vm.findClass R_law = some m.cls ∧ (∀ w ∈ lw_tbl, w.before #[Value.ref b] s = true) ∧ va_X b L xs s s.heap ∧ b < s.heap.size ∧ meth.locks = false ∧ (Jvm.Cond.and given_1 narrow_1).before #[Value.ref b] s = true
set_option maxRecDepth 100000
/-! the law's own judgement, its rows -/
def Cl (l : Launch) (D : va_G) (tys : List (ClassId × FieldType)) (b L : Nat) (xs : Nat → Int32) (Z : zz_J) : Prop :=
  ∃ (p : Program) (e : Env) (s : State) (m : MethodId) (below : List Frame) (meth : Method) (c : Code),
    Z = zz_at p l e room_1 s m #[Value.ref b] below meth c D (fun q : Nat => s.heap.size ≤ q) 4 600000 7290000 (lw_Z below #[Value.ref b] s) ∧ lw_At p s m meth c b L xs ∧ va_K D vwCl tys s
section
variable {l : Launch} {D : va_G} {tys : List (ClassId × FieldType)} {b L : Nat} {xs : Nat → Int32} {Z : zz_J} {w : va_W} {lv : List (Nat × Value)} {pc : Nat} {st : List Value}
theorem Cl.cx (C : Cl l D tys b L xs Z) : Cx l room_1 D tys R_law code 4 Z := by
  obtain ⟨p, e, s, m, below, meth, c, rfl, ⟨hx, hb, hr, hml, hown, hts, hX, hbl, hlocks, hgv⟩, hK⟩ := C
  exact ⟨p, e, s, m, _, below, meth, c, _, 600000, 7290000, _, rfl, hx, hb, hml, hown, fun w h => hts w (lw_all_tbl h), hK, fun _ h => h, Nat.le_refl _, Nat.le_refl _⟩
theorem s_len (C : Cl l D tys b L xs Z) (hdg : decode code pc = .ok (.arraylength, 1)) (kk : Z w lv (pc + 1) (.int (nI L) :: st)) : Z w lv pc (.ref b :: st) := by
  obtain ⟨p, e, s, m, below, meth, c, rfl, ⟨hx, hb, hr, hml, hown, hts, hX, hbl, hlocks, hgv⟩, hK⟩ := C
  intro H locs ls hP hD hS hl
  exact va_slen hx hb hX hbl (Nat.not_le.mpr hbl) hS hdg (kk H locs ls hP hD hS hl)
theorem s_ld (C : Cl l D tys b L xs Z) {i : Nat} (hL : L ≤ 193) (hi : i < L) (hdg : decode code pc = .ok (.iaload, 1)) (kk : Z w lv (pc + 1) (.int (xs i) :: st)) : Z w lv pc (.int (nI i) :: .ref b :: st) := by
  obtain ⟨p, e, s, m, below, meth, c, rfl, ⟨hx, hb, hr, hml, hown, hts, hX, hbl, hlocks, hgv⟩, hK⟩ := C
  intro H locs ls hP hD hS hl
  exact va_sld hx hb hX hbl (Nat.not_le.mpr hbl) hS (vp_in_nI hi (by omega)) hdg (by rw [nI_clamp (by omega)]; exact kk H locs ls hP hD hS hl)
theorem s_ret (C : Cl l D tys b L xs Z) (hdg : decode code pc = .ok (.ireturn, 1)) : Z w lv pc [.int 1] := by
  obtain ⟨p, e, s, m, below, meth, c, rfl, ⟨hx, hb, hr, hml, hown, hts, hX, hbl, hlocks, hgv⟩, hK⟩ := C
  intro H locs ls hP hD hS hl
  exact va_forget (fun q hq => hS.2.2 q hq) (lw_ret hx hb hr hlocks hdg)
end
section
variable {l : Launch} {R : Room} {D : va_G} {tys tysC : List (ClassId × FieldType)} {own : String} {cc : ByteArray} {nL : Nat} {Z : zz_J} {w : va_W} {lv : List (Nat × Value)} {pc : Nat} {st : List Value}
theorem r_tabIn (C : Cx l R D tys own cc nL Z) {dflt lo hi : Int} {offs : Array Int} {len : Nat} {x : Int32} {off : Int} (tgt : Nat) (hdg : decode cc pc = .ok (.tableswitch dflt lo hi offs, len)) (h1 : ¬ x.toInt < lo) (h2 : ¬ hi < x.toInt) (ho : offs[(x.toInt - lo).toNat]? = some off) (ht : (pc : Int) + off = (tgt : Int)) (kk : Z w lv tgt st) : Z w lv pc (.int x :: st) := by
  obtain ⟨p, e, s, m, args, below, meth, c, A, cells, slots, Q, rfl, hx, hb, hml, hown, hts, hK, hA, hc, hs⟩ := C
  intro H locs ls hP hD hS hl
  exact lv_tableIn hx hb hdg h1 h2 ho ht (kk H locs ls hP hD hS hl)
theorem r_tabOut (C : Cx l R D tys own cc nL Z) {dflt lo hi : Int} {offs : Array Int} {len : Nat} {x : Int32} (tgt : Nat) (hdg : decode cc pc = .ok (.tableswitch dflt lo hi offs, len)) (h : x.toInt < lo ∨ hi < x.toInt) (ht : (pc : Int) + dflt = (tgt : Int)) (kk : Z w lv tgt st) : Z w lv pc (.int x :: st) := by
  obtain ⟨p, e, s, m, args, below, meth, c, A, cells, slots, Q, rfl, hx, hb, hml, hown, hts, hK, hA, hc, hs⟩ := C
  intro H locs ls hP hD hS hl
  exact lv_tableOut hx hb hdg h ht (kk H locs ls hP hD hS hl)
variable {y : MethodName} {bytes : ByteArray} {maxL index nA : Nat} {rm : Room} {S : Type} {w' : S → va_W} {b ci N : Nat} {CC : String} {T : u_T} {fs rest : List Value}
/-- a call on a part of the world: the rest stays -/
theorem r_cuti (C : Cx l R D tys own cc nL Z) {ret : FieldType} {post : Int32 → S → Prop} (As : List Value) (wc wr : va_W) (hM : MI l D tysC y bytes maxL ret rm (.ref b :: As) wc post w') (hst : st = As.reverse ++ .ref b :: rest) (hG : GoodIn lw_all (wsV own index CC y (ws_ y bytes maxL (some ret)))) (hd : y.cls = CC ∧ y.cls ≠ "java/lang/invoke/MethodHandle" ∧ y.cls ≠ "java/lang/invoke/VarHandle" ∧ (parseMethodDescriptor y.desc).map (fun d => d.parameters.length) = some nA) (hnA : As.length = nA)
    (h0 : rm.cells = 0 ∧ rm.slots = 0) (hR : rm.frames + 1 ≤ R.frames ∧ 8 + (maxL + 11) + rm.locals ≤ R.locals) (hcl : vwCl[ci]? = some (CC, T, N)) (hw0 : wc[0]? = some (b, .inr (ci, fs))) (hrest : (rest.map fun v => v.category).sum ≤ 8) (hdg : decode cc pc = .ok (.invokevirtual index, 3))
    (ts : List Nat) (hT : ts.filterMap (fun i => tys[i]?) = tysC) (isC isR : List Nat) (hC2 : isC.filterMap (fun i => w[i]?) = wc) (hC : isC.map (fun i => w[i]?) = wc.map some) (hRr : isR.map (fun i => w[i]?) = wr.map some) (hnC : va_nd isC = true) (hnR : va_nd isR = true) (hdis : ∀ i ∈ isR, i ∉ isC)
    (kk : ∀ (r : Int32) (u : S), post r u → Z (wr ++ w' u) lv (pc + 3) (.int r :: rest)) : Z w lv pc st := by
  obtain ⟨p, e, s, m, args, below, meth, c, A, cells, slots, Q, rfl, hx, hb, hml, hown, hts, hK, hA, hcc, hs⟩ := C
  intro H locs ls hP hD hS hl
  subst hst
  have hKc := hK.sub ts hT
  have hPc := hP.sub isC hC2
  have hDc := hD.sub isC hnC hC
  have hFc := va_free hD hS hA isC hC
  refine va_calli (va_runV (As := As) (rest := rest) ⟨hx, hb, hml, hown, hts⟩ (hM H.size) (cwV nA hts hG rfl h0.1 h0.2 hd hR) ⟨fun a U g mk q => by obtain ⟨q0, q1, qP, qK, qD⟩ := q; exact ⟨q0, q1, qP, va_K.moved (u := U) (U := U.calling g mk a) (Vm.Alike.refl U.vm) qK, qD⟩, va_recv hKc hPc (ci := ci) (q0 := 0) hcl hw0, fun U hU hW => ⟨rfl, by rw [hU], by rw [hU]; exact hPc, va_K.moved hW.alike hKc, hDc.weaken (fun _ _ _ _ => trivial)⟩⟩ rfl hnA hl.1 rfl (lv_room hrest) hdg ⟨hcc, hs⟩) hS (fun q _ h => hFc q h) hFc (fun r u t H1 locs1 ht hvm hpost hB hz1 hk1 hS1 => ?_)
  obtain ⟨hP1, hK1, hD1⟩ := hB
  rw [ht] at hP1
  obtain ⟨hP2, hD2⟩ := va_join hP hD isC isR hC hRr hnR hdis hk1 hFc hP1 hD1
  exact kk r u hpost H1 locs1 ls hP2 hD2 hS1 hl
theorem r_cutv (C : Cx l R D tys own cc nL Z) {post : S → Prop} (As : List Value) (wc wr : va_W) (hM : MV l D tysC y bytes maxL rm (.ref b :: As) wc post w') (hst : st = As.reverse ++ .ref b :: rest) (hG : GoodIn lw_all (wsV own index CC y (ws_ y bytes maxL none))) (hd : y.cls = CC ∧ y.cls ≠ "java/lang/invoke/MethodHandle" ∧ y.cls ≠ "java/lang/invoke/VarHandle" ∧ (parseMethodDescriptor y.desc).map (fun d => d.parameters.length) = some nA) (hnA : As.length = nA)
    (h0 : rm.cells = 0 ∧ rm.slots = 0) (hR : rm.frames + 1 ≤ R.frames ∧ 8 + (maxL + 11) + rm.locals ≤ R.locals) (hcl : vwCl[ci]? = some (CC, T, N)) (hw0 : wc[0]? = some (b, .inr (ci, fs))) (hrest : (rest.map fun v => v.category).sum ≤ 8) (hdg : decode cc pc = .ok (.invokevirtual index, 3))
    (ts : List Nat) (hT : ts.filterMap (fun i => tys[i]?) = tysC) (isC isR : List Nat) (hC2 : isC.filterMap (fun i => w[i]?) = wc) (hC : isC.map (fun i => w[i]?) = wc.map some) (hRr : isR.map (fun i => w[i]?) = wr.map some) (hnC : va_nd isC = true) (hnR : va_nd isR = true) (hdis : ∀ i ∈ isR, i ∉ isC)
    (kk : ∀ (u : S), post u → Z (wr ++ w' u) lv (pc + 3) rest) : Z w lv pc st := by
  obtain ⟨p, e, s, m, args, below, meth, c, A, cells, slots, Q, rfl, hx, hb, hml, hown, hts, hK, hA, hcc, hs⟩ := C
  intro H locs ls hP hD hS hl
  subst hst
  have hKc := hK.sub ts hT
  have hPc := hP.sub isC hC2
  have hDc := hD.sub isC hnC hC
  have hFc := va_free hD hS hA isC hC
  refine va_callv (va_runV (As := As) (rest := rest) ⟨hx, hb, hml, hown, hts⟩ (hM H.size) (cwV nA hts hG rfl h0.1 h0.2 hd hR) ⟨fun a U g mk q => by obtain ⟨q0, q1, qP, qK, qD⟩ := q; exact ⟨q0, q1, qP, va_K.moved (u := U) (U := U.calling g mk a) (Vm.Alike.refl U.vm) qK, qD⟩, va_recv hKc hPc (ci := ci) (q0 := 0) hcl hw0, fun U hU hW => ⟨rfl, by rw [hU], by rw [hU]; exact hPc, va_K.moved hW.alike hKc, hDc.weaken (fun _ _ _ _ => trivial)⟩⟩ rfl hnA hl.1 rfl (lv_room hrest) hdg ⟨hcc, hs⟩) hS (fun q _ h => hFc q h) hFc (fun u t H1 locs1 ht hvm hpost hB hz1 hk1 hS1 => ?_)
  obtain ⟨hP1, hK1, hD1⟩ := hB
  rw [ht] at hP1
  obtain ⟨hP2, hD2⟩ := va_join hP hD isC isR hC hRr hnR hdis hk1 hFc hP1 hD1
  exact kk u hpost H1 locs1 ls hP2 hD2 hS1 hl
end
theorem AApp_u {q lim size : Nat} {sym : Nat → Nat} {v r r' : Int32} {u u' : Nat × (Nat → Nat)} (hq : q ≤ 5) (h : AApp q lim size sym v r u) (h2 : AApp q lim size sym v r' u') : r = r' ∧ u = u' := by
  rcases h with ⟨t, t1, rfl, t2, rfl, rfl⟩ | ⟨h, rfl, rfl⟩
  · rcases h2 with ⟨t', t1', e, t2', rfl, rfl⟩ | ⟨h2, rfl, rfl⟩
    · have := (nI_eq (by omega) (by omega)).mp e
      subst this
      exact ⟨rfl, rfl⟩
    · exfalso
      rcases h2 with h2 | h2
      · exact h2 ⟨t, t1, rfl⟩
      · omega
  · rcases h2 with ⟨t', t1', e, t2', rfl, rfl⟩ | ⟨h2, rfl, rfl⟩
    · exfalso
      rcases h with h | h
      · exact h ⟨t', t1', e⟩
      · omega
    · exact ⟨rfl, rfl⟩
theorem ADrop_u {size : Nat} {sym : Nat → Nat} {r r' : Int32} {u u' : Nat} (h : ADrop size sym r u) (h2 : ADrop size sym r' u') : r = r' ∧ u = u' := by
  rcases h with ⟨a, rfl, rfl⟩ | ⟨a, rfl, rfl⟩
  · rcases h2 with ⟨b, rfl, rfl⟩ | ⟨b, rfl, rfl⟩
    · exact ⟨rfl, rfl⟩
    · omega
  · rcases h2 with ⟨b, rfl, rfl⟩ | ⟨b, rfl, rfl⟩
    · omega
    · exact ⟨rfl, rfl⟩
theorem AChg_u {q size : Nat} {sym : Nat → Nat} {k v r r' : Int32} {u u' : Nat → Nat} (hq : q ≤ 5) (hs : size ≤ 12) (h : AChg q size sym k v r u) (h2 : AChg q size sym k v r' u') : r = r' ∧ u = u' := by
  rcases h with ⟨a, t, a1, t1, rfl, rfl, rfl, rfl⟩ | ⟨h, rfl, rfl⟩
  · rcases h2 with ⟨a', t', a1', t1', e, e2, rfl, rfl⟩ | ⟨h2, rfl, rfl⟩
    · have := (nI_eq (by omega) (by omega)).mp e
      subst this
      have := (nI_eq (by omega) (by omega)).mp e2
      subst this
      exact ⟨rfl, rfl⟩
    · exfalso
      rcases h2 with h2 | h2
      · exact h2 ⟨a, a1, rfl⟩
      · exact h2 ⟨t, t1, rfl⟩
  · rcases h2 with ⟨a', t', a1', t1', e, e2, rfl, rfl⟩ | ⟨h2, rfl, rfl⟩
    · exfalso
      rcases h with h | h
      · exact h ⟨a', a1', e⟩
      · exact h ⟨t', t1', e2⟩
    · exact ⟨rfl, rfl⟩
theorem ASym_u {size : Nat} {sym : Nat → Nat} {k r r' : Int32} (hs : size ≤ 12) (h : ASym size sym k r) (h2 : ASym size sym k r') : r = r' := by
  rcases h with ⟨a, a1, rfl, rfl⟩ | ⟨h, rfl⟩
  · rcases h2 with ⟨b, b1, e, rfl⟩ | ⟨h2, rfl⟩
    · have := (nI_eq (by omega) (by omega)).mp e
      subst this
      rfl
    · exact absurd ⟨a, a1, rfl⟩ h2
  · rcases h2 with ⟨b, b1, e, rfl⟩ | ⟨h2, rfl⟩
    · exact absurd ⟨b, b1, e⟩ h
    · rfl
theorem AComI_u {q size : Nat} {sym : Nat → Nat} {x y r r' : Int32} (hs : size ≤ 12) (h : AComI q sym size x y r) (h2 : AComI q sym size x y r') : r = r' := by
  rcases h with ⟨a, c, a1, a2, rfl, rfl, h⟩ | ⟨h, rfl⟩
  · rcases h2 with ⟨a', c', b1, b2, e, e2, h2⟩ | ⟨h2, rfl⟩
    · have := (nI_eq (by omega) (by omega)).mp e
      subst this
      have := (nI_eq (by omega) (by omega)).mp e2
      subst this
      exact ACom_uniq (fun _ _ => rfl) h h2
    · exact absurd ⟨a, c, a1, a2, rfl, rfl⟩ h2
  · rcases h2 with ⟨a', c', b1, b2, e, e2, h2⟩ | ⟨h2, rfl⟩
    · exact absurd ⟨a', c', b1, b2, e, e2⟩ h
    · rfl
theorem APreI_u {q size : Nat} {sym : Nat → Nat} {x r r' : Int32} (h : APreI q sym size x r) (h2 : APreI q sym size x r') : r = r' := by
  rcases h with ⟨a, a1, rfl, h⟩ | ⟨h, rfl⟩
  · rcases h2 with ⟨b, b1, e, h2⟩ | ⟨h2, rfl⟩
    · have := (nI_eq (by omega) (by omega)).mp e
      subst this
      exact APre_uniq h h2
    · exact absurd ⟨a, a1, rfl⟩ h2
  · rcases h2 with ⟨b, b1, e, h2⟩ | ⟨h2, rfl⟩
    · exact absurd ⟨b, b1, e⟩ h
    · rfl
theorem AWith_u {q size : Nat} {sym : Nat → Nat} {x r r' : Int32} (hq : q ≤ 5) (h : AWith q sym size x r) (h2 : AWith q sym size x r') : r = r' := by
  rcases h with ⟨a, a1, rfl, h⟩ | ⟨h, rfl⟩
  · rcases h2 with ⟨b, b1, e, h2⟩ | ⟨h2, rfl⟩
    · have := (nI_eq (by omega) (by omega)).mp e
      subst this
      exact ACom_uniq (fun _ _ => rfl) h h2
    · exact absurd ⟨a, a1, rfl⟩ h2
  · rcases h2 with ⟨b, b1, e, h2⟩ | ⟨h2, rfl⟩
    · exact absurd ⟨b, b1, e⟩ h
    · rfl
theorem AHolI_u {q size : Nat} {sym : Nat → Nat} {x r r' : Int32} (hs : size ≤ 12) (h : AHolI q sym size x r) (h2 : AHolI q sym size x r') : r = r' := by
  rcases h with ⟨a, a1, rfl, h⟩ | ⟨h, rfl⟩
  · rcases h2 with ⟨b, b1, e, h2⟩ | ⟨h2, rfl⟩
    · have := (nI_eq (by omega) (by omega)).mp e
      subst this
      exact AHol_uniq h h2
    · exact absurd ⟨a, a1, rfl⟩ h2
  · rcases h2 with ⟨b, b1, e, h2⟩ | ⟨h2, rfl⟩
    · exact absurd ⟨b, b1, e⟩ h
    · rfl
theorem AApp_ok {q lim size : Nat} {sym : Nat → Nat} {v r : Int32} {u : Nat × (Nat → Nat)} (hs : size ≤ lim) (hy : ∀ j, sym j < q) (h : AApp q lim size sym v r u) : u.1 ≤ lim ∧ ∀ j, u.2 j < q := by
  rcases h with ⟨t, t1, rfl, t2, rfl, rfl⟩ | ⟨h, rfl, rfl⟩
  · refine ⟨t2, fun j => ?_⟩
    show va_up sym size t j < q
    unfold va_up
    split
    · exact t1
    · exact hy j
  · exact ⟨hs, hy⟩
theorem AChg_ok {q size : Nat} {sym : Nat → Nat} {k v r : Int32} {u : Nat → Nat} (hy : ∀ j, sym j < q) (h : AChg q size sym k v r u) : ∀ j, u j < q := by
  rcases h with ⟨a, t, a1, t1, rfl, rfl, rfl, rfl⟩ | ⟨h, rfl, rfl⟩
  · intro j
    unfold va_up
    split
    · exact t1
    · exact hy j
  · exact hy
theorem ADrop_ok {lim size : Nat} {sym : Nat → Nat} {r : Int32} {u : Nat} (hs : size ≤ lim) (h : ADrop size sym r u) : u ≤ lim := by
  rcases h with ⟨a, rfl, rfl⟩ | ⟨a, rfl, rfl⟩ <;> omega
end
section
/-! the law's cases -/
set_option maxRecDepth 100000
set_option maxHeartbeats 4000000 in
theorem law_0 {l : Launch} {D : va_G} {dB dI : ClassId} {b L : Nat} {xs : Nat → Int32} {Z : zz_J} {adL adM : Nat → Nat} {q lim size i : Nat} {sym : Nat → Nat} {x : LI} {m : (Nat → Nat) × (Nat → Nat)} (hL : L ≤ 193) (C : Cl l D [(dB, .byte), (dI, .int)] b L xs Z) (hq : Q3 q) (hlim : lim ≤ 12) (hpw : ∀ t, t ≤ lim + 1 → q ^ t < 100000) (hsl : size ≤ lim) (hsym : ∀ j, sym j < q) (hi : i + 3 ≤ L) (kk : ∀ (size2 : Nat) (sym2 : Nat → Nat) (x2 : LI) (m2 : (Nat → Nat) × (Nat → Nat)), size2 ≤ lim → (∀ j, sym2 j < q) → Z (LX adL dB q lim size2 sym2 x2 ++ MW adM dI q lim size2 sym2 m2.1 m2.2) [(0, .ref b), (1, .ref (adL 0)), (2, .ref (adM 0)), (3, .int (nI i))] 392 []) : Z (LX adL dB q lim size sym x ++ MW adM dI q lim size sym m.1 m.2) [(0, .ref b), (1, .ref (adL 0)), (2, .ref (adM 0)), (3, .int (nI i))] 112 [] := by
  have hq5 := Q3_5 hq
  have CX := C.cx
  refine r_aload_n CX 1 dL_law_112 rfl ?_
  refine r_cuti CX (ci := 0) (nA := 0) [] (LX adL dB q lim size sym x) (MW adM dI q lim size sym m.1 m.2) (m_modulus hq hsl hlim hsym) rfl (lw_V q86 q87 q88 q26 q89) (by decide +kernel) rfl ⟨rfl, rfl⟩ ⟨Nat.le_of_ble_eq_true rfl, Nat.le_of_ble_eq_true rfl⟩ rfl rfl (Nat.le_of_ble_eq_true rfl) dL_law_113 [0] rfl [0, 1, 2, 3, 4, 5, 6, 7, 8] [9, 10, 11, 12] rfl rfl rfl rfl rfl (by decide) (fun r u hu => ?_)
  show Z (MW adM dI q lim size sym m.1 m.2 ++ LX adL dB q lim size sym u) _ _ _
  refine r_aload_n CX 2 dL_law_116 rfl ?_
  refine r_cuti CX (ci := 1) (nA := 0) [] (MW adM dI q lim size sym m.1 m.2) (LX adL dB q lim size sym u) (mm_modulus hq hsl hlim hsym hpw) rfl (lw_V q239 q240 q241 q27 q242) (by decide +kernel) rfl ⟨rfl, rfl⟩ ⟨Nat.le_of_ble_eq_true rfl, Nat.le_of_ble_eq_true rfl⟩ rfl rfl (Nat.le_of_ble_eq_true rfl) dL_law_117 [1] rfl [0, 1, 2, 3] [4, 5, 6, 7, 8, 9, 10, 11, 12] rfl rfl rfl rfl rfl (by decide) (fun r2 v hv => ?_)
  show Z (LX adL dB q lim size sym u ++ MW adM dI q lim size sym v.1 v.2) _ _ _
  refine r_icmp_eqI CX 392 dL_law_120 (by decide) (fun _ => ?_) (fun hc => absurd (hu.trans hv.symm) hc)
  exact kk size sym u v hsl hsym
set_option maxHeartbeats 4000000 in
theorem law_1 {l : Launch} {D : va_G} {dB dI : ClassId} {b L : Nat} {xs : Nat → Int32} {Z : zz_J} {adL adM : Nat → Nat} {q lim size i : Nat} {sym : Nat → Nat} {x : LI} {m : (Nat → Nat) × (Nat → Nat)} (hL : L ≤ 193) (C : Cl l D [(dB, .byte), (dI, .int)] b L xs Z) (hq : Q3 q) (hlim : lim ≤ 12) (hpw : ∀ t, t ≤ lim + 1 → q ^ t < 100000) (hsl : size ≤ lim) (hsym : ∀ j, sym j < q) (hi : i + 3 ≤ L) (kk : ∀ (size2 : Nat) (sym2 : Nat → Nat) (x2 : LI) (m2 : (Nat → Nat) × (Nat → Nat)), size2 ≤ lim → (∀ j, sym2 j < q) → Z (LX adL dB q lim size2 sym2 x2 ++ MW adM dI q lim size2 sym2 m2.1 m2.2) [(0, .ref b), (1, .ref (adL 0)), (2, .ref (adM 0)), (3, .int (nI i))] 392 []) : Z (LX adL dB q lim size sym x ++ MW adM dI q lim size sym m.1 m.2) [(0, .ref b), (1, .ref (adL 0)), (2, .ref (adM 0)), (3, .int (nI i))] 125 [] := by
  have hq5 := Q3_5 hq
  have CX := C.cx
  refine r_aload_n CX 1 dL_law_125 rfl ?_
  refine r_aload_n CX 0 dL_law_126 rfl ?_
  refine r_iload_n CX 3 dL_law_127 rfl ?_
  refine r_iconst CX (v := nI 1) dL_law_128 (by decide) ?_
  refine r_iadd CX dL_law_129 ?_
  refine s_ld C hL (by omega) dL_law_130 ?_
  refine r_cuti CX (ci := 0) (nA := 1) [.int (xs (i + 1))] (LX adL dB q lim size sym x) (MW adM dI q lim size sym m.1 m.2) (m_append hq hsl hlim hsym) rfl (lw_V q90 q91 q92 q26 q93) (by decide +kernel) rfl ⟨rfl, rfl⟩ ⟨Nat.le_of_ble_eq_true rfl, Nat.le_of_ble_eq_true rfl⟩ rfl rfl (Nat.le_of_ble_eq_true rfl) dL_law_131 [0] rfl [0, 1, 2, 3, 4, 5, 6, 7, 8] [9, 10, 11, 12] rfl rfl rfl rfl rfl (by decide) (fun r u hu => ?_)
  show Z (MW adM dI q lim size sym m.1 m.2 ++ LX adL dB q lim u.1 u.2 x) _ _ _
  refine r_aload_n CX 2 dL_law_134 rfl ?_
  refine r_aload_n CX 0 dL_law_135 rfl ?_
  refine r_iload_n CX 3 dL_law_136 rfl ?_
  refine r_iconst CX (v := nI 1) dL_law_137 (by decide) ?_
  refine r_iadd CX dL_law_138 ?_
  refine s_ld C hL (by omega) dL_law_139 ?_
  refine r_cuti CX (ci := 1) (nA := 1) [.int (xs (i + 1))] (MW adM dI q lim size sym m.1 m.2) (LX adL dB q lim u.1 u.2 x) (mm_append hq hsl hlim hsym hpw) rfl (lw_V q243 q244 q245 q27 q246) (by decide +kernel) rfl ⟨rfl, rfl⟩ ⟨Nat.le_of_ble_eq_true rfl, Nat.le_of_ble_eq_true rfl⟩ rfl rfl (Nat.le_of_ble_eq_true rfl) dL_law_140 [1] rfl [0, 1, 2, 3] [4, 5, 6, 7, 8, 9, 10, 11, 12] rfl rfl rfl rfl rfl (by decide) (fun r2 v hv => ?_)
  show Z (LX adL dB q lim u.1 u.2 x ++ MW adM dI q lim v.1 v.2 m.1 m.2) _ _ _
  refine r_icmp_eqI CX 392 dL_law_143 (by decide) (fun _ => ?_) (fun hc => absurd ((AApp_u hq5 hu hv).1) hc)
  obtain rfl := (AApp_u hq5 hu hv).2
  exact kk u.1 u.2 x m (AApp_ok hsl hsym hu).1 (AApp_ok hsl hsym hu).2
set_option maxHeartbeats 4000000 in
theorem law_2 {l : Launch} {D : va_G} {dB dI : ClassId} {b L : Nat} {xs : Nat → Int32} {Z : zz_J} {adL adM : Nat → Nat} {q lim size i : Nat} {sym : Nat → Nat} {x : LI} {m : (Nat → Nat) × (Nat → Nat)} (hL : L ≤ 193) (C : Cl l D [(dB, .byte), (dI, .int)] b L xs Z) (hq : Q3 q) (hlim : lim ≤ 12) (hpw : ∀ t, t ≤ lim + 1 → q ^ t < 100000) (hsl : size ≤ lim) (hsym : ∀ j, sym j < q) (hi : i + 3 ≤ L) (kk : ∀ (size2 : Nat) (sym2 : Nat → Nat) (x2 : LI) (m2 : (Nat → Nat) × (Nat → Nat)), size2 ≤ lim → (∀ j, sym2 j < q) → Z (LX adL dB q lim size2 sym2 x2 ++ MW adM dI q lim size2 sym2 m2.1 m2.2) [(0, .ref b), (1, .ref (adL 0)), (2, .ref (adM 0)), (3, .int (nI i))] 392 []) : Z (LX adL dB q lim size sym x ++ MW adM dI q lim size sym m.1 m.2) [(0, .ref b), (1, .ref (adL 0)), (2, .ref (adM 0)), (3, .int (nI i))] 148 [] := by
  have hq5 := Q3_5 hq
  have CX := C.cx
  refine r_aload_n CX 1 dL_law_148 rfl ?_
  refine r_cuti CX (ci := 0) (nA := 0) [] (LX adL dB q lim size sym x) (MW adM dI q lim size sym m.1 m.2) (m_drop hq hsl hlim hsym) rfl (lw_V q98 q99 q100 q26 q101) (by decide +kernel) rfl ⟨rfl, rfl⟩ ⟨Nat.le_of_ble_eq_true rfl, Nat.le_of_ble_eq_true rfl⟩ rfl rfl (Nat.le_of_ble_eq_true rfl) dL_law_149 [0] rfl [0, 1, 2, 3, 4, 5, 6, 7, 8] [9, 10, 11, 12] rfl rfl rfl rfl rfl (by decide) (fun r u hu => ?_)
  show Z (MW adM dI q lim size sym m.1 m.2 ++ LX adL dB q lim u sym x) _ _ _
  refine r_aload_n CX 2 dL_law_152 rfl ?_
  refine r_cuti CX (ci := 1) (nA := 0) [] (MW adM dI q lim size sym m.1 m.2) (LX adL dB q lim u sym x) (mm_drop hq hsl hlim hsym hpw) rfl (lw_V q247 q248 q249 q27 q250) (by decide +kernel) rfl ⟨rfl, rfl⟩ ⟨Nat.le_of_ble_eq_true rfl, Nat.le_of_ble_eq_true rfl⟩ rfl rfl (Nat.le_of_ble_eq_true rfl) dL_law_153 [1] rfl [0, 1, 2, 3] [4, 5, 6, 7, 8, 9, 10, 11, 12] rfl rfl rfl rfl rfl (by decide) (fun r2 v hv => ?_)
  show Z (LX adL dB q lim u sym x ++ MW adM dI q lim v sym m.1 m.2) _ _ _
  refine r_icmp_eqI CX 392 dL_law_156 (by decide) (fun _ => ?_) (fun hc => absurd ((ADrop_u hu hv).1) hc)
  obtain rfl := (ADrop_u hu hv).2
  exact kk u sym x m (ADrop_ok hsl hu) hsym
set_option maxHeartbeats 4000000 in
theorem law_3 {l : Launch} {D : va_G} {dB dI : ClassId} {b L : Nat} {xs : Nat → Int32} {Z : zz_J} {adL adM : Nat → Nat} {q lim size i : Nat} {sym : Nat → Nat} {x : LI} {m : (Nat → Nat) × (Nat → Nat)} (hL : L ≤ 193) (C : Cl l D [(dB, .byte), (dI, .int)] b L xs Z) (hq : Q3 q) (hlim : lim ≤ 12) (hpw : ∀ t, t ≤ lim + 1 → q ^ t < 100000) (hsl : size ≤ lim) (hsym : ∀ j, sym j < q) (hi : i + 3 ≤ L) (kk : ∀ (size2 : Nat) (sym2 : Nat → Nat) (x2 : LI) (m2 : (Nat → Nat) × (Nat → Nat)), size2 ≤ lim → (∀ j, sym2 j < q) → Z (LX adL dB q lim size2 sym2 x2 ++ MW adM dI q lim size2 sym2 m2.1 m2.2) [(0, .ref b), (1, .ref (adL 0)), (2, .ref (adM 0)), (3, .int (nI i))] 392 []) : Z (LX adL dB q lim size sym x ++ MW adM dI q lim size sym m.1 m.2) [(0, .ref b), (1, .ref (adL 0)), (2, .ref (adM 0)), (3, .int (nI i))] 161 [] := by
  have hq5 := Q3_5 hq
  have CX := C.cx
  refine r_aload_n CX 1 dL_law_161 rfl ?_
  refine r_aload_n CX 0 dL_law_162 rfl ?_
  refine r_iload_n CX 3 dL_law_163 rfl ?_
  refine r_iconst CX (v := nI 1) dL_law_164 (by decide) ?_
  refine r_iadd CX dL_law_165 ?_
  refine s_ld C hL (by omega) dL_law_166 ?_
  refine r_aload_n CX 0 dL_law_167 rfl ?_
  refine r_iload_n CX 3 dL_law_168 rfl ?_
  refine r_iconst CX (v := nI 2) dL_law_169 (by decide) ?_
  refine r_iadd CX dL_law_170 ?_
  refine s_ld C hL (by omega) dL_law_171 ?_
  refine r_cuti CX (ci := 0) (nA := 2) [.int (xs (i + 1)), .int (xs (i + 2))] (LX adL dB q lim size sym x) (MW adM dI q lim size sym m.1 m.2) (m_change hq hsl hlim hsym) rfl (lw_V q102 q103 q104 q26 q105) (by decide +kernel) rfl ⟨rfl, rfl⟩ ⟨Nat.le_of_ble_eq_true rfl, Nat.le_of_ble_eq_true rfl⟩ rfl rfl (Nat.le_of_ble_eq_true rfl) dL_law_172 [0] rfl [0, 1, 2, 3, 4, 5, 6, 7, 8] [9, 10, 11, 12] rfl rfl rfl rfl rfl (by decide) (fun r u hu => ?_)
  show Z (MW adM dI q lim size sym m.1 m.2 ++ LX adL dB q lim size u x) _ _ _
  refine r_aload_n CX 2 dL_law_175 rfl ?_
  refine r_aload_n CX 0 dL_law_176 rfl ?_
  refine r_iload_n CX 3 dL_law_177 rfl ?_
  refine r_iconst CX (v := nI 1) dL_law_178 (by decide) ?_
  refine r_iadd CX dL_law_179 ?_
  refine s_ld C hL (by omega) dL_law_180 ?_
  refine r_aload_n CX 0 dL_law_181 rfl ?_
  refine r_iload_n CX 3 dL_law_182 rfl ?_
  refine r_iconst CX (v := nI 2) dL_law_183 (by decide) ?_
  refine r_iadd CX dL_law_184 ?_
  refine s_ld C hL (by omega) dL_law_185 ?_
  refine r_cuti CX (ci := 1) (nA := 2) [.int (xs (i + 1)), .int (xs (i + 2))] (MW adM dI q lim size sym m.1 m.2) (LX adL dB q lim size u x) (mm_change hq hsl hlim hsym hpw) rfl (lw_V q251 q252 q253 q27 q254) (by decide +kernel) rfl ⟨rfl, rfl⟩ ⟨Nat.le_of_ble_eq_true rfl, Nat.le_of_ble_eq_true rfl⟩ rfl rfl (Nat.le_of_ble_eq_true rfl) dL_law_186 [1] rfl [0, 1, 2, 3] [4, 5, 6, 7, 8, 9, 10, 11, 12] rfl rfl rfl rfl rfl (by decide) (fun r2 v hv => ?_)
  show Z (LX adL dB q lim size u x ++ MW adM dI q lim size v m.1 m.2) _ _ _
  refine r_icmp_eqI CX 392 dL_law_189 (by decide) (fun _ => ?_) (fun hc => absurd ((AChg_u hq5 (by omega) hu hv).1) hc)
  obtain rfl := (AChg_u hq5 (by omega) hu hv).2
  exact kk size u x m hsl (AChg_ok hsym hu)
set_option maxHeartbeats 4000000 in
theorem law_4 {l : Launch} {D : va_G} {dB dI : ClassId} {b L : Nat} {xs : Nat → Int32} {Z : zz_J} {adL adM : Nat → Nat} {q lim size i : Nat} {sym : Nat → Nat} {x : LI} {m : (Nat → Nat) × (Nat → Nat)} (hL : L ≤ 193) (C : Cl l D [(dB, .byte), (dI, .int)] b L xs Z) (hq : Q3 q) (hlim : lim ≤ 12) (hpw : ∀ t, t ≤ lim + 1 → q ^ t < 100000) (hsl : size ≤ lim) (hsym : ∀ j, sym j < q) (hi : i + 3 ≤ L) (kk : ∀ (size2 : Nat) (sym2 : Nat → Nat) (x2 : LI) (m2 : (Nat → Nat) × (Nat → Nat)), size2 ≤ lim → (∀ j, sym2 j < q) → Z (LX adL dB q lim size2 sym2 x2 ++ MW adM dI q lim size2 sym2 m2.1 m2.2) [(0, .ref b), (1, .ref (adL 0)), (2, .ref (adM 0)), (3, .int (nI i))] 392 []) : Z (LX adL dB q lim size sym x ++ MW adM dI q lim size sym m.1 m.2) [(0, .ref b), (1, .ref (adL 0)), (2, .ref (adM 0)), (3, .int (nI i))] 194 [] := by
  have hq5 := Q3_5 hq
  have CX := C.cx
  refine r_aload_n CX 1 dL_law_194 rfl ?_
  refine r_cutv CX (ci := 0) (nA := 0) [] (LX adL dB q lim size sym x) (MW adM dI q lim size sym m.1 m.2) (m_clear hq hsl hlim hsym) rfl (lw_V q106 q107 q108 q26 q109) (by decide +kernel) rfl ⟨rfl, rfl⟩ ⟨Nat.le_of_ble_eq_true rfl, Nat.le_of_ble_eq_true rfl⟩ rfl rfl (Nat.le_of_ble_eq_true rfl) dL_law_195 [0] rfl [0, 1, 2, 3, 4, 5, 6, 7, 8] [9, 10, 11, 12] rfl rfl rfl rfl rfl (by decide) (fun u hu => ?_)
  show Z (MW adM dI q lim size sym m.1 m.2 ++ LX adL dB q lim 0 sym u) _ _ _
  refine r_aload_n CX 2 dL_law_198 rfl ?_
  refine r_cutv CX (ci := 1) (nA := 0) [] (MW adM dI q lim size sym m.1 m.2) (LX adL dB q lim 0 sym u) (mm_clear hq hsl hlim hsym hpw) rfl (lw_V q255 q256 q257 q27 q258) (by decide +kernel) rfl ⟨rfl, rfl⟩ ⟨Nat.le_of_ble_eq_true rfl, Nat.le_of_ble_eq_true rfl⟩ rfl rfl (Nat.le_of_ble_eq_true rfl) dL_law_199 [1] rfl [0, 1, 2, 3] [4, 5, 6, 7, 8, 9, 10, 11, 12] rfl rfl rfl rfl rfl (by decide) (fun v hv => ?_)
  show Z (LX adL dB q lim 0 sym u ++ MW adM dI q lim 0 sym v.1 v.2) _ _ _
  refine r_goto CX 392 dL_law_202 (by decide) ?_
  exact kk 0 sym u v (Nat.zero_le _) hsym
set_option maxHeartbeats 4000000 in
theorem law_5 {l : Launch} {D : va_G} {dB dI : ClassId} {b L : Nat} {xs : Nat → Int32} {Z : zz_J} {adL adM : Nat → Nat} {q lim size i : Nat} {sym : Nat → Nat} {x : LI} {m : (Nat → Nat) × (Nat → Nat)} (hL : L ≤ 193) (C : Cl l D [(dB, .byte), (dI, .int)] b L xs Z) (hq : Q3 q) (hlim : lim ≤ 12) (hpw : ∀ t, t ≤ lim + 1 → q ^ t < 100000) (hsl : size ≤ lim) (hsym : ∀ j, sym j < q) (hi : i + 3 ≤ L) (kk : ∀ (size2 : Nat) (sym2 : Nat → Nat) (x2 : LI) (m2 : (Nat → Nat) × (Nat → Nat)), size2 ≤ lim → (∀ j, sym2 j < q) → Z (LX adL dB q lim size2 sym2 x2 ++ MW adM dI q lim size2 sym2 m2.1 m2.2) [(0, .ref b), (1, .ref (adL 0)), (2, .ref (adM 0)), (3, .int (nI i))] 392 []) : Z (LX adL dB q lim size sym x ++ MW adM dI q lim size sym m.1 m.2) [(0, .ref b), (1, .ref (adL 0)), (2, .ref (adM 0)), (3, .int (nI i))] 205 [] := by
  have hq5 := Q3_5 hq
  have CX := C.cx
  refine r_aload_n CX 1 dL_law_205 rfl ?_
  refine r_cuti CX (ci := 0) (nA := 0) [] (LX adL dB q lim size sym x) (MW adM dI q lim size sym m.1 m.2) (m_length hq hsl hlim hsym) rfl (lw_V q110 q111 q112 q26 q113) (by decide +kernel) rfl ⟨rfl, rfl⟩ ⟨Nat.le_of_ble_eq_true rfl, Nat.le_of_ble_eq_true rfl⟩ rfl rfl (Nat.le_of_ble_eq_true rfl) dL_law_206 [0] rfl [0, 1, 2, 3, 4, 5, 6, 7, 8] [9, 10, 11, 12] rfl rfl rfl rfl rfl (by decide) (fun r u hu => ?_)
  show Z (MW adM dI q lim size sym m.1 m.2 ++ LX adL dB q lim size sym u) _ _ _
  refine r_aload_n CX 2 dL_law_209 rfl ?_
  refine r_cuti CX (ci := 1) (nA := 0) [] (MW adM dI q lim size sym m.1 m.2) (LX adL dB q lim size sym u) (mm_length hq hsl hlim hsym hpw) rfl (lw_V q259 q260 q261 q27 q262) (by decide +kernel) rfl ⟨rfl, rfl⟩ ⟨Nat.le_of_ble_eq_true rfl, Nat.le_of_ble_eq_true rfl⟩ rfl rfl (Nat.le_of_ble_eq_true rfl) dL_law_210 [1] rfl [0, 1, 2, 3] [4, 5, 6, 7, 8, 9, 10, 11, 12] rfl rfl rfl rfl rfl (by decide) (fun r2 v hv => ?_)
  show Z (LX adL dB q lim size sym u ++ MW adM dI q lim size sym v.1 v.2) _ _ _
  refine r_icmp_eqI CX 392 dL_law_213 (by decide) (fun _ => ?_) (fun hc => absurd (hu.trans hv.symm) hc)
  exact kk size sym u v hsl hsym
set_option maxHeartbeats 4000000 in
theorem law_6 {l : Launch} {D : va_G} {dB dI : ClassId} {b L : Nat} {xs : Nat → Int32} {Z : zz_J} {adL adM : Nat → Nat} {q lim size i : Nat} {sym : Nat → Nat} {x : LI} {m : (Nat → Nat) × (Nat → Nat)} (hL : L ≤ 193) (C : Cl l D [(dB, .byte), (dI, .int)] b L xs Z) (hq : Q3 q) (hlim : lim ≤ 12) (hpw : ∀ t, t ≤ lim + 1 → q ^ t < 100000) (hsl : size ≤ lim) (hsym : ∀ j, sym j < q) (hi : i + 3 ≤ L) (kk : ∀ (size2 : Nat) (sym2 : Nat → Nat) (x2 : LI) (m2 : (Nat → Nat) × (Nat → Nat)), size2 ≤ lim → (∀ j, sym2 j < q) → Z (LX adL dB q lim size2 sym2 x2 ++ MW adM dI q lim size2 sym2 m2.1 m2.2) [(0, .ref b), (1, .ref (adL 0)), (2, .ref (adM 0)), (3, .int (nI i))] 392 []) : Z (LX adL dB q lim size sym x ++ MW adM dI q lim size sym m.1 m.2) [(0, .ref b), (1, .ref (adL 0)), (2, .ref (adM 0)), (3, .int (nI i))] 218 [] := by
  have hq5 := Q3_5 hq
  have CX := C.cx
  refine r_aload_n CX 1 dL_law_218 rfl ?_
  refine r_aload_n CX 0 dL_law_219 rfl ?_
  refine r_iload_n CX 3 dL_law_220 rfl ?_
  refine r_iconst CX (v := nI 1) dL_law_221 (by decide) ?_
  refine r_iadd CX dL_law_222 ?_
  refine s_ld C hL (by omega) dL_law_223 ?_
  refine r_cuti CX (ci := 0) (nA := 1) [.int (xs (i + 1))] (LX adL dB q lim size sym x) (MW adM dI q lim size sym m.1 m.2) (m_symbol hq hsl hlim hsym) rfl (lw_V q114 q115 q116 q26 q117) (by decide +kernel) rfl ⟨rfl, rfl⟩ ⟨Nat.le_of_ble_eq_true rfl, Nat.le_of_ble_eq_true rfl⟩ rfl rfl (Nat.le_of_ble_eq_true rfl) dL_law_224 [0] rfl [0, 1, 2, 3, 4, 5, 6, 7, 8] [9, 10, 11, 12] rfl rfl rfl rfl rfl (by decide) (fun r u hu => ?_)
  show Z (MW adM dI q lim size sym m.1 m.2 ++ LX adL dB q lim size sym u) _ _ _
  refine r_aload_n CX 2 dL_law_227 rfl ?_
  refine r_aload_n CX 0 dL_law_228 rfl ?_
  refine r_iload_n CX 3 dL_law_229 rfl ?_
  refine r_iconst CX (v := nI 1) dL_law_230 (by decide) ?_
  refine r_iadd CX dL_law_231 ?_
  refine s_ld C hL (by omega) dL_law_232 ?_
  refine r_cuti CX (ci := 1) (nA := 1) [.int (xs (i + 1))] (MW adM dI q lim size sym m.1 m.2) (LX adL dB q lim size sym u) (mm_symbol hq hsl hlim hsym hpw) rfl (lw_V q263 q264 q265 q27 q266) (by decide +kernel) rfl ⟨rfl, rfl⟩ ⟨Nat.le_of_ble_eq_true rfl, Nat.le_of_ble_eq_true rfl⟩ rfl rfl (Nat.le_of_ble_eq_true rfl) dL_law_233 [1] rfl [0, 1, 2, 3] [4, 5, 6, 7, 8, 9, 10, 11, 12] rfl rfl rfl rfl rfl (by decide) (fun r2 v hv => ?_)
  show Z (LX adL dB q lim size sym u ++ MW adM dI q lim size sym v.1 v.2) _ _ _
  refine r_icmp_eqI CX 392 dL_law_236 (by decide) (fun _ => ?_) (fun hc => absurd (ASym_u (by omega) hu hv) hc)
  exact kk size sym u v hsl hsym
set_option maxHeartbeats 4000000 in
theorem law_7 {l : Launch} {D : va_G} {dB dI : ClassId} {b L : Nat} {xs : Nat → Int32} {Z : zz_J} {adL adM : Nat → Nat} {q lim size i : Nat} {sym : Nat → Nat} {x : LI} {m : (Nat → Nat) × (Nat → Nat)} (hL : L ≤ 193) (C : Cl l D [(dB, .byte), (dI, .int)] b L xs Z) (hq : Q3 q) (hlim : lim ≤ 12) (hpw : ∀ t, t ≤ lim + 1 → q ^ t < 100000) (hsl : size ≤ lim) (hsym : ∀ j, sym j < q) (hi : i + 3 ≤ L) (kk : ∀ (size2 : Nat) (sym2 : Nat → Nat) (x2 : LI) (m2 : (Nat → Nat) × (Nat → Nat)), size2 ≤ lim → (∀ j, sym2 j < q) → Z (LX adL dB q lim size2 sym2 x2 ++ MW adM dI q lim size2 sym2 m2.1 m2.2) [(0, .ref b), (1, .ref (adL 0)), (2, .ref (adM 0)), (3, .int (nI i))] 392 []) : Z (LX adL dB q lim size sym x ++ MW adM dI q lim size sym m.1 m.2) [(0, .ref b), (1, .ref (adL 0)), (2, .ref (adM 0)), (3, .int (nI i))] 241 [] := by
  have hq5 := Q3_5 hq
  have CX := C.cx
  refine r_aload_n CX 1 dL_law_241 rfl ?_
  refine r_aload_n CX 0 dL_law_242 rfl ?_
  refine r_iload_n CX 3 dL_law_243 rfl ?_
  refine r_iconst CX (v := nI 1) dL_law_244 (by decide) ?_
  refine r_iadd CX dL_law_245 ?_
  refine s_ld C hL (by omega) dL_law_246 ?_
  refine r_aload_n CX 0 dL_law_247 rfl ?_
  refine r_iload_n CX 3 dL_law_248 rfl ?_
  refine r_iconst CX (v := nI 2) dL_law_249 (by decide) ?_
  refine r_iadd CX dL_law_250 ?_
  refine s_ld C hL (by omega) dL_law_251 ?_
  refine r_cuti CX (ci := 0) (nA := 2) [.int (xs (i + 1)), .int (xs (i + 2))] (LX adL dB q lim size sym x) (MW adM dI q lim size sym m.1 m.2) (m_complexity hq hsl hlim hsym) rfl (lw_V q118 q119 q120 q26 q121) (by decide +kernel) rfl ⟨rfl, rfl⟩ ⟨Nat.le_of_ble_eq_true rfl, Nat.le_of_ble_eq_true rfl⟩ rfl rfl (Nat.le_of_ble_eq_true rfl) dL_law_252 [0] rfl [0, 1, 2, 3, 4, 5, 6, 7, 8] [9, 10, 11, 12] rfl rfl rfl rfl rfl (by decide) (fun r u hu => ?_)
  show Z (MW adM dI q lim size sym m.1 m.2 ++ LX adL dB q lim size sym u) _ _ _
  refine r_aload_n CX 2 dL_law_255 rfl ?_
  refine r_aload_n CX 0 dL_law_256 rfl ?_
  refine r_iload_n CX 3 dL_law_257 rfl ?_
  refine r_iconst CX (v := nI 1) dL_law_258 (by decide) ?_
  refine r_iadd CX dL_law_259 ?_
  refine s_ld C hL (by omega) dL_law_260 ?_
  refine r_aload_n CX 0 dL_law_261 rfl ?_
  refine r_iload_n CX 3 dL_law_262 rfl ?_
  refine r_iconst CX (v := nI 2) dL_law_263 (by decide) ?_
  refine r_iadd CX dL_law_264 ?_
  refine s_ld C hL (by omega) dL_law_265 ?_
  refine r_cuti CX (ci := 1) (nA := 2) [.int (xs (i + 1)), .int (xs (i + 2))] (MW adM dI q lim size sym m.1 m.2) (LX adL dB q lim size sym u) (mm_complexity hq hsl hlim hsym hpw) rfl (lw_V q267 q268 q269 q27 q270) (by decide +kernel) rfl ⟨rfl, rfl⟩ ⟨Nat.le_of_ble_eq_true rfl, Nat.le_of_ble_eq_true rfl⟩ rfl rfl (Nat.le_of_ble_eq_true rfl) dL_law_266 [1] rfl [0, 1, 2, 3] [4, 5, 6, 7, 8, 9, 10, 11, 12] rfl rfl rfl rfl rfl (by decide) (fun r2 v hv => ?_)
  show Z (LX adL dB q lim size sym u ++ MW adM dI q lim size sym v.1 v.2) _ _ _
  refine r_icmp_eqI CX 392 dL_law_269 (by decide) (fun _ => ?_) (fun hc => absurd (AComI_u (by omega) hu hv) hc)
  exact kk size sym u v hsl hsym
set_option maxHeartbeats 4000000 in
theorem law_8 {l : Launch} {D : va_G} {dB dI : ClassId} {b L : Nat} {xs : Nat → Int32} {Z : zz_J} {adL adM : Nat → Nat} {q lim size i : Nat} {sym : Nat → Nat} {x : LI} {m : (Nat → Nat) × (Nat → Nat)} (hL : L ≤ 193) (C : Cl l D [(dB, .byte), (dI, .int)] b L xs Z) (hq : Q3 q) (hlim : lim ≤ 12) (hpw : ∀ t, t ≤ lim + 1 → q ^ t < 100000) (hsl : size ≤ lim) (hsym : ∀ j, sym j < q) (hi : i + 3 ≤ L) (kk : ∀ (size2 : Nat) (sym2 : Nat → Nat) (x2 : LI) (m2 : (Nat → Nat) × (Nat → Nat)), size2 ≤ lim → (∀ j, sym2 j < q) → Z (LX adL dB q lim size2 sym2 x2 ++ MW adM dI q lim size2 sym2 m2.1 m2.2) [(0, .ref b), (1, .ref (adL 0)), (2, .ref (adM 0)), (3, .int (nI i))] 392 []) : Z (LX adL dB q lim size sym x ++ MW adM dI q lim size sym m.1 m.2) [(0, .ref b), (1, .ref (adL 0)), (2, .ref (adM 0)), (3, .int (nI i))] 274 [] := by
  have hq5 := Q3_5 hq
  have CX := C.cx
  refine r_aload_n CX 1 dL_law_274 rfl ?_
  refine r_cuti CX (ci := 0) (nA := 0) [] (LX adL dB q lim size sym x) (MW adM dI q lim size sym m.1 m.2) (m_registers hq hsl hlim hsym) rfl (lw_V q154 q155 q156 q26 q157) (by decide +kernel) rfl ⟨rfl, rfl⟩ ⟨Nat.le_of_ble_eq_true rfl, Nat.le_of_ble_eq_true rfl⟩ rfl rfl (Nat.le_of_ble_eq_true rfl) dL_law_275 [0] rfl [0, 1, 2, 3, 4, 5, 6, 7, 8] [9, 10, 11, 12] rfl rfl rfl rfl rfl (by decide) (fun r u hu => ?_)
  show Z (MW adM dI q lim size sym m.1 m.2 ++ LX adL dB q lim size sym u) _ _ _
  refine r_aload_n CX 2 dL_law_278 rfl ?_
  refine r_cuti CX (ci := 1) (nA := 0) [] (MW adM dI q lim size sym m.1 m.2) (LX adL dB q lim size sym u) (mm_registers hq hsl hlim hsym hpw) rfl (lw_V q299 q300 q301 q27 q302) (by decide +kernel) rfl ⟨rfl, rfl⟩ ⟨Nat.le_of_ble_eq_true rfl, Nat.le_of_ble_eq_true rfl⟩ rfl rfl (Nat.le_of_ble_eq_true rfl) dL_law_279 [1] rfl [0, 1, 2, 3] [4, 5, 6, 7, 8, 9, 10, 11, 12] rfl rfl rfl rfl rfl (by decide) (fun r2 v hv => ?_)
  show Z (LX adL dB q lim size sym u ++ MW adM dI q lim size sym v.1 v.2) _ _ _
  refine r_icmp_eqI CX 392 dL_law_282 (by decide) (fun _ => ?_) (fun hc => absurd (AReg_uniq hu hv) hc)
  exact kk size sym u v hsl hsym
set_option maxHeartbeats 4000000 in
theorem law_9 {l : Launch} {D : va_G} {dB dI : ClassId} {b L : Nat} {xs : Nat → Int32} {Z : zz_J} {adL adM : Nat → Nat} {q lim size i : Nat} {sym : Nat → Nat} {x : LI} {m : (Nat → Nat) × (Nat → Nat)} (hL : L ≤ 193) (C : Cl l D [(dB, .byte), (dI, .int)] b L xs Z) (hq : Q3 q) (hlim : lim ≤ 12) (hpw : ∀ t, t ≤ lim + 1 → q ^ t < 100000) (hsl : size ≤ lim) (hsym : ∀ j, sym j < q) (hi : i + 3 ≤ L) (kk : ∀ (size2 : Nat) (sym2 : Nat → Nat) (x2 : LI) (m2 : (Nat → Nat) × (Nat → Nat)), size2 ≤ lim → (∀ j, sym2 j < q) → Z (LX adL dB q lim size2 sym2 x2 ++ MW adM dI q lim size2 sym2 m2.1 m2.2) [(0, .ref b), (1, .ref (adL 0)), (2, .ref (adM 0)), (3, .int (nI i))] 392 []) : Z (LX adL dB q lim size sym x ++ MW adM dI q lim size sym m.1 m.2) [(0, .ref b), (1, .ref (adL 0)), (2, .ref (adM 0)), (3, .int (nI i))] 287 [] := by
  have hq5 := Q3_5 hq
  have CX := C.cx
  refine r_aload_n CX 1 dL_law_287 rfl ?_
  refine r_aload_n CX 0 dL_law_288 rfl ?_
  refine r_iload_n CX 3 dL_law_289 rfl ?_
  refine r_iconst CX (v := nI 1) dL_law_290 (by decide) ?_
  refine r_iadd CX dL_law_291 ?_
  refine s_ld C hL (by omega) dL_law_292 ?_
  refine r_cuti CX (ci := 0) (nA := 1) [.int (xs (i + 1))] (LX adL dB q lim size sym x) (MW adM dI q lim size sym m.1 m.2) (m_coefficient hq hsl hlim hsym) rfl (lw_V q186 q187 q188 q26 q189) (by decide +kernel) rfl ⟨rfl, rfl⟩ ⟨Nat.le_of_ble_eq_true rfl, Nat.le_of_ble_eq_true rfl⟩ rfl rfl (Nat.le_of_ble_eq_true rfl) dL_law_293 [0] rfl [0, 1, 2, 3, 4, 5, 6, 7, 8] [9, 10, 11, 12] rfl rfl rfl rfl rfl (by decide) (fun r u hu => ?_)
  show Z (MW adM dI q lim size sym m.1 m.2 ++ LX adL dB q lim size sym u) _ _ _
  refine r_aload_n CX 2 dL_law_296 rfl ?_
  refine r_aload_n CX 0 dL_law_297 rfl ?_
  refine r_iload_n CX 3 dL_law_298 rfl ?_
  refine r_iconst CX (v := nI 1) dL_law_299 (by decide) ?_
  refine r_iadd CX dL_law_300 ?_
  refine s_ld C hL (by omega) dL_law_301 ?_
  refine r_cuti CX (ci := 1) (nA := 1) [.int (xs (i + 1))] (MW adM dI q lim size sym m.1 m.2) (LX adL dB q lim size sym u) (mm_coefficient hq hsl hlim hsym hpw) rfl (lw_V q307 q308 q309 q27 q310) (by decide +kernel) rfl ⟨rfl, rfl⟩ ⟨Nat.le_of_ble_eq_true rfl, Nat.le_of_ble_eq_true rfl⟩ rfl rfl (Nat.le_of_ble_eq_true rfl) dL_law_302 [1] rfl [0, 1, 2, 3] [4, 5, 6, 7, 8, 9, 10, 11, 12] rfl rfl rfl rfl rfl (by decide) (fun r2 v hv => ?_)
  show Z (LX adL dB q lim size sym u ++ MW adM dI q lim size sym v.1 v.2) _ _ _
  refine r_icmp_eqI CX 392 dL_law_305 (by decide) (fun _ => ?_) (fun hc => absurd (ACoe_uniq (by omega) hu hv) hc)
  exact kk size sym u v hsl hsym
set_option maxHeartbeats 4000000 in
theorem law_10 {l : Launch} {D : va_G} {dB dI : ClassId} {b L : Nat} {xs : Nat → Int32} {Z : zz_J} {adL adM : Nat → Nat} {q lim size i : Nat} {sym : Nat → Nat} {x : LI} {m : (Nat → Nat) × (Nat → Nat)} (hL : L ≤ 193) (C : Cl l D [(dB, .byte), (dI, .int)] b L xs Z) (hq : Q3 q) (hlim : lim ≤ 12) (hpw : ∀ t, t ≤ lim + 1 → q ^ t < 100000) (hsl : size ≤ lim) (hsym : ∀ j, sym j < q) (hi : i + 3 ≤ L) (kk : ∀ (size2 : Nat) (sym2 : Nat → Nat) (x2 : LI) (m2 : (Nat → Nat) × (Nat → Nat)), size2 ≤ lim → (∀ j, sym2 j < q) → Z (LX adL dB q lim size2 sym2 x2 ++ MW adM dI q lim size2 sym2 m2.1 m2.2) [(0, .ref b), (1, .ref (adL 0)), (2, .ref (adM 0)), (3, .int (nI i))] 392 []) : Z (LX adL dB q lim size sym x ++ MW adM dI q lim size sym m.1 m.2) [(0, .ref b), (1, .ref (adL 0)), (2, .ref (adM 0)), (3, .int (nI i))] 310 [] := by
  have hq5 := Q3_5 hq
  have CX := C.cx
  refine r_aload_n CX 1 dL_law_310 rfl ?_
  refine r_aload_n CX 0 dL_law_311 rfl ?_
  refine r_iload_n CX 3 dL_law_312 rfl ?_
  refine r_iconst CX (v := nI 1) dL_law_313 (by decide) ?_
  refine r_iadd CX dL_law_314 ?_
  refine s_ld C hL (by omega) dL_law_315 ?_
  refine r_cuti CX (ci := 0) (nA := 1) [.int (xs (i + 1))] (LX adL dB q lim size sym x) (MW adM dI q lim size sym m.1 m.2) (m_predict hq hsl hlim hsym) rfl (lw_V q190 q191 q192 q26 q193) (by decide +kernel) rfl ⟨rfl, rfl⟩ ⟨Nat.le_of_ble_eq_true rfl, Nat.le_of_ble_eq_true rfl⟩ rfl rfl (Nat.le_of_ble_eq_true rfl) dL_law_316 [0] rfl [0, 1, 2, 3, 4, 5, 6, 7, 8] [9, 10, 11, 12] rfl rfl rfl rfl rfl (by decide) (fun r u hu => ?_)
  show Z (MW adM dI q lim size sym m.1 m.2 ++ LX adL dB q lim size sym u) _ _ _
  refine r_aload_n CX 2 dL_law_319 rfl ?_
  refine r_aload_n CX 0 dL_law_320 rfl ?_
  refine r_iload_n CX 3 dL_law_321 rfl ?_
  refine r_iconst CX (v := nI 1) dL_law_322 (by decide) ?_
  refine r_iadd CX dL_law_323 ?_
  refine s_ld C hL (by omega) dL_law_324 ?_
  refine r_cuti CX (ci := 1) (nA := 1) [.int (xs (i + 1))] (MW adM dI q lim size sym m.1 m.2) (LX adL dB q lim size sym u) (mm_predict hq hsl hlim hsym hpw) rfl (lw_V q311 q312 q313 q27 q314) (by decide +kernel) rfl ⟨rfl, rfl⟩ ⟨Nat.le_of_ble_eq_true rfl, Nat.le_of_ble_eq_true rfl⟩ rfl rfl (Nat.le_of_ble_eq_true rfl) dL_law_325 [1] rfl [0, 1, 2, 3] [4, 5, 6, 7, 8, 9, 10, 11, 12] rfl rfl rfl rfl rfl (by decide) (fun r2 v hv => ?_)
  show Z (LX adL dB q lim size sym u ++ MW adM dI q lim size sym v.1 v.2) _ _ _
  refine r_icmp_eqI CX 392 dL_law_328 (by decide) (fun _ => ?_) (fun hc => absurd (APreI_u hu hv) hc)
  exact kk size sym u v hsl hsym
set_option maxHeartbeats 4000000 in
theorem law_11 {l : Launch} {D : va_G} {dB dI : ClassId} {b L : Nat} {xs : Nat → Int32} {Z : zz_J} {adL adM : Nat → Nat} {q lim size i : Nat} {sym : Nat → Nat} {x : LI} {m : (Nat → Nat) × (Nat → Nat)} (hL : L ≤ 193) (C : Cl l D [(dB, .byte), (dI, .int)] b L xs Z) (hq : Q3 q) (hlim : lim ≤ 12) (hpw : ∀ t, t ≤ lim + 1 → q ^ t < 100000) (hsl : size ≤ lim) (hsym : ∀ j, sym j < q) (hi : i + 3 ≤ L) (kk : ∀ (size2 : Nat) (sym2 : Nat → Nat) (x2 : LI) (m2 : (Nat → Nat) × (Nat → Nat)), size2 ≤ lim → (∀ j, sym2 j < q) → Z (LX adL dB q lim size2 sym2 x2 ++ MW adM dI q lim size2 sym2 m2.1 m2.2) [(0, .ref b), (1, .ref (adL 0)), (2, .ref (adM 0)), (3, .int (nI i))] 392 []) : Z (LX adL dB q lim size sym x ++ MW adM dI q lim size sym m.1 m.2) [(0, .ref b), (1, .ref (adL 0)), (2, .ref (adM 0)), (3, .int (nI i))] 333 [] := by
  have hq5 := Q3_5 hq
  have CX := C.cx
  refine r_aload_n CX 1 dL_law_333 rfl ?_
  refine r_aload_n CX 0 dL_law_334 rfl ?_
  refine r_iload_n CX 3 dL_law_335 rfl ?_
  refine r_iconst CX (v := nI 1) dL_law_336 (by decide) ?_
  refine r_iadd CX dL_law_337 ?_
  refine s_ld C hL (by omega) dL_law_338 ?_
  refine r_cuti CX (ci := 0) (nA := 1) [.int (xs (i + 1))] (LX adL dB q lim size sym x) (MW adM dI q lim size sym m.1 m.2) (m_complexityWith hq hsl hlim hsym) rfl (lw_V q198 q199 q200 q26 q201) (by decide +kernel) rfl ⟨rfl, rfl⟩ ⟨Nat.le_of_ble_eq_true rfl, Nat.le_of_ble_eq_true rfl⟩ rfl rfl (Nat.le_of_ble_eq_true rfl) dL_law_339 [0] rfl [0, 1, 2, 3, 4, 5, 6, 7, 8] [9, 10, 11, 12] rfl rfl rfl rfl rfl (by decide) (fun r u hu => ?_)
  show Z (MW adM dI q lim size sym m.1 m.2 ++ LX adL dB q lim size sym u) _ _ _
  refine r_aload_n CX 2 dL_law_342 rfl ?_
  refine r_aload_n CX 0 dL_law_343 rfl ?_
  refine r_iload_n CX 3 dL_law_344 rfl ?_
  refine r_iconst CX (v := nI 1) dL_law_345 (by decide) ?_
  refine r_iadd CX dL_law_346 ?_
  refine s_ld C hL (by omega) dL_law_347 ?_
  refine r_cuti CX (ci := 1) (nA := 1) [.int (xs (i + 1))] (MW adM dI q lim size sym m.1 m.2) (LX adL dB q lim size sym u) (mm_complexityWith hq hsl hlim hsym hpw) rfl (lw_V q315 q316 q317 q27 q318) (by decide +kernel) rfl ⟨rfl, rfl⟩ ⟨Nat.le_of_ble_eq_true rfl, Nat.le_of_ble_eq_true rfl⟩ rfl rfl (Nat.le_of_ble_eq_true rfl) dL_law_348 [1] rfl [0, 1, 2, 3] [4, 5, 6, 7, 8, 9, 10, 11, 12] rfl rfl rfl rfl rfl (by decide) (fun r2 v hv => ?_)
  show Z (LX adL dB q lim size sym u ++ MW adM dI q lim size sym v.1 v.2) _ _ _
  refine r_icmp_eqI CX 392 dL_law_351 (by decide) (fun _ => ?_) (fun hc => absurd (AWith_u hq5 hu hv) hc)
  exact kk size sym u v hsl hsym
set_option maxHeartbeats 4000000 in
theorem law_12 {l : Launch} {D : va_G} {dB dI : ClassId} {b L : Nat} {xs : Nat → Int32} {Z : zz_J} {adL adM : Nat → Nat} {q lim size i : Nat} {sym : Nat → Nat} {x : LI} {m : (Nat → Nat) × (Nat → Nat)} (hL : L ≤ 193) (C : Cl l D [(dB, .byte), (dI, .int)] b L xs Z) (hq : Q3 q) (hlim : lim ≤ 12) (hpw : ∀ t, t ≤ lim + 1 → q ^ t < 100000) (hsl : size ≤ lim) (hsym : ∀ j, sym j < q) (hi : i + 3 ≤ L) (kk : ∀ (size2 : Nat) (sym2 : Nat → Nat) (x2 : LI) (m2 : (Nat → Nat) × (Nat → Nat)), size2 ≤ lim → (∀ j, sym2 j < q) → Z (LX adL dB q lim size2 sym2 x2 ++ MW adM dI q lim size2 sym2 m2.1 m2.2) [(0, .ref b), (1, .ref (adL 0)), (2, .ref (adM 0)), (3, .int (nI i))] 392 []) : Z (LX adL dB q lim size sym x ++ MW adM dI q lim size sym m.1 m.2) [(0, .ref b), (1, .ref (adL 0)), (2, .ref (adM 0)), (3, .int (nI i))] 356 [] := by
  have hq5 := Q3_5 hq
  have CX := C.cx
  refine r_aload_n CX 1 dL_law_356 rfl ?_
  refine r_cuti CX (ci := 0) (nA := 0) [] (LX adL dB q lim size sym x) (MW adM dI q lim size sym m.1 m.2) (m_complexityBackwards hq hsl hlim hsym) rfl (lw_V q202 q203 q204 q26 q205) (by decide +kernel) rfl ⟨rfl, rfl⟩ ⟨Nat.le_of_ble_eq_true rfl, Nat.le_of_ble_eq_true rfl⟩ rfl rfl (Nat.le_of_ble_eq_true rfl) dL_law_357 [0] rfl [0, 1, 2, 3, 4, 5, 6, 7, 8] [9, 10, 11, 12] rfl rfl rfl rfl rfl (by decide) (fun r u hu => ?_)
  show Z (MW adM dI q lim size sym m.1 m.2 ++ LX adL dB q lim size sym u) _ _ _
  refine r_aload_n CX 2 dL_law_360 rfl ?_
  refine r_cuti CX (ci := 1) (nA := 0) [] (MW adM dI q lim size sym m.1 m.2) (LX adL dB q lim size sym u) (mm_complexityBackwards hq hsl hlim hsym hpw) rfl (lw_V q319 q320 q321 q27 q322) (by decide +kernel) rfl ⟨rfl, rfl⟩ ⟨Nat.le_of_ble_eq_true rfl, Nat.le_of_ble_eq_true rfl⟩ rfl rfl (Nat.le_of_ble_eq_true rfl) dL_law_361 [1] rfl [0, 1, 2, 3] [4, 5, 6, 7, 8, 9, 10, 11, 12] rfl rfl rfl rfl rfl (by decide) (fun r2 v hv => ?_)
  show Z (LX adL dB q lim size sym u ++ MW adM dI q lim size sym v.1 v.2) _ _ _
  refine r_icmp_eqI CX 392 dL_law_364 (by decide) (fun _ => ?_) (fun hc => absurd (ACom_uniq (fun _ _ => rfl) hu hv) hc)
  exact kk size sym u v hsl hsym
set_option maxHeartbeats 4000000 in
theorem law_13 {l : Launch} {D : va_G} {dB dI : ClassId} {b L : Nat} {xs : Nat → Int32} {Z : zz_J} {adL adM : Nat → Nat} {q lim size i : Nat} {sym : Nat → Nat} {x : LI} {m : (Nat → Nat) × (Nat → Nat)} (hL : L ≤ 193) (C : Cl l D [(dB, .byte), (dI, .int)] b L xs Z) (hq : Q3 q) (hlim : lim ≤ 12) (hpw : ∀ t, t ≤ lim + 1 → q ^ t < 100000) (hsl : size ≤ lim) (hsym : ∀ j, sym j < q) (hi : i + 3 ≤ L) (kk : ∀ (size2 : Nat) (sym2 : Nat → Nat) (x2 : LI) (m2 : (Nat → Nat) × (Nat → Nat)), size2 ≤ lim → (∀ j, sym2 j < q) → Z (LX adL dB q lim size2 sym2 x2 ++ MW adM dI q lim size2 sym2 m2.1 m2.2) [(0, .ref b), (1, .ref (adL 0)), (2, .ref (adM 0)), (3, .int (nI i))] 392 []) : Z (LX adL dB q lim size sym x ++ MW adM dI q lim size sym m.1 m.2) [(0, .ref b), (1, .ref (adL 0)), (2, .ref (adM 0)), (3, .int (nI i))] 369 [] := by
  have hq5 := Q3_5 hq
  have CX := C.cx
  refine r_aload_n CX 1 dL_law_369 rfl ?_
  refine r_aload_n CX 0 dL_law_370 rfl ?_
  refine r_iload_n CX 3 dL_law_371 rfl ?_
  refine r_iconst CX (v := nI 1) dL_law_372 (by decide) ?_
  refine r_iadd CX dL_law_373 ?_
  refine s_ld C hL (by omega) dL_law_374 ?_
  refine r_cuti CX (ci := 0) (nA := 1) [.int (xs (i + 1))] (LX adL dB q lim size sym x) (MW adM dI q lim size sym m.1 m.2) (m_holdsUntil hq hsl hlim hsym) rfl (lw_V q206 q207 q208 q26 q209) (by decide +kernel) rfl ⟨rfl, rfl⟩ ⟨Nat.le_of_ble_eq_true rfl, Nat.le_of_ble_eq_true rfl⟩ rfl rfl (Nat.le_of_ble_eq_true rfl) dL_law_375 [0] rfl [0, 1, 2, 3, 4, 5, 6, 7, 8] [9, 10, 11, 12] rfl rfl rfl rfl rfl (by decide) (fun r u hu => ?_)
  show Z (MW adM dI q lim size sym m.1 m.2 ++ LX adL dB q lim size sym u) _ _ _
  refine r_aload_n CX 2 dL_law_378 rfl ?_
  refine r_aload_n CX 0 dL_law_379 rfl ?_
  refine r_iload_n CX 3 dL_law_380 rfl ?_
  refine r_iconst CX (v := nI 1) dL_law_381 (by decide) ?_
  refine r_iadd CX dL_law_382 ?_
  refine s_ld C hL (by omega) dL_law_383 ?_
  refine r_cuti CX (ci := 1) (nA := 1) [.int (xs (i + 1))] (MW adM dI q lim size sym m.1 m.2) (LX adL dB q lim size sym u) (mm_holdsUntil hq hsl hlim hsym hpw) rfl (lw_V q323 q324 q325 q27 q326) (by decide +kernel) rfl ⟨rfl, rfl⟩ ⟨Nat.le_of_ble_eq_true rfl, Nat.le_of_ble_eq_true rfl⟩ rfl rfl (Nat.le_of_ble_eq_true rfl) dL_law_384 [1] rfl [0, 1, 2, 3] [4, 5, 6, 7, 8, 9, 10, 11, 12] rfl rfl rfl rfl rfl (by decide) (fun r2 v hv => ?_)
  show Z (LX adL dB q lim size sym u ++ MW adM dI q lim size sym v.1 v.2) _ _ _
  refine r_icmp_eqI CX 392 dL_law_387 (by decide) (fun _ => ?_) (fun hc => absurd (AHolI_u (by omega) hu hv) hc)
  exact kk size sym u v hsl hsym
end
section
/-! the law's loop and its start -/
set_option maxRecDepth 100000
theorem lim3 {L i : Nat} (hL : L ≤ 193) (hi : i ≤ 400) : nI L - nI 3 < nI i ↔ L < i + 3 := by
  rw [Int32.lt_iff_toInt_lt, pk_sub_toInt (by omega) (by omega), nI_toInt (by omega)]
  omega
theorem nI_inc3 (a : Nat) : nI a + Int32.ofInt 3 = nI (a + 3) := by
  rw [show Int32.ofInt 3 = nI 3 by decide]; exact nI_add a 3
set_option maxHeartbeats 4000000 in
theorem law_loop {l : Launch} {D : va_G} {dB dI : ClassId} {b L : Nat} {xs : Nat → Int32} {Z : zz_J} {adL adM : Nat → Nat} {q lim : Nat} (hL : L ≤ 193) (C : Cl l D [(dB, .byte), (dI, .int)] b L xs Z) (hq : Q3 q) (hlim : lim ≤ 12) (hpw : ∀ t, t ≤ lim + 1 → q ^ t < 100000) :
    ∀ k, 0 ≤ k → k ≤ 65 → ∀ (size : Nat) (sym : Nat → Nat) (x : LI) (m : (Nat → Nat) × (Nat → Nat)), size ≤ lim → (∀ j, sym j < q) → Z (LX adL dB q lim size sym x ++ MW adM dI q lim size sym m.1 m.2) [(0, .ref b), (1, .ref (adL 0)), (2, .ref (adM 0)), (3, .int (nI (1 + 3 * k)))] 28 [] := by
  have CX := C.cx
  have exit : ∀ (i : Nat) (w : va_W) (lv : List (Nat × Value)), Z w lv 398 [] := fun i w lv => by
    refine r_iconst CX (v := 1) dL_law_398 (by decide) ?_
    exact s_ret C dL_law_399
  refine nd_lo 0 65 ?_ ?_
  · intro size sym x m hsl hsym
    refine r_iload_n CX 3 dL_law_28 rfl ?_
    refine r_aload_n CX 0 dL_law_29 rfl ?_
    refine s_len C dL_law_30 ?_
    refine r_iconst CX (v := nI 3) dL_law_31 (by decide) ?_
    refine r_isubI CX (z := nI L - nI 3) dL_law_32 rfl ?_
    refine r_icmp_gtI CX 398 dL_law_33 (by decide) (fun hc => exit 0 _ _) (fun hc => absurd ((lim3 hL (by decide)).mpr (by omega)) hc)
  · intro k _ hk ih size sym x m hsl hsym
    refine r_iload_n CX 3 dL_law_28 rfl ?_
    refine r_aload_n CX 0 dL_law_29 rfl ?_
    refine s_len C dL_law_30 ?_
    refine r_iconst CX (v := nI 3) dL_law_31 (by decide) ?_
    refine r_isubI CX (z := nI L - nI 3) dL_law_32 rfl ?_
    refine r_icmp_gtI CX 398 dL_law_33 (by decide) (fun hc => exit 0 _ _) (fun hc => ?_)
    have hi : 1 + 3 * k + 3 ≤ L := by have := mt (lim3 hL (by omega)).mpr hc; omega
    have kk : ∀ (size2 : Nat) (sym2 : Nat → Nat) (x2 : LI) (m2 : (Nat → Nat) × (Nat → Nat)), size2 ≤ lim → (∀ j, sym2 j < q) → Z (LX adL dB q lim size2 sym2 x2 ++ MW adM dI q lim size2 sym2 m2.1 m2.2) [(0, .ref b), (1, .ref (adL 0)), (2, .ref (adM 0)), (3, .int (nI (1 + 3 * k)))] 392 [] := by
      intro size2 sym2 x2 m2 h1 h2
      refine r_iinc CX (k := 3) (v := nI (1 + 3 * (k + 1))) (lv' := [(0, .ref b), (1, .ref (adL 0)), (2, .ref (adM 0)), (3, .int (nI (1 + 3 * (k + 1))))]) [1, 2, 3, 0] dL_law_392 rfl (by rw [nI_inc3]; rfl) (by decide) rfl ?_
      refine r_goto CX 28 dL_law_395 (by decide) ?_
      exact ih size2 sym2 x2 m2 h1 h2
    refine r_aload_n CX 0 dL_law_36 rfl ?_
    refine r_iload_n CX 3 dL_law_37 rfl ?_
    refine s_ld C hL (by omega) dL_law_38 ?_
    refine r_bipush CX (v := 15) dL_law_39 (by decide) ?_
    obtain ⟨j, hj, ej⟩ := pk_andE (xs (1 + 3 * k)) (m := 15) 4 (by decide)
    refine r_iand CX (z := nI j) dL_law_41 ej ?_
    rcases (show j = 0 ∨ j = 1 ∨ j = 2 ∨ j = 3 ∨ j = 4 ∨ j = 5 ∨ j = 6 ∨ j = 7 ∨ j = 8 ∨ j = 9 ∨ j = 10 ∨ j = 11 ∨ j = 12 ∨ j = 13 ∨ 14 ≤ j by omega) with rfl | rfl | rfl | rfl | rfl | rfl | rfl | rfl | rfl | rfl | rfl | rfl | rfl | rfl | hj2
    · exact r_tabIn CX (off := 70) 112 dL_law_42 (by decide) (by decide) (by decide) (by decide) (law_0 hL C hq hlim hpw hsl hsym hi kk)
    · exact r_tabIn CX (off := 83) 125 dL_law_42 (by decide) (by decide) (by decide) (by decide) (law_1 hL C hq hlim hpw hsl hsym hi kk)
    · exact r_tabIn CX (off := 106) 148 dL_law_42 (by decide) (by decide) (by decide) (by decide) (law_2 hL C hq hlim hpw hsl hsym hi kk)
    · exact r_tabIn CX (off := 119) 161 dL_law_42 (by decide) (by decide) (by decide) (by decide) (law_3 hL C hq hlim hpw hsl hsym hi kk)
    · exact r_tabIn CX (off := 152) 194 dL_law_42 (by decide) (by decide) (by decide) (by decide) (law_4 hL C hq hlim hpw hsl hsym hi kk)
    · exact r_tabIn CX (off := 163) 205 dL_law_42 (by decide) (by decide) (by decide) (by decide) (law_5 hL C hq hlim hpw hsl hsym hi kk)
    · exact r_tabIn CX (off := 176) 218 dL_law_42 (by decide) (by decide) (by decide) (by decide) (law_6 hL C hq hlim hpw hsl hsym hi kk)
    · exact r_tabIn CX (off := 199) 241 dL_law_42 (by decide) (by decide) (by decide) (by decide) (law_7 hL C hq hlim hpw hsl hsym hi kk)
    · exact r_tabIn CX (off := 232) 274 dL_law_42 (by decide) (by decide) (by decide) (by decide) (law_8 hL C hq hlim hpw hsl hsym hi kk)
    · exact r_tabIn CX (off := 245) 287 dL_law_42 (by decide) (by decide) (by decide) (by decide) (law_9 hL C hq hlim hpw hsl hsym hi kk)
    · exact r_tabIn CX (off := 268) 310 dL_law_42 (by decide) (by decide) (by decide) (by decide) (law_10 hL C hq hlim hpw hsl hsym hi kk)
    · exact r_tabIn CX (off := 291) 333 dL_law_42 (by decide) (by decide) (by decide) (by decide) (law_11 hL C hq hlim hpw hsl hsym hi kk)
    · exact r_tabIn CX (off := 314) 356 dL_law_42 (by decide) (by decide) (by decide) (by decide) (law_12 hL C hq hlim hpw hsl hsym hi kk)
    · exact r_tabIn CX (off := 327) 369 dL_law_42 (by decide) (by decide) (by decide) (by decide) (law_13 hL C hq hlim hpw hsl hsym hi kk)
    · exact r_tabOut CX 392 dL_law_42 (Or.inr (by rw [nI_toInt (by omega)]; omega)) (by decide) (kk size sym x m hsl hsym)
end
section
/-! the start -/
set_option maxRecDepth 100000
set_option maxHeartbeats 4000000 in
theorem m_cell (l : Launch) (b L : Nat) (xs : Nat → Int32) (hL : L ≤ 193) : Met l yX0_cell (ws_ yX0_cell cX0_cell 2 (some .int)) ({ frames := 0, cells := 0, slots := 0, locals := 0 }) (va_Pc [.ref b, .int (nI 0)] (fun U => va_X b L xs U U.heap ∧ b < U.heap.size)) (va_Qi (fun (r : Int32) (_ : Unit) => r = (if 0 < L then xs 0 else 0)) (fun _ _ => True) (fun _ => False)) 0 0 (fun _ => False) := by
  refine Met.ofW (cc := cX0_cell) (maxL := 2) (ret := some .int) (by decide) rfl ?_
  intro p e s m args below meth c s₁ B hml hv
  obtain ⟨rfl, hX, hbl⟩ := hv
  have hx := B.exec
  have hb := B.bytes
  have hr := B.returns
  have hlocks := B.notSynchronized
  have hS : va_S (fun _ => False) s.heap s.heap [] := va_S.rf
  have hl := lv_entry ([.ref b, .int (nI 0)]) (n := 2) (Nat.le_of_ble_eq_true rfl)
  rw [lg_entry_eq]
  generalize (lg_sl ([.ref b, .int (nI 0)]) ++ List.replicate (2 - (lg_sl ([.ref b, .int (nI 0)])).length) Slot.unset).toArray = ls at hl ⊢
  have hl : lv_has ls 2 [(0, .ref b), (1, .int (nI 0))] := hl
  refine lv_iload_n hx hb dX0_cell_0 rfl (lv_at hl 1 rfl) ?_
  refine lv_aload_n hx hb dX0_cell_1 rfl (lv_at hl 0 rfl) ?_
  refine va_slen hx hb hX hbl (fun h => h) hS dX0_cell_2 ?_
  refine lv_icmp_ge (tgt := 12) hx hb dX0_cell_3 (by decide) (fun hc => ?_) (fun hc => ?_)
  · have h0 : ¬ 0 < L := by have := (nI_leI (a := L) (b := 0) (by omega) (by decide)).mp hc; omega
    refine lv_iconst (v := 0) hx hb dX0_cell_12 (by decide) ?_
    exact W.iret (v := 0) hx hb hr (fun t ht hW => ⟨⟨0, (), rfl, (if_neg h0).symm, trivial⟩, hS.F ht⟩) hS.2.2 dX0_cell_13
  · have h0 : 0 < L := by have := mt (nI_leI (a := L) (b := 0) (by omega) (by decide)).mpr hc; omega
    refine lv_aload_n hx hb dX0_cell_6 rfl (lv_at hl 0 rfl) ?_
    refine lv_iload_n hx hb dX0_cell_7 rfl (lv_at hl 1 rfl) ?_
    refine va_sld hx hb hX hbl (fun h => h) hS (vp_in_nI h0 (by omega)) dX0_cell_8 ?_
    rw [nI_clamp (by decide)]
    refine lv_goto (tgt := 13) hx hb dX0_cell_9 (by decide) ?_
    exact W.iret (v := xs 0) hx hb hr (fun t ht hW => ⟨⟨xs 0, (), rfl, (if_pos h0).symm, trivial⟩, hS.F ht⟩) hS.2.2 dX0_cell_13
theorem qOf_ok (ch : Int32) : Q3 (qOf ch) ∧ limOf ch ≤ 12 ∧ ∀ t, t ≤ limOf ch + 1 → qOf ch ^ t < 100000 := by
  unfold qOf limOf
  by_cases h : 0 < ch
  · rw [if_pos h, if_pos h]
    by_cases h2 : ch = 1
    · rw [if_pos h2, if_pos h2]
      exact ⟨Or.inr (Or.inl rfl), by decide, fun t ht => Nat.lt_of_le_of_lt (Nat.pow_le_pow_right (by decide) ht) (by decide)⟩
    · rw [if_neg h2, if_neg h2]
      exact ⟨Or.inr (Or.inr rfl), by decide, fun t ht => Nat.lt_of_le_of_lt (Nat.pow_le_pow_right (by decide) ht) (by decide)⟩
  · rw [if_neg h, if_neg h]
    exact ⟨Or.inl rfl, by decide, fun t ht => Nat.lt_of_le_of_lt (Nat.pow_le_pow_right (by decide) ht) (by decide)⟩
set_option maxHeartbeats 4000000 in
theorem whole_start {p : Program} {e : Env} {s : State} {m : MethodId} {below : List Frame} {meth : Method} {c : Code} (l : Launch) {b L : Nat} {xs : Nat → Int32} (hL : L ≤ 193) (C0 : lw_At p s m meth c b L xs) : W p l e room_1 s m #[Value.ref b] below meth c s.heap [] 0 0 (lw_Z below #[Value.ref b] s) (entryFrame m ([Value.ref b] : List Value).toArray 4) := by
  obtain ⟨hx, hb, hr, hml, hown, hts0, hX, hbl, hlocks, hgv⟩ := id C0
  have hts : ∀ w ∈ lw_all, w.before #[Value.ref b] s = true := fun w h => hts0 w (lw_all_tbl h)
  have hA : ∀ q : Nat, s.heap.size ≤ q → (fun q : Nat => s.heap.size ≤ q) q := fun _ h => h
  have hbA : ¬ (fun q : Nat => s.heap.size ≤ q) b := Nat.not_le.mpr hbl
  obtain ⟨c0, iS0, hKn0⟩ := u_known (C := RX1) (T := TX1) (N := 16) (n := 16) hts0 (fun w h => lw_all_tbl (in_X1 w h)) (hts _ q29)
  obtain ⟨c1, iS1, hKn1⟩ := u_known (C := RX2) (T := TX2) (N := 6) (n := 6) hts0 (fun w h => lw_all_tbl (in_X2 w h)) (hts _ q214)
  obtain ⟨dC, dJ, hKc⟩ : ∃ (dC : Nat → ClassId) (dJ : Nat → Nat → Nat), ∀ (k : Nat) (q : vw_C), vwCl[k]? = some q → u_Kn s q.1 q.2.1 q.2.2 (dC k) (dJ k) := by
    refine ⟨fun k => if k = 0 then c0 else c1, fun k => if k = 0 then iS0 else iS1, ?_⟩
    intro k q hq
    match k, hq with
    | 0, hq => cases hq; exact hKn0
    | 1, hq => cases hq; exact hKn1
    | k + 2, hq => simp [vwCl] at hq
  have hS : va_S (fun q : Nat => s.heap.size ≤ q) s.heap s.heap [] := va_S.rf
  have hK : va_K (dC, dJ) vwCl [] s := ⟨hKc, fun k q h => by simp at h⟩
  have hP : va_P (dC, dJ) vwCl [] s.heap := fun k q h => by simp at h
  have hD : va_D (fun q : Nat => s.heap.size ≤ q) [] := ⟨fun i j p q h => by simp at h, fun k q h => by simp at h⟩
  have hl := lv_entry ([.ref b]) (n := 4) (Nat.le_of_ble_eq_true rfl)
  rw [lg_entry_eq]
  generalize (lg_sl ([.ref b]) ++ List.replicate (4 - (lg_sl ([.ref b])).length) Slot.unset).toArray = ls at hl ⊢
  have hl : lv_has ls 4 [(0, .ref b)] := hl
  refine va_new (ci := 0) (fs := [.int (nI 0), .int (nI 0), .null, .int (nI 0), .null, .int (nI 0), .null, .null, .null, .null, .int (nI 0), .int (nI 0), .int (nI 0), .null, .int (nI 0), .null]) (C := RX1) (T := TX1) (N := 16) hx hb hts in_X1 tyX1 tyX1_ok hown (hts _ q28) (hts _ q29) (hts _ q26) hK hP hD hS hA rfl (fun j hj => by rcases (show j = 0 ∨ j = 1 ∨ j = 2 ∨ j = 3 ∨ j = 4 ∨ j = 5 ∨ j = 6 ∨ j = 7 ∨ j = 8 ∨ j = 9 ∨ j = 10 ∨ j = 11 ∨ j = 12 ∨ j = 13 ∨ j = 14 ∨ j = 15 by omega) with rfl | rfl | rfl | rfl | rfl | rfl | rfl | rfl | rfl | rfl | rfl | rfl | rfl | rfl | rfl | rfl <;> rfl) (Nat.le_of_ble_eq_true rfl) (Nat.le_of_ble_eq_true rfl) dL_law_0 (fun qa H hP hD hS => ?_)
  have hP : va_P (dC, dJ) vwCl [(qa, .inr (0, [.int (nI 0), .int (nI 0), .null, .int (nI 0), .null, .int (nI 0), .null, .null, .null, .null, .int (nI 0), .int (nI 0), .int (nI 0), .null, .int (nI 0), .null]))] H := hP
  have hD : va_D (fun q : Nat => s.heap.size ≤ q) [(qa, .inr (0, [.int (nI 0), .int (nI 0), .null, .int (nI 0), .null, .int (nI 0), .null, .null, .null, .null, .int (nI 0), .int (nI 0), .int (nI 0), .null, .int (nI 0), .null]))] := hD
  refine lv_dup hx hb dL_law_3 rfl ?_
  refine lv_aload_n hx hb dL_law_4 rfl (lv_at hl 0 rfl) ?_
  refine lv_iconst (v := nI 0) hx hb dL_law_5 (by decide) ?_
  refine va_calli (va_runS (As := [.ref b, .int (nI 0)]) (rest := [.ref qa, .ref qa]) ⟨hx, hb, hml, hown, hts⟩ (m_cell l b L xs hL) (va_cwS 2 hts (lw_S q210 q211 q25 q212) rfl rfl rfl (by decide +kernel) ⟨Nat.le_of_ble_eq_true rfl, Nat.le_of_ble_eq_true rfl⟩) ⟨fun a U g mk q => by obtain ⟨q0, qX, qb⟩ := q; exact ⟨q0, va_X.moved (u := U) (U := U.calling g mk a) (Vm.Alike.refl U.vm) qX, qb⟩, fun U hU hW => ⟨rfl, by rw [hU]; exact va_X.moved hW.alike (hX.kept (hS.2.1 b hbl hbA)), by rw [hU]; exact Nat.lt_of_lt_of_le hbl hS.1⟩⟩ rfl rfl hl.1 rfl (lv_room (Nat.le_of_ble_eq_true rfl)) dL_law_6 ⟨Nat.le_of_ble_eq_true rfl, Nat.le_of_ble_eq_true rfl⟩) hS (fun q _ h => h.elim) (fun q h => h.elim) (fun r0 u t H1 locs ht hvm hr1 hB hz1 hk1 hS => ?_)
  obtain rfl : _ = _ := hr1
  have hP := hP.kept (H1 := H1) (fun k q hq => hk1 q.1 ((hP k q hq).lt) (fun h => h))
  generalize H1 = H at hP hS ⊢
  have hFc := va_free (wc := [(qa, .inr (0, [.int (nI 0), .int (nI 0), .null, .int (nI 0), .null, .int (nI 0), .null, .null, .null, .null, .int (nI 0), .int (nI 0), .int (nI 0), .null, .int (nI 0), .null]))]) hD hS hA [0] rfl
  refine va_callv (va_runI (As := [.int (if 0 < L then xs 0 else 0)]) (rest := [.ref qa]) ⟨hx, hb, hml, hown, hts⟩ (m_init (h0 := qa) (ch := (if 0 < L then xs 0 else 0)) H.size) (cwI 1 hts (lw_meth q32) rfl rfl rfl (hts _ q26) (hts _ q30) (hts _ q31) rfl (by decide +kernel) ⟨Nat.le_of_ble_eq_true rfl, Nat.le_of_ble_eq_true rfl⟩) ⟨fun a U g mk q => by obtain ⟨q0, q1, qP, qK, qD⟩ := q; exact ⟨q0, q1, qP, va_K.moved (u := U) (U := U.calling g mk a) (Vm.Alike.refl U.vm) qK, qD⟩, fun U hU hW => ⟨rfl, by rw [hU], by rw [hU]; exact hP, va_K.moved hW.alike hK, hD.weaken (fun _ _ _ _ => trivial)⟩⟩ rfl rfl hl.1 rfl (lv_room (Nat.le_of_ble_eq_true rfl)) dL_law_9 ⟨Nat.le_of_ble_eq_true rfl, Nat.le_of_ble_eq_true rfl⟩) hS (fun q _ h => hFc q h) hFc (fun u t H1 locs ht hvm hw hB hz1 hk1 hS => ?_)
  obtain ⟨adL, dB⟩ := u
  obtain rfl : adL 0 = qa := hw
  obtain ⟨hP1, hK1, hD1⟩ := hB
  rw [ht] at hP1
  have hK1 := va_K.moved hvm.symm hK1
  obtain ⟨hP, hD⟩ := va_join (wr := []) (w1 := LX adL dB (qOf (if 0 < L then xs 0 else 0)) (limOf (if 0 < L then xs 0 else 0)) 0 (fun _ => 0) LI0) hP hD [0] [] rfl rfl (by decide) (by decide) hk1 hFc hP1 hD1
  have hK : va_K (dC, dJ) vwCl [(dB, .byte)] s := hK1
  generalize H1 = H at hP hS ⊢
  have hP : va_P (dC, dJ) vwCl (LX adL dB (qOf (if 0 < L then xs 0 else 0)) (limOf (if 0 < L then xs 0 else 0)) 0 (fun _ => 0) LI0) H := hP
  have hD : va_D (fun q : Nat => s.heap.size ≤ q) (LX adL dB (qOf (if 0 < L then xs 0 else 0)) (limOf (if 0 < L then xs 0 else 0)) 0 (fun _ => 0) LI0) := hD
  refine lv_astore_n (lv' := [(1, .ref (adL 0)), (0, .ref b)]) hx hb dL_law_12 rfl hl (by decide) rfl (fun ls hl => ?_)
  refine va_new (ci := 1) (fs := [.int (nI 0), .int (nI 0), .int (nI 0), .null, .null, .null]) (C := RX2) (T := TX2) (N := 6) hx hb hts in_X2 tyX2 tyX2_ok hown (hts _ q213) (hts _ q214) (hts _ q27) hK hP hD hS hA rfl (fun j hj => by rcases (show j = 0 ∨ j = 1 ∨ j = 2 ∨ j = 3 ∨ j = 4 ∨ j = 5 by omega) with rfl | rfl | rfl | rfl | rfl | rfl <;> rfl) (Nat.le_of_ble_eq_true rfl) (Nat.le_of_ble_eq_true rfl) dL_law_13 (fun qb H hP hD hS => ?_)
  refine lv_dup hx hb dL_law_16 rfl ?_
  refine lv_aload_n hx hb dL_law_17 rfl (lv_at hl 1 rfl) ?_
  refine lv_iconst (v := nI 0) hx hb dL_law_18 (by decide) ?_
  refine va_calli (va_runS (As := [.ref b, .int (nI 0)]) (rest := [.ref qb, .ref qb]) ⟨hx, hb, hml, hown, hts⟩ (m_cell l b L xs hL) (va_cwS 2 hts (lw_S q210 q211 q25 q212) rfl rfl rfl (by decide +kernel) ⟨Nat.le_of_ble_eq_true rfl, Nat.le_of_ble_eq_true rfl⟩) ⟨fun a U g mk q => by obtain ⟨q0, qX, qb⟩ := q; exact ⟨q0, va_X.moved (u := U) (U := U.calling g mk a) (Vm.Alike.refl U.vm) qX, qb⟩, fun U hU hW => ⟨rfl, by rw [hU]; exact va_X.moved hW.alike (hX.kept (hS.2.1 b hbl hbA)), by rw [hU]; exact Nat.lt_of_lt_of_le hbl hS.1⟩⟩ rfl rfl hl.1 rfl (lv_room (Nat.le_of_ble_eq_true rfl)) dL_law_19 ⟨Nat.le_of_ble_eq_true rfl, Nat.le_of_ble_eq_true rfl⟩) hS (fun q _ h => h.elim) (fun q h => h.elim) (fun r1 u t H1 locs ht hvm hr1 hB hz1 hk1 hS => ?_)
  obtain rfl : _ = _ := hr1
  have hP := hP.kept (H1 := H1) (fun k q hq => hk1 q.1 ((hP k q hq).lt) (fun h => h))
  generalize H1 = H at hP hS ⊢
  have hPc := hP.sub (ws' := [(qb, .inr (1, [.int (nI 0), .int (nI 0), .int (nI 0), .null, .null, .null]))]) [9] rfl
  have hDc := hD.sub (ws' := [(qb, .inr (1, [.int (nI 0), .int (nI 0), .int (nI 0), .null, .null, .null]))]) [9] (by decide) rfl
  have hKe := hK.sub (tys' := []) [] rfl
  have hFc := va_free (wc := [(qb, .inr (1, [.int (nI 0), .int (nI 0), .int (nI 0), .null, .null, .null]))]) hD hS hA [9] rfl
  refine va_callv (va_runI (As := [.int (if 0 < L then xs 0 else 0)]) (rest := [.ref qb]) ⟨hx, hb, hml, hown, hts⟩ (mm_init (h0 := qb) (ch := (if 0 < L then xs 0 else 0)) H.size) (cwI 1 hts (lw_meth q217) rfl rfl rfl (hts _ q27) (hts _ q215) (hts _ q216) rfl (by decide +kernel) ⟨Nat.le_of_ble_eq_true rfl, Nat.le_of_ble_eq_true rfl⟩) ⟨fun a U g mk q => by obtain ⟨q0, q1, qP, qK, qD⟩ := q; exact ⟨q0, q1, qP, va_K.moved (u := U) (U := U.calling g mk a) (Vm.Alike.refl U.vm) qK, qD⟩, fun U hU hW => ⟨rfl, by rw [hU], by rw [hU]; exact hPc, va_K.moved hW.alike hKe, hDc.weaken (fun _ _ _ _ => trivial)⟩⟩ rfl rfl hl.1 rfl (lv_room (Nat.le_of_ble_eq_true rfl)) dL_law_22 ⟨Nat.le_of_ble_eq_true rfl, Nat.le_of_ble_eq_true rfl⟩) hS (fun q _ h => hFc q h) hFc (fun u t H1 locs ht hvm hw hB hz1 hk1 hS => ?_)
  obtain ⟨adM, dI⟩ := u
  obtain rfl : adM 0 = qb := hw
  obtain ⟨hP1, hK1, hD1⟩ := hB
  rw [ht] at hP1
  have hK1 := va_K.moved hvm.symm hK1
  obtain ⟨hP, hD⟩ := va_join (wr := LX adL dB (qOf (if 0 < L then xs 0 else 0)) (limOf (if 0 < L then xs 0 else 0)) 0 (fun _ => 0) LI0) (w1 := MW adM dI (qOf (if 0 < L then xs 0 else 0)) (limOf (if 0 < L then xs 0 else 0)) 0 (fun _ => 0) (fun _ => 0) (fun _ => 0)) hP hD [9] [0, 1, 2, 3, 4, 5, 6, 7, 8] rfl rfl (by decide) (by decide) hk1 hFc hP1 hD1
  have hK : va_K (dC, dJ) vwCl [(dB, .byte), (dI, .int)] s := hK.app hK1
  generalize H1 = H at hP hS ⊢
  refine lv_astore_n (lv' := [(2, .ref (adM 0)), (1, .ref (adL 0)), (0, .ref b)]) hx hb dL_law_25 rfl hl (by decide) rfl (fun ls hl => ?_)
  refine lv_iconst (v := nI 1) hx hb dL_law_26 (by decide) ?_
  refine lv_istore_n (lv' := [(3, .int (nI 1)), (2, .ref (adM 0)), (1, .ref (adL 0)), (0, .ref b)]) hx hb dL_law_27 rfl hl (by decide) rfl (fun ls hl => ?_)
  refine W.widen (k := 600000) (n := 7290000) (Nat.le_of_ble_eq_true rfl) (Nat.le_of_ble_eq_true rfl) ?_
  obtain ⟨hq, hlim, hpw⟩ := qOf_ok (if 0 < L then xs 0 else 0)
  have hq0 : 0 < qOf (if 0 < L then xs 0 else 0) := by have := Q3_2 hq; omega
  exact (law_loop (Z := zz_at p l e room_1 s m #[Value.ref b] below meth c (dC, dJ) (fun q : Nat => s.heap.size ≤ q) 4 600000 7290000 (lw_Z below #[Value.ref b] s)) hL ⟨p, e, s, m, below, meth, c, rfl, C0, hK⟩ hq hlim hpw 0 (Nat.le_refl _) (by decide) 0 (fun _ => 0) LI0 (fun _ => 0, fun _ => 0) (Nat.zero_le _) (fun _ => hq0)) H locs ls hP hD hS (lv_sub hl [3, 2, 1, 0] rfl)
end
section
-- ===== YOUR PART ENDS =====
set_option maxHeartbeats 4000000 in
theorem lw_walk (l : Launch) (b : Addr) (xs : List Int32) : MetFree l x (headSpec (Jvm.Cond.code x code maxLocals ret :: tables_1) room_1) (lw_P b xs) (fun _ _ _ _ _ => True) lw_Q := by
  refine MetFree.of_bodyS (code := code) (maxLocals := maxLocals) (ret := ret) (by decide) ?_ ?_
  · intro args s m h hn
    obtain ⟨meth, c, h1, h2, h3, h4, h5, h6, -, -⟩ := Cond.code_spec hn (atoms_spec (ws := Jvm.Cond.code x code maxLocals ret :: tables_1) h _ List.mem_cons_self)
    exact ⟨meth, c, h1, h2, h3, h4, h5, h6⟩
  · intro p e s m args below meth c s₁ B hml0 hP _
    obtain ⟨rfl, hx, hbd, hgv⟩ := hP
    obtain ⟨scr, harrAt, hlist, hof, hsmall⟩ := hx
    obtain ⟨hcb, hkn, -, -⟩ := State.arrayAt?_spec harrAt
    have hown : s.vm.findClass R_law = some m.cls := findClass_of_methodNamed B.named
    have hts0 : ∀ c ∈ (Jvm.Cond.code x code maxLocals ret :: tables_1), c.before #[Value.ref b] s = true := atoms_spec (ws := Jvm.Cond.code x code maxLocals ret :: tables_1) B.pre
    have hts : ∀ w ∈ lw_tbl, w.before #[Value.ref b] s = true := k2_hts_sels lw_privs (fun w hw => hts0 w (List.mem_cons_of_mem _ hw)) lw_privs_ok
    have hml : c.maxLocals = 4 := B.maxLocals_eq (hts0 _ List.mem_cons_self)
    have X₀ : Stand p l e room_1 s m #[Value.ref b] below meth c s₁ [] 0 0 := Stand.of_body B
    have hh0 : s₁.heap = s.heap := by rw [B.state]; rfl
    have hsz : scr.slots.size = xs.length := by rw [← Array.length_toList, hlist, List.length_map]
    have hval : ∀ j : Nat, j < xs.length → scr.slots[j]? = some (.int (xs.getD j 0)) := fun j hj => by
      rw [← Array.getElem?_toList, hlist]
      simp [hj]
    have hbl : b < s.heap.size := (Array.getElem?_eq_some_iff.mp hcb).1
    have hX : va_X b xs.length (fun j => xs.getD j 0) s s.heap := ⟨scr, hcb, hof, hkn, hsz, hval⟩
    have K : W p l e room_1 s m #[Value.ref b] below meth c s₁.heap [] 0 0 (lw_Z below #[Value.ref b] s) (entryFrame m ([Value.ref b] : List Value).toArray 4) := by
      rw [hh0]
      exact whole_start l hbd ⟨B.exec, B.bytes, B.returns, hml, hown, hts, hX, hbl, B.notSynchronized, hgv⟩
    obtain ⟨t, a1, o, b1, b2, b3⟩ := K s₁ rfl X₀
    exact ⟨t, o, a1, b1, b2, b3⟩
theorem lw_pre_spec {args : Array Value} {s : State} (h : (Jvm.Cond.and given_1 narrow_1).before args s = true) (hr : rest_1_c.before args s = true) : ∃ (b : Addr) (xs : List Int32), lw_P b xs args s := by
  have hs := flat_of_before _ h
  have hq := flat_of_before _ hr
  have hc : (Cond.count 1).before args s = true := hs _ (by decide +kernel)
  have harr : (Cond.arrayOf (.arg 0) .int).before args s = true := hs _ (by decide +kernel)
  have hle : (Cond.le (.length (.arg 0)) (.int 193)).before args s = true := hs _ (by decide +kernel)
  have hlen : (Cond.isInt (.length (.arg 0))).before args s = true := hq _ (by decide +kernel)
  have hall : (Cond.all (.arg 0) (.isInt (.elem (.arg 0) (.index 0)))).before args s = true := hq _ (by decide +kernel)
  obtain ⟨b, xs, hb, hx⟩ := State.ints_of_pre rfl harr hlen hall
  have hsm : xs.length < 2 ^ 31 := hx.choose_spec.2.2.2
  have hev : (Term.length (.arg 0)).eval args s none [] s = some (.int xs.length.toInt32) := hx.length_eval hb
  have hv := Cond.le_ints hev (show (Term.int 193).eval args s none [] s = some (.int 193) from rfl)
  have hd : xs.length.toInt32 ≤ 193 := by
    simpa [Cond.before, Cond.holds, hv] using hle
  have hN : xs.length ≤ 193 := (Int32.ofNat_le_ofNat hsm (by decide)).mp (show Int32.ofNat xs.length ≤ Int32.ofNat 193 from hd)
  exact ⟨b, xs, Cond.one_arg hc (show args[0]? = some (.ref b) from hb), hx, hN, h⟩
theorem lw_comes (l : Launch) : Comes l x (Jvm.Cond.code x code maxLocals ret :: tables_1) room_1 (fun tb e args s => Calls_1 tb e args s ∧ rest_1 tb e args s ∧ Pre_1 tb e args s)
    (fun _ _ args s o t => lw_Q args s o t) := by
  intro p e ha hc hk s m args below hf hfit hheap happ hpre
  obtain ⟨b, xs, hP⟩ := lw_pre_spec hpre.2.2 hpre.2.1
  obtain ⟨k, o, h1, h2, h3, hQ⟩ := lw_walk l b xs p e ha hc hk s m args below hf ((Spec.applies_iff_loose hf).mp happ).1 hP trivial
  exact ⟨k, o, h1, h2, h3, hQ⟩
theorem lw_frame {s t : State} {o : Outcome} {args : Array Value} (h : Framed s o t [] 600000 7290000) :
    Framed s o t (fieldLocs frame_1_writes args s ++ arrayLocs frame_1_arrays args s ++ staticLocs frame_1_statics s) 600000 7290000 := h
theorem lw_limb (L : Cond) (hL : ∀ (args : Array Value) (s t : State), L.after args s (.returned (some (.int 1))) t = true) :
    ArmFor flags0 classFile x code maxLocals ret World_1 tables_1 room_1 Calls_1 rest_1 Pre_1
      (fun tb e a s o t => postC L tb e a s o t ∧ Framed s o t (fieldLocs frame_1_writes a s ++ arrayLocs frame_1_arrays a s ++ staticLocs frame_1_statics s) 600000 7290000) := by
  intro l _ _ _ p e ha hc hk s m args below hf hfit hheap happ hpre
  obtain ⟨k, o, h1, h2, h3, rfl, hF⟩ := lw_comes l p e ha hc hk s m args below hf hfit hheap happ hpre
  exact ⟨k, _, h1, h2, h3, hL args s _, lw_frame hF⟩
theorem i_vc : Claimed_1_1 ∧ Claimed_1_2 := ⟨lw_limb limb_1_1 (fun args s t => by simp [limb_1_1, Cond.after, Cond.holds, Cond.value]), lw_limb limb_1_2 (fun args s t => Cond.after_iff.mpr (by
  first | (rw [show limb_1_2 = Cond.eq .result (.int 1) from rfl, Cond.eq_ints (x := 1) (y := 1) rfl rfl]; simp; done) | (simp [limb_1_2, Cond.value, Term.eval]; done)))⟩
end
