section
-- ===== PART A: goes FIRST, ahead of the names: the tables' words, and 'selects' of the private methods out of them =====
/-- a private method of a class that the tables say can be made, by its rows of tables_1 -/
def lw_okq (q : MethodName × Nat) : Prop := (q.1.cls ≠ "java/lang/invoke/MethodHandle" ∧ q.1.cls ≠ "java/lang/invoke/VarHandle") ∧ Cond.instantiable q.1.cls q.2 ∈ tables_1 ∧ Cond.privateMethod q.1 ∈ tables_1 ∧ Cond.instanceMethod q.1 ∈ tables_1
set_option maxRecDepth 100000
theorem lw_t1 {w : Cond} (h : w ∈ tables_1_1) : w ∈ tables_1 := List.mem_append_left _ h
theorem lw_t2 {w : Cond} (h : w ∈ tables_1_2) : w ∈ tables_1 := List.mem_append_right _ h
theorem lw_p0 : lw_okq (⟨"GasMeter", "bad", "(II)Z"⟩, 18) := ⟨⟨by decide +kernel, by decide +kernel⟩, lw_t1 (List.mem_of_getElem? (i := 4) rfl), lw_t1 (List.mem_of_getElem? (i := 72) rfl), lw_t1 (List.mem_of_getElem? (i := 73) rfl)⟩
theorem lw_p1 : lw_okq (⟨"GasMeter", "execute", "()V"⟩, 18) := ⟨⟨by decide +kernel, by decide +kernel⟩, lw_t1 (List.mem_of_getElem? (i := 4) rfl), lw_t1 (List.mem_of_getElem? (i := 109) rfl), lw_t1 (List.mem_of_getElem? (i := 110) rfl)⟩
theorem lw_p2 : lw_okq (⟨"GasMeter", "plan", "()V"⟩, 18) := ⟨⟨by decide +kernel, by decide +kernel⟩, lw_t1 (List.mem_of_getElem? (i := 4) rfl), lw_t1 (List.mem_of_getElem? (i := 113) rfl), lw_t1 (List.mem_of_getElem? (i := 114) rfl)⟩
theorem lw_p3 : lw_okq (⟨"GasMeter", "planAt", "(I)V"⟩, 18) := ⟨⟨by decide +kernel, by decide +kernel⟩, lw_t1 (List.mem_of_getElem? (i := 4) rfl), lw_t1 (List.mem_of_getElem? (i := 117) rfl), lw_t1 (List.mem_of_getElem? (i := 118) rfl)⟩
theorem lw_p4 : lw_okq (⟨"GasMeter", "breaks", "(I)Z"⟩, 18) := ⟨⟨by decide +kernel, by decide +kernel⟩, lw_t1 (List.mem_of_getElem? (i := 4) rfl), lw_t1 (List.mem_of_getElem? (i := 121) rfl), lw_t1 (List.mem_of_getElem? (i := 122) rfl)⟩
theorem lw_p5 : lw_okq (⟨"GasMeter", "puts", "(I)I"⟩, 18) := ⟨⟨by decide +kernel, by decide +kernel⟩, lw_t1 (List.mem_of_getElem? (i := 4) rfl), lw_t1 (List.mem_of_getElem? (i := 125) rfl), lw_t1 (List.mem_of_getElem? (i := 126) rfl)⟩
theorem lw_p6 : lw_okq (⟨"GasMeter", "takes", "(I)I"⟩, 18) := ⟨⟨by decide +kernel, by decide +kernel⟩, lw_t1 (List.mem_of_getElem? (i := 4) rfl), lw_t1 (List.mem_of_getElem? (i := 129) rfl), lw_t1 (List.mem_of_getElem? (i := 130) rfl)⟩
theorem lw_p7 : lw_okq (⟨"GasMeter", "priceOf", "(I)I"⟩, 18) := ⟨⟨by decide +kernel, by decide +kernel⟩, lw_t1 (List.mem_of_getElem? (i := 4) rfl), lw_t1 (List.mem_of_getElem? (i := 133) rfl), lw_t1 (List.mem_of_getElem? (i := 134) rfl)⟩
theorem lw_p8 : lw_okq (⟨"GasMeter", "sure", "()Z"⟩, 18) := ⟨⟨by decide +kernel, by decide +kernel⟩, lw_t1 (List.mem_of_getElem? (i := 4) rfl), lw_t1 (List.mem_of_getElem? (i := 137) rfl), lw_t1 (List.mem_of_getElem? (i := 138) rfl)⟩
theorem lw_p9 : lw_okq (⟨"GasMeter", "runStretch", "()V"⟩, 18) := ⟨⟨by decide +kernel, by decide +kernel⟩, lw_t1 (List.mem_of_getElem? (i := 4) rfl), lw_t1 (List.mem_of_getElem? (i := 141) rfl), lw_t1 (List.mem_of_getElem? (i := 142) rfl)⟩
theorem lw_p10 : lw_okq (⟨"GasMeter", "work", "(I)V"⟩, 18) := ⟨⟨by decide +kernel, by decide +kernel⟩, lw_t1 (List.mem_of_getElem? (i := 4) rfl), lw_t1 (List.mem_of_getElem? (i := 145) rfl), lw_t1 (List.mem_of_getElem? (i := 146) rfl)⟩
theorem lw_p11 : lw_okq (⟨"GasMeter", "put", "(I)V"⟩, 18) := ⟨⟨by decide +kernel, by decide +kernel⟩, lw_t1 (List.mem_of_getElem? (i := 4) rfl), lw_t1 (List.mem_of_getElem? (i := 149) rfl), lw_t1 (List.mem_of_getElem? (i := 150) rfl)⟩
theorem lw_p12 : lw_okq (⟨"GasMeter", "combined", "(III)I"⟩, 18) := ⟨⟨by decide +kernel, by decide +kernel⟩, lw_t1 (List.mem_of_getElem? (i := 4) rfl), lw_t1 (List.mem_of_getElem? (i := 153) rfl), lw_t1 (List.mem_of_getElem? (i := 154) rfl)⟩
theorem lw_p13 : lw_okq (⟨"GasMeter", "step", "()V"⟩, 18) := ⟨⟨by decide +kernel, by decide +kernel⟩, lw_t1 (List.mem_of_getElem? (i := 4) rfl), lw_t1 (List.mem_of_getElem? (i := 157) rfl), lw_t1 (List.mem_of_getElem? (i := 158) rfl)⟩
theorem lw_p14 : lw_okq (⟨"GasMeter", "workBreak", "(I)V"⟩, 18) := ⟨⟨by decide +kernel, by decide +kernel⟩, lw_t1 (List.mem_of_getElem? (i := 4) rfl), lw_t1 (List.mem_of_getElem? (i := 161) rfl), lw_t1 (List.mem_of_getElem? (i := 162) rfl)⟩
theorem lw_p15 : lw_okq (⟨"GasMeterModel", "isFit", "(II)Z"⟩, 13) := ⟨⟨by decide +kernel, by decide +kernel⟩, lw_t1 (List.mem_of_getElem? (i := 194) rfl), lw_t2 (List.mem_of_getElem? (i := 4) rfl), lw_t2 (List.mem_of_getElem? (i := 5) rfl)⟩
def lw_privs_1 : List (MethodName × Nat) := [(⟨"GasMeter", "bad", "(II)Z"⟩, 18), (⟨"GasMeter", "execute", "()V"⟩, 18), (⟨"GasMeter", "plan", "()V"⟩, 18), (⟨"GasMeter", "planAt", "(I)V"⟩, 18), (⟨"GasMeter", "breaks", "(I)Z"⟩, 18), (⟨"GasMeter", "puts", "(I)I"⟩, 18), (⟨"GasMeter", "takes", "(I)I"⟩, 18), (⟨"GasMeter", "priceOf", "(I)I"⟩, 18), (⟨"GasMeter", "sure", "()Z"⟩, 18), (⟨"GasMeter", "runStretch", "()V"⟩, 18), (⟨"GasMeter", "work", "(I)V"⟩, 18), (⟨"GasMeter", "put", "(I)V"⟩, 18), (⟨"GasMeter", "combined", "(III)I"⟩, 18), (⟨"GasMeter", "step", "()V"⟩, 18), (⟨"GasMeter", "workBreak", "(I)V"⟩, 18), (⟨"GasMeterModel", "isFit", "(II)Z"⟩, 13)]
theorem lw_r1 : ∀ q ∈ lw_privs_1, lw_okq q := List.forall_mem_cons.mpr ⟨lw_p0, List.forall_mem_cons.mpr ⟨lw_p1, List.forall_mem_cons.mpr ⟨lw_p2, List.forall_mem_cons.mpr ⟨lw_p3, List.forall_mem_cons.mpr ⟨lw_p4, List.forall_mem_cons.mpr ⟨lw_p5, List.forall_mem_cons.mpr ⟨lw_p6, List.forall_mem_cons.mpr ⟨lw_p7, List.forall_mem_cons.mpr ⟨lw_p8, List.forall_mem_cons.mpr ⟨lw_p9, List.forall_mem_cons.mpr ⟨lw_p10, List.forall_mem_cons.mpr ⟨lw_p11, List.forall_mem_cons.mpr ⟨lw_p12, List.forall_mem_cons.mpr ⟨lw_p13, List.forall_mem_cons.mpr ⟨lw_p14, List.forall_mem_cons.mpr ⟨lw_p15, fun _ h => absurd h List.not_mem_nil⟩⟩⟩⟩⟩⟩⟩⟩⟩⟩⟩⟩⟩⟩⟩⟩
theorem lw_p16 : lw_okq (⟨"GasMeterModel", "endAt", "(I)I"⟩, 13) := ⟨⟨by decide +kernel, by decide +kernel⟩, lw_t1 (List.mem_of_getElem? (i := 194) rfl), lw_t2 (List.mem_of_getElem? (i := 41) rfl), lw_t2 (List.mem_of_getElem? (i := 42) rfl)⟩
theorem lw_p17 : lw_okq (⟨"GasMeterModel", "traps", "(I)Z"⟩, 13) := ⟨⟨by decide +kernel, by decide +kernel⟩, lw_t1 (List.mem_of_getElem? (i := 194) rfl), lw_t2 (List.mem_of_getElem? (i := 45) rfl), lw_t2 (List.mem_of_getElem? (i := 46) rfl)⟩
theorem lw_p18 : lw_okq (⟨"GasMeterModel", "price", "(I)I"⟩, 13) := ⟨⟨by decide +kernel, by decide +kernel⟩, lw_t1 (List.mem_of_getElem? (i := 194) rfl), lw_t2 (List.mem_of_getElem? (i := 49) rfl), lw_t2 (List.mem_of_getElem? (i := 50) rfl)⟩
theorem lw_p19 : lw_okq (⟨"GasMeterModel", "work", "(I)I"⟩, 13) := ⟨⟨by decide +kernel, by decide +kernel⟩, lw_t1 (List.mem_of_getElem? (i := 194) rfl), lw_t2 (List.mem_of_getElem? (i := 53) rfl), lw_t2 (List.mem_of_getElem? (i := 54) rfl)⟩
theorem lw_p20 : lw_okq (⟨"GasMeterModel", "push", "(I)V"⟩, 13) := ⟨⟨by decide +kernel, by decide +kernel⟩, lw_t1 (List.mem_of_getElem? (i := 194) rfl), lw_t2 (List.mem_of_getElem? (i := 57) rfl), lw_t2 (List.mem_of_getElem? (i := 58) rfl)⟩
theorem lw_p21 : lw_okq (⟨"GasMeterModel", "operate", "(I)V"⟩, 13) := ⟨⟨by decide +kernel, by decide +kernel⟩, lw_t1 (List.mem_of_getElem? (i := 194) rfl), lw_t2 (List.mem_of_getElem? (i := 61) rfl), lw_t2 (List.mem_of_getElem? (i := 62) rfl)⟩
theorem lw_p22 : lw_okq (⟨"GasMeterModel", "pop", "()I"⟩, 13) := ⟨⟨by decide +kernel, by decide +kernel⟩, lw_t1 (List.mem_of_getElem? (i := 194) rfl), lw_t2 (List.mem_of_getElem? (i := 65) rfl), lw_t2 (List.mem_of_getElem? (i := 66) rfl)⟩
theorem lw_p23 : lw_okq (⟨"GasMeterModel", "asksGas", "()Z"⟩, 13) := ⟨⟨by decide +kernel, by decide +kernel⟩, lw_t1 (List.mem_of_getElem? (i := 194) rfl), lw_t2 (List.mem_of_getElem? (i := 97) rfl), lw_t2 (List.mem_of_getElem? (i := 98) rfl)⟩
theorem lw_p24 : lw_okq (⟨"GasMeterModel", "keep", "()V"⟩, 13) := ⟨⟨by decide +kernel, by decide +kernel⟩, lw_t1 (List.mem_of_getElem? (i := 194) rfl), lw_t2 (List.mem_of_getElem? (i := 101) rfl), lw_t2 (List.mem_of_getElem? (i := 102) rfl)⟩
theorem lw_p25 : lw_okq (⟨"GasMeterModel", "giveBack", "()V"⟩, 13) := ⟨⟨by decide +kernel, by decide +kernel⟩, lw_t1 (List.mem_of_getElem? (i := 194) rfl), lw_t2 (List.mem_of_getElem? (i := 107) rfl), lw_t2 (List.mem_of_getElem? (i := 108) rfl)⟩
def lw_privs_2 : List (MethodName × Nat) := [(⟨"GasMeterModel", "endAt", "(I)I"⟩, 13), (⟨"GasMeterModel", "traps", "(I)Z"⟩, 13), (⟨"GasMeterModel", "price", "(I)I"⟩, 13), (⟨"GasMeterModel", "work", "(I)I"⟩, 13), (⟨"GasMeterModel", "push", "(I)V"⟩, 13), (⟨"GasMeterModel", "operate", "(I)V"⟩, 13), (⟨"GasMeterModel", "pop", "()I"⟩, 13), (⟨"GasMeterModel", "asksGas", "()Z"⟩, 13), (⟨"GasMeterModel", "keep", "()V"⟩, 13), (⟨"GasMeterModel", "giveBack", "()V"⟩, 13)]
theorem lw_r2 : ∀ q ∈ lw_privs_2, lw_okq q := List.forall_mem_cons.mpr ⟨lw_p16, List.forall_mem_cons.mpr ⟨lw_p17, List.forall_mem_cons.mpr ⟨lw_p18, List.forall_mem_cons.mpr ⟨lw_p19, List.forall_mem_cons.mpr ⟨lw_p20, List.forall_mem_cons.mpr ⟨lw_p21, List.forall_mem_cons.mpr ⟨lw_p22, List.forall_mem_cons.mpr ⟨lw_p23, List.forall_mem_cons.mpr ⟨lw_p24, List.forall_mem_cons.mpr ⟨lw_p25, fun _ h => absurd h List.not_mem_nil⟩⟩⟩⟩⟩⟩⟩⟩⟩⟩
def lw_privs : List (MethodName × Nat) := lw_privs_1 ++ (lw_privs_2)
def lw_tbl : List Cond := k2_sels lw_privs ++ tables_1
theorem lw_privs_ok : ∀ q ∈ lw_privs, lw_okq q := by
  show ∀ q ∈ lw_privs_1 ++ (lw_privs_2), lw_okq q
  exact List.forall_mem_append.mpr ⟨lw_r1, lw_r2⟩
-- ===== ONE list of words for every method: the tables' words that hold all through a run =====
def lw_all : List Cond := lw_tbl.filter goodWord
/-- a word of the tables by its place: claim/WORDS.tsv -/
theorem lw_w {w : Cond} (i : Nat) (h : lw_tbl[i]? = some w) (g : goodWord w = true) : w ∈ lw_all := List.mem_filter.mpr ⟨List.mem_of_getElem? h, g⟩
theorem lw_all_tbl {w : Cond} (h : w ∈ lw_all) : w ∈ lw_tbl := (List.mem_filter.mp h).1
theorem lw_self : GoodIn lw_all lw_all := fun w h => ⟨h, good_of_word (List.mem_filter.mp h).2⟩
/-- a class's field words, by their places -/
theorem lw_in (ws : List Cond) (ps : List Nat) (hp : ws = ps.filterMap (fun i => lw_tbl[i]?)) (hg : ws.all goodWord = true) : ∀ w ∈ ws, w ∈ lw_all := by
  intro w h
  have h1 := List.all_eq_true.mp hg w h
  rw [hp] at h
  obtain ⟨i, -, hi⟩ := List.mem_filterMap.mp h
  exact lw_w i hi h1
/-- the words of a contract for the method y with code b, L locals, answer r -/
abbrev ws_ (y : MethodName) (b : ByteArray) (L : Nat) (r : Option FieldType) : List Cond := Cond.code y b L r :: lw_all
theorem lw_meth {y : MethodName} {b : ByteArray} {L : Nat} {r : Option FieldType} (h : Cond.code y b L r ∈ lw_all) : GoodIn lw_all (ws_ y b L r) := by
  intro w hw
  rcases List.mem_cons.mp hw with e | e
  · rw [e]
    exact lw_self _ h
  · exact lw_self _ e
theorem lw_app {a c : List Cond} (ha : ∀ w ∈ a, w ∈ lw_all) (hc : GoodIn lw_all c) : GoodIn lw_all (a ++ c) := by
  intro w hw
  rcases List.mem_append.mp hw with e | e
  · exact lw_self w (ha w e)
  · exact hc w e
/-- what a call through an object asks: cwV n hts (lw_V ..) -/
theorem lw_V {own : String} {idx : Nat} {C : String} {y : MethodName} {b : ByteArray} {L : Nat} {r : Option FieldType} (h1 : Cond.methodLink own idx y ∈ lw_all) (h2 : Cond.instanceMethod y ∈ lw_all) (h3 : Cond.selects C y y ∈ lw_all) (h4 : Cond.initialized C ∈ lw_all) (h5 : Cond.code y b L r ∈ lw_all) : GoodIn lw_all (wsV own idx C y (ws_ y b L r)) := by
  refine lw_app ?_ (lw_meth h5)
  intro w hw
  simp only [List.mem_cons, List.not_mem_nil, or_false] at hw
  rcases hw with e | e | e | e
  · rw [e]; exact h1
  · rw [e]; exact h2
  · rw [e]; exact h3
  · rw [e]; exact h4
/-- what a static call asks: va_cwS n hts (lw_S ..) -/
theorem lw_S {own : String} {idx : Nat} {y : MethodName} {b : ByteArray} {L : Nat} {r : Option FieldType} (h1 : Cond.methodLink own idx y ∈ lw_all) (h2 : Cond.static y ∈ lw_all) (h3 : Cond.initialized y.cls ∈ lw_all) (h4 : Cond.code y b L r ∈ lw_all) : GoodIn lw_all (va_wsS own idx y (ws_ y b L r)) := by
  refine lw_app ?_ (lw_meth h4)
  intro w hw
  simp only [List.mem_cons, List.not_mem_nil, or_false] at hw
  rcases hw with e | e | e
  · rw [e]; exact h1
  · rw [e]; exact h2
  · rw [e]; exact h3
/-- the words of a contract for a method WITH HANDLERS (hh: its table) -/
abbrev wsW_ (y : MethodName) (b : ByteArray) (L : Nat) (r : Option FieldType) (hh : List (Nat × Nat × Nat × Nat)) : List Cond := Cond.codeWith y b L r hh :: lw_all
theorem lw_methW {y : MethodName} {b : ByteArray} {L : Nat} {r : Option FieldType} {hh : List (Nat × Nat × Nat × Nat)} (h : Cond.codeWith y b L r hh ∈ lw_all) : GoodIn lw_all (wsW_ y b L r hh) := by
  intro w hw
  rcases List.mem_cons.mp hw with e | e
  · rw [e]
    exact lw_self _ h
  · exact lw_self _ e
/-- any list of words by their places (lw_in), good -/
theorem lw_good {ws : List Cond} (h : ∀ w ∈ ws, w ∈ lw_all) : GoodIn lw_all ws := fun w hw => lw_self w (h w hw)
/-- what a call of a method with handlers asks: vx_cwVW n hts (lw_VW ..), vx_cwSW n hts (lw_SW ..) -/
theorem lw_VW {own : String} {idx : Nat} {C : String} {y : MethodName} {b : ByteArray} {L : Nat} {r : Option FieldType} {hh : List (Nat × Nat × Nat × Nat)} (h1 : Cond.methodLink own idx y ∈ lw_all) (h2 : Cond.instanceMethod y ∈ lw_all) (h3 : Cond.selects C y y ∈ lw_all) (h4 : Cond.initialized C ∈ lw_all) (h5 : Cond.codeWith y b L r hh ∈ lw_all) : GoodIn lw_all (wsV own idx C y (wsW_ y b L r hh)) := by
  refine lw_app ?_ (lw_methW h5)
  intro w hw
  simp only [List.mem_cons, List.not_mem_nil, or_false] at hw
  rcases hw with e | e | e | e
  · rw [e]; exact h1
  · rw [e]; exact h2
  · rw [e]; exact h3
  · rw [e]; exact h4
theorem lw_SW {own : String} {idx : Nat} {y : MethodName} {b : ByteArray} {L : Nat} {r : Option FieldType} {hh : List (Nat × Nat × Nat × Nat)} (h1 : Cond.methodLink own idx y ∈ lw_all) (h2 : Cond.static y ∈ lw_all) (h3 : Cond.initialized y.cls ∈ lw_all) (h4 : Cond.codeWith y b L r hh ∈ lw_all) : GoodIn lw_all (va_wsS own idx y (wsW_ y b L r hh)) := by
  refine lw_app ?_ (lw_methW h4)
  intro w hw
  simp only [List.mem_cons, List.not_mem_nil, or_false] at hw
  rcases hw with e | e | e
  · rw [e]; exact h1
  · rw [e]; exact h2
  · rw [e]; exact h3
/-- a word by its place in its run of the tables -/
theorem lw_at {r : List Cond} (hr : ∀ w ∈ r, w ∈ lw_tbl) {w : Cond} (i : Nat) (h : r[i]? = some w) : w ∈ lw_tbl := hr w (List.mem_of_getElem? h)
theorem lw_g {w : Cond} (h : w ∈ lw_tbl) (g : goodWord w = true) : w ∈ lw_all := List.mem_filter.mpr ⟨h, g⟩
theorem lw_ms : ∀ w ∈ k2_sels lw_privs, w ∈ lw_tbl := fun w h => show w ∈ k2_sels lw_privs ++ tables_1 from List.mem_append_left _ h
theorem lw_m1 : ∀ w ∈ tables_1_1, w ∈ lw_tbl := fun w h => show w ∈ k2_sels lw_privs ++ tables_1 from List.mem_append_right (k2_sels lw_privs) (show w ∈ tables_1 from List.mem_append_left _ h)
theorem lw_m2 : ∀ w ∈ tables_1_2, w ∈ lw_tbl := fun w h => show w ∈ k2_sels lw_privs ++ tables_1 from List.mem_append_right (k2_sels lw_privs) (show w ∈ tables_1 from List.mem_append_right _ h)
theorem qs0 : (Cond.selects "GasMeter" ⟨"GasMeter", "bad", "(II)Z"⟩ ⟨"GasMeter", "bad", "(II)Z"⟩) ∈ lw_all := lw_g (lw_at lw_ms 0 rfl) rfl
theorem qs1 : (Cond.selects "GasMeter" ⟨"GasMeter", "execute", "()V"⟩ ⟨"GasMeter", "execute", "()V"⟩) ∈ lw_all := lw_g (lw_at lw_ms 1 rfl) rfl
theorem qs2 : (Cond.selects "GasMeter" ⟨"GasMeter", "plan", "()V"⟩ ⟨"GasMeter", "plan", "()V"⟩) ∈ lw_all := lw_g (lw_at lw_ms 2 rfl) rfl
theorem qs3 : (Cond.selects "GasMeter" ⟨"GasMeter", "planAt", "(I)V"⟩ ⟨"GasMeter", "planAt", "(I)V"⟩) ∈ lw_all := lw_g (lw_at lw_ms 3 rfl) rfl
theorem qs4 : (Cond.selects "GasMeter" ⟨"GasMeter", "breaks", "(I)Z"⟩ ⟨"GasMeter", "breaks", "(I)Z"⟩) ∈ lw_all := lw_g (lw_at lw_ms 4 rfl) rfl
theorem qs5 : (Cond.selects "GasMeter" ⟨"GasMeter", "puts", "(I)I"⟩ ⟨"GasMeter", "puts", "(I)I"⟩) ∈ lw_all := lw_g (lw_at lw_ms 5 rfl) rfl
theorem qs6 : (Cond.selects "GasMeter" ⟨"GasMeter", "takes", "(I)I"⟩ ⟨"GasMeter", "takes", "(I)I"⟩) ∈ lw_all := lw_g (lw_at lw_ms 6 rfl) rfl
theorem qs7 : (Cond.selects "GasMeter" ⟨"GasMeter", "priceOf", "(I)I"⟩ ⟨"GasMeter", "priceOf", "(I)I"⟩) ∈ lw_all := lw_g (lw_at lw_ms 7 rfl) rfl
theorem qs8 : (Cond.selects "GasMeter" ⟨"GasMeter", "sure", "()Z"⟩ ⟨"GasMeter", "sure", "()Z"⟩) ∈ lw_all := lw_g (lw_at lw_ms 8 rfl) rfl
theorem qs9 : (Cond.selects "GasMeter" ⟨"GasMeter", "runStretch", "()V"⟩ ⟨"GasMeter", "runStretch", "()V"⟩) ∈ lw_all := lw_g (lw_at lw_ms 9 rfl) rfl
theorem qs10 : (Cond.selects "GasMeter" ⟨"GasMeter", "work", "(I)V"⟩ ⟨"GasMeter", "work", "(I)V"⟩) ∈ lw_all := lw_g (lw_at lw_ms 10 rfl) rfl
theorem qs11 : (Cond.selects "GasMeter" ⟨"GasMeter", "put", "(I)V"⟩ ⟨"GasMeter", "put", "(I)V"⟩) ∈ lw_all := lw_g (lw_at lw_ms 11 rfl) rfl
theorem qs12 : (Cond.selects "GasMeter" ⟨"GasMeter", "combined", "(III)I"⟩ ⟨"GasMeter", "combined", "(III)I"⟩) ∈ lw_all := lw_g (lw_at lw_ms 12 rfl) rfl
theorem qs13 : (Cond.selects "GasMeter" ⟨"GasMeter", "step", "()V"⟩ ⟨"GasMeter", "step", "()V"⟩) ∈ lw_all := lw_g (lw_at lw_ms 13 rfl) rfl
theorem qs14 : (Cond.selects "GasMeter" ⟨"GasMeter", "workBreak", "(I)V"⟩ ⟨"GasMeter", "workBreak", "(I)V"⟩) ∈ lw_all := lw_g (lw_at lw_ms 14 rfl) rfl
theorem qs15 : (Cond.selects "GasMeterModel" ⟨"GasMeterModel", "isFit", "(II)Z"⟩ ⟨"GasMeterModel", "isFit", "(II)Z"⟩) ∈ lw_all := lw_g (lw_at lw_ms 15 rfl) rfl
theorem qs16 : (Cond.selects "GasMeterModel" ⟨"GasMeterModel", "endAt", "(I)I"⟩ ⟨"GasMeterModel", "endAt", "(I)I"⟩) ∈ lw_all := lw_g (lw_at lw_ms 16 rfl) rfl
theorem qs17 : (Cond.selects "GasMeterModel" ⟨"GasMeterModel", "traps", "(I)Z"⟩ ⟨"GasMeterModel", "traps", "(I)Z"⟩) ∈ lw_all := lw_g (lw_at lw_ms 17 rfl) rfl
theorem qs18 : (Cond.selects "GasMeterModel" ⟨"GasMeterModel", "price", "(I)I"⟩ ⟨"GasMeterModel", "price", "(I)I"⟩) ∈ lw_all := lw_g (lw_at lw_ms 18 rfl) rfl
theorem qs19 : (Cond.selects "GasMeterModel" ⟨"GasMeterModel", "work", "(I)I"⟩ ⟨"GasMeterModel", "work", "(I)I"⟩) ∈ lw_all := lw_g (lw_at lw_ms 19 rfl) rfl
theorem qs20 : (Cond.selects "GasMeterModel" ⟨"GasMeterModel", "push", "(I)V"⟩ ⟨"GasMeterModel", "push", "(I)V"⟩) ∈ lw_all := lw_g (lw_at lw_ms 20 rfl) rfl
theorem qs21 : (Cond.selects "GasMeterModel" ⟨"GasMeterModel", "operate", "(I)V"⟩ ⟨"GasMeterModel", "operate", "(I)V"⟩) ∈ lw_all := lw_g (lw_at lw_ms 21 rfl) rfl
theorem qs22 : (Cond.selects "GasMeterModel" ⟨"GasMeterModel", "pop", "()I"⟩ ⟨"GasMeterModel", "pop", "()I"⟩) ∈ lw_all := lw_g (lw_at lw_ms 22 rfl) rfl
theorem qs23 : (Cond.selects "GasMeterModel" ⟨"GasMeterModel", "asksGas", "()Z"⟩ ⟨"GasMeterModel", "asksGas", "()Z"⟩) ∈ lw_all := lw_g (lw_at lw_ms 23 rfl) rfl
theorem qs24 : (Cond.selects "GasMeterModel" ⟨"GasMeterModel", "keep", "()V"⟩ ⟨"GasMeterModel", "keep", "()V"⟩) ∈ lw_all := lw_g (lw_at lw_ms 24 rfl) rfl
theorem qs25 : (Cond.selects "GasMeterModel" ⟨"GasMeterModel", "giveBack", "()V"⟩ ⟨"GasMeterModel", "giveBack", "()V"⟩) ∈ lw_all := lw_g (lw_at lw_ms 25 rfl) rfl
end
section
set_option maxRecDepth 100000
/-! GasMeter -/
set_option maxRecDepth 100000
def RX0 : String := "GasMeter"
def TX0 : u_T := fun k => match k with
  | 0 => ("GasMeter", "size", "I", false)
  | 1 => ("GasMeter", "op", "[I", true)
  | 2 => ("GasMeter", "number", "[I", true)
  | 3 => ("GasMeter", "variable", "[I", true)
  | 4 => ("GasMeter", "gas", "I", false)
  | 5 => ("GasMeter", "planned", "Z", false)
  | 6 => ("GasMeter", "length", "[I", true)
  | 7 => ("GasMeter", "price", "[I", true)
  | 8 => ("GasMeter", "need", "[I", true)
  | 9 => ("GasMeter", "rise", "[I", true)
  | 10 => ("GasMeter", "next", "I", false)
  | 11 => ("GasMeter", "end", "I", false)
  | 12 => ("GasMeter", "done", "I", false)
  | 13 => ("GasMeter", "taken", "I", false)
  | 14 => ("GasMeter", "height", "I", false)
  | 15 => ("GasMeter", "pile", "[I", true)
  | 16 => ("GasMeter", "kept", "[I", true)
  | _ => ("GasMeter", "keptPile", "[I", true)
def tyX0 : Nat → FieldType := fun k => match k with
  | 0 => .int
  | 1 => .array .int
  | 2 => .array .int
  | 3 => .array .int
  | 4 => .int
  | 5 => .boolean
  | 6 => .array .int
  | 7 => .array .int
  | 8 => .array .int
  | 9 => .array .int
  | 10 => .int
  | 11 => .int
  | 12 => .int
  | 13 => .int
  | 14 => .int
  | 15 => .array .int
  | 16 => .array .int
  | _ => .array .int
abbrev wsX00 : List Cond := u_ws RX0 TX0 18
set_option maxRecDepth 100000 in
theorem nmX0 : ∀ a, a < 18 → ∀ b, b < 18 → a ≠ b → (TX0 a).2.1 ≠ (TX0 b).2.1 := by decide +kernel
set_option maxRecDepth 100000 in
theorem tyX0_ok : ∀ k, k < 18 → parseFieldDescriptor (TX0 k).2.2.1 = some (tyX0 k) := by decide +kernel
/-! GasMeterModel -/
set_option maxRecDepth 100000
def RX1 : String := "GasMeterModel"
def TX1 : u_T := fun k => match k with
  | 0 => ("GasMeterModel", "ops", "[I", true)
  | 1 => ("GasMeterModel", "numbers", "[I", true)
  | 2 => ("GasMeterModel", "size", "I", false)
  | 3 => ("GasMeterModel", "variables", "[I", true)
  | 4 => ("GasMeterModel", "pile", "[I", true)
  | 5 => ("GasMeterModel", "height", "I", false)
  | 6 => ("GasMeterModel", "gas", "I", false)
  | 7 => ("GasMeterModel", "ending", "I", false)
  | 8 => ("GasMeterModel", "place", "I", false)
  | 9 => ("GasMeterModel", "steps", "I", false)
  | 10 => ("GasMeterModel", "spent", "I", false)
  | 11 => ("GasMeterModel", "keptVariables", "[I", true)
  | _ => ("GasMeterModel", "keptPile", "[I", true)
def tyX1 : Nat → FieldType := fun k => match k with
  | 0 => .array .int
  | 1 => .array .int
  | 2 => .int
  | 3 => .array .int
  | 4 => .array .int
  | 5 => .int
  | 6 => .int
  | 7 => .int
  | 8 => .int
  | 9 => .int
  | 10 => .int
  | 11 => .array .int
  | _ => .array .int
abbrev wsX10 : List Cond := u_ws RX1 TX1 13
set_option maxRecDepth 100000 in
theorem nmX1 : ∀ a, a < 13 → ∀ b, b < 13 → a ≠ b → (TX1 a).2.1 ≠ (TX1 b).2.1 := by decide +kernel
set_option maxRecDepth 100000 in
theorem tyX1_ok : ∀ k, k < 13 → parseFieldDescriptor (TX1 k).2.2.1 = some (tyX1 k) := by decide +kernel
theorem q27 : (Jvm.Cond.initialized "GasMeter") ∈ lw_all := lw_g (lw_at lw_m1 1 rfl) rfl
theorem q30 : (Jvm.Cond.instantiable "GasMeter" (18 : Nat)) ∈ lw_all := lw_g (lw_at lw_m1 4 rfl) rfl
theorem q32 : (Jvm.Cond.instanceMethod ({ cls := "GasMeter", name := "<init>", desc := "()V" } : Jvm.MethodName)) ∈ lw_all := lw_g (lw_at lw_m1 6 rfl) rfl
theorem q33 : (Jvm.Cond.code ({ cls := "GasMeter", name := "<init>", desc := "()V" } : Jvm.MethodName) prog_1_method_1_code (1 : Nat) (Option.none : Option Jvm.ClassFile.FieldType)) ∈ lw_all := lw_g (lw_at lw_m1 7 rfl) rfl
theorem q34 : (Jvm.Cond.methodLink "GasMeter" (1 : Nat) ({ cls := "java/lang/Object", name := "<init>", desc := "()V" } : Jvm.MethodName)) ∈ lw_all := lw_g (lw_at lw_m1 8 rfl) rfl
theorem q37 : (Jvm.Cond.fieldLink "GasMeter" (44 : Nat) "GasMeter" "size" "I") ∈ lw_all := lw_g (lw_at lw_m1 11 rfl) rfl
theorem q38 : (Jvm.Cond.fieldLink "GasMeter" (7 : Nat) "GasMeter" "op" "[I") ∈ lw_all := lw_g (lw_at lw_m1 12 rfl) rfl
theorem q39 : (Jvm.Cond.fieldLink "GasMeter" (13 : Nat) "GasMeter" "number" "[I") ∈ lw_all := lw_g (lw_at lw_m1 13 rfl) rfl
theorem q40 : (Jvm.Cond.fieldLink "GasMeter" (16 : Nat) "GasMeter" "variable" "[I") ∈ lw_all := lw_g (lw_at lw_m1 14 rfl) rfl
theorem q41 : (Jvm.Cond.fieldLink "GasMeter" (52 : Nat) "GasMeter" "gas" "I") ∈ lw_all := lw_g (lw_at lw_m1 15 rfl) rfl
theorem q42 : (Jvm.Cond.fieldLink "GasMeter" (48 : Nat) "GasMeter" "planned" "Z") ∈ lw_all := lw_g (lw_at lw_m1 16 rfl) rfl
theorem q43 : (Jvm.Cond.fieldLink "GasMeter" (19 : Nat) "GasMeter" "length" "[I") ∈ lw_all := lw_g (lw_at lw_m1 17 rfl) rfl
theorem q44 : (Jvm.Cond.fieldLink "GasMeter" (22 : Nat) "GasMeter" "price" "[I") ∈ lw_all := lw_g (lw_at lw_m1 18 rfl) rfl
theorem q45 : (Jvm.Cond.fieldLink "GasMeter" (25 : Nat) "GasMeter" "need" "[I") ∈ lw_all := lw_g (lw_at lw_m1 19 rfl) rfl
theorem q46 : (Jvm.Cond.fieldLink "GasMeter" (28 : Nat) "GasMeter" "rise" "[I") ∈ lw_all := lw_g (lw_at lw_m1 20 rfl) rfl
theorem q47 : (Jvm.Cond.fieldLink "GasMeter" (84 : Nat) "GasMeter" "next" "I") ∈ lw_all := lw_g (lw_at lw_m1 21 rfl) rfl
theorem q48 : (Jvm.Cond.fieldLink "GasMeter" (87 : Nat) "GasMeter" "end" "I") ∈ lw_all := lw_g (lw_at lw_m1 22 rfl) rfl
theorem q49 : (Jvm.Cond.fieldLink "GasMeter" (90 : Nat) "GasMeter" "done" "I") ∈ lw_all := lw_g (lw_at lw_m1 23 rfl) rfl
theorem q50 : (Jvm.Cond.fieldLink "GasMeter" (115 : Nat) "GasMeter" "taken" "I") ∈ lw_all := lw_g (lw_at lw_m1 24 rfl) rfl
theorem q51 : (Jvm.Cond.fieldLink "GasMeter" (74 : Nat) "GasMeter" "height" "I") ∈ lw_all := lw_g (lw_at lw_m1 25 rfl) rfl
theorem q52 : (Jvm.Cond.fieldLink "GasMeter" (31 : Nat) "GasMeter" "pile" "[I") ∈ lw_all := lw_g (lw_at lw_m1 26 rfl) rfl
theorem q53 : (Jvm.Cond.fieldLink "GasMeter" (34 : Nat) "GasMeter" "kept" "[I") ∈ lw_all := lw_g (lw_at lw_m1 27 rfl) rfl
theorem q54 : (Jvm.Cond.fieldLink "GasMeter" (37 : Nat) "GasMeter" "keptPile" "[I") ∈ lw_all := lw_g (lw_at lw_m1 28 rfl) rfl
theorem q55 : (Jvm.Cond.lays "GasMeter" "GasMeter" "size" "I") ∈ lw_all := lw_g (lw_at lw_m1 29 rfl) rfl
theorem q56 : (Jvm.Cond.soleField "GasMeter" "size") ∈ lw_all := lw_g (lw_at lw_m1 30 rfl) rfl
theorem q57 : (Jvm.Cond.laysFinal "GasMeter" "GasMeter" "op" "[I") ∈ lw_all := lw_g (lw_at lw_m1 31 rfl) rfl
theorem q58 : (Jvm.Cond.soleField "GasMeter" "op") ∈ lw_all := lw_g (lw_at lw_m1 32 rfl) rfl
theorem q59 : (Jvm.Cond.laysFinal "GasMeter" "GasMeter" "number" "[I") ∈ lw_all := lw_g (lw_at lw_m1 33 rfl) rfl
theorem q60 : (Jvm.Cond.soleField "GasMeter" "number") ∈ lw_all := lw_g (lw_at lw_m1 34 rfl) rfl
theorem q61 : (Jvm.Cond.laysFinal "GasMeter" "GasMeter" "variable" "[I") ∈ lw_all := lw_g (lw_at lw_m1 35 rfl) rfl
theorem q62 : (Jvm.Cond.soleField "GasMeter" "variable") ∈ lw_all := lw_g (lw_at lw_m1 36 rfl) rfl
theorem q63 : (Jvm.Cond.lays "GasMeter" "GasMeter" "gas" "I") ∈ lw_all := lw_g (lw_at lw_m1 37 rfl) rfl
theorem q64 : (Jvm.Cond.soleField "GasMeter" "gas") ∈ lw_all := lw_g (lw_at lw_m1 38 rfl) rfl
theorem q65 : (Jvm.Cond.lays "GasMeter" "GasMeter" "planned" "Z") ∈ lw_all := lw_g (lw_at lw_m1 39 rfl) rfl
theorem q66 : (Jvm.Cond.soleField "GasMeter" "planned") ∈ lw_all := lw_g (lw_at lw_m1 40 rfl) rfl
theorem q67 : (Jvm.Cond.laysFinal "GasMeter" "GasMeter" "length" "[I") ∈ lw_all := lw_g (lw_at lw_m1 41 rfl) rfl
theorem q68 : (Jvm.Cond.soleField "GasMeter" "length") ∈ lw_all := lw_g (lw_at lw_m1 42 rfl) rfl
theorem q69 : (Jvm.Cond.laysFinal "GasMeter" "GasMeter" "price" "[I") ∈ lw_all := lw_g (lw_at lw_m1 43 rfl) rfl
theorem q70 : (Jvm.Cond.soleField "GasMeter" "price") ∈ lw_all := lw_g (lw_at lw_m1 44 rfl) rfl
theorem q71 : (Jvm.Cond.laysFinal "GasMeter" "GasMeter" "need" "[I") ∈ lw_all := lw_g (lw_at lw_m1 45 rfl) rfl
theorem q72 : (Jvm.Cond.soleField "GasMeter" "need") ∈ lw_all := lw_g (lw_at lw_m1 46 rfl) rfl
theorem q73 : (Jvm.Cond.laysFinal "GasMeter" "GasMeter" "rise" "[I") ∈ lw_all := lw_g (lw_at lw_m1 47 rfl) rfl
theorem q74 : (Jvm.Cond.soleField "GasMeter" "rise") ∈ lw_all := lw_g (lw_at lw_m1 48 rfl) rfl
theorem q75 : (Jvm.Cond.lays "GasMeter" "GasMeter" "next" "I") ∈ lw_all := lw_g (lw_at lw_m1 49 rfl) rfl
theorem q76 : (Jvm.Cond.soleField "GasMeter" "next") ∈ lw_all := lw_g (lw_at lw_m1 50 rfl) rfl
theorem q77 : (Jvm.Cond.lays "GasMeter" "GasMeter" "end" "I") ∈ lw_all := lw_g (lw_at lw_m1 51 rfl) rfl
theorem q78 : (Jvm.Cond.soleField "GasMeter" "end") ∈ lw_all := lw_g (lw_at lw_m1 52 rfl) rfl
theorem q79 : (Jvm.Cond.lays "GasMeter" "GasMeter" "done" "I") ∈ lw_all := lw_g (lw_at lw_m1 53 rfl) rfl
theorem q80 : (Jvm.Cond.soleField "GasMeter" "done") ∈ lw_all := lw_g (lw_at lw_m1 54 rfl) rfl
theorem q81 : (Jvm.Cond.lays "GasMeter" "GasMeter" "taken" "I") ∈ lw_all := lw_g (lw_at lw_m1 55 rfl) rfl
theorem q82 : (Jvm.Cond.soleField "GasMeter" "taken") ∈ lw_all := lw_g (lw_at lw_m1 56 rfl) rfl
theorem q83 : (Jvm.Cond.lays "GasMeter" "GasMeter" "height" "I") ∈ lw_all := lw_g (lw_at lw_m1 57 rfl) rfl
theorem q84 : (Jvm.Cond.soleField "GasMeter" "height") ∈ lw_all := lw_g (lw_at lw_m1 58 rfl) rfl
theorem q85 : (Jvm.Cond.laysFinal "GasMeter" "GasMeter" "pile" "[I") ∈ lw_all := lw_g (lw_at lw_m1 59 rfl) rfl
theorem q86 : (Jvm.Cond.soleField "GasMeter" "pile") ∈ lw_all := lw_g (lw_at lw_m1 60 rfl) rfl
theorem q87 : (Jvm.Cond.laysFinal "GasMeter" "GasMeter" "kept" "[I") ∈ lw_all := lw_g (lw_at lw_m1 61 rfl) rfl
theorem q88 : (Jvm.Cond.soleField "GasMeter" "kept") ∈ lw_all := lw_g (lw_at lw_m1 62 rfl) rfl
theorem q89 : (Jvm.Cond.laysFinal "GasMeter" "GasMeter" "keptPile" "[I") ∈ lw_all := lw_g (lw_at lw_m1 63 rfl) rfl
theorem q90 : (Jvm.Cond.soleField "GasMeter" "keptPile") ∈ lw_all := lw_g (lw_at lw_m1 64 rfl) rfl
theorem q91 : (Jvm.Cond.superclass "GasMeter" "java/lang/Object") ∈ lw_all := lw_g (lw_at lw_m1 65 rfl) rfl
theorem q94 : (Jvm.Cond.instanceMethod ({ cls := "GasMeter", name := "append", desc := "(II)I" } : Jvm.MethodName)) ∈ lw_all := lw_g (lw_at lw_m1 68 rfl) rfl
theorem q95 : (Jvm.Cond.selects "GasMeter" ({ cls := "GasMeter", name := "append", desc := "(II)I" } : Jvm.MethodName) ({ cls := "GasMeter", name := "append", desc := "(II)I" } : Jvm.MethodName)) ∈ lw_all := lw_g (lw_at lw_m1 69 rfl) rfl
theorem q96 : (Jvm.Cond.code ({ cls := "GasMeter", name := "append", desc := "(II)I" } : Jvm.MethodName) prog_1_method_3_code (3 : Nat) (Option.some Jvm.ClassFile.FieldType.int)) ∈ lw_all := lw_g (lw_at lw_m1 70 rfl) rfl
theorem q97 : (Jvm.Cond.methodLink "GasMeter" (40 : Nat) ({ cls := "GasMeter", name := "bad", desc := "(II)Z" } : Jvm.MethodName)) ∈ lw_all := lw_g (lw_at lw_m1 71 rfl) rfl
theorem q98 : (Jvm.Cond.privateMethod ({ cls := "GasMeter", name := "bad", desc := "(II)Z" } : Jvm.MethodName)) ∈ lw_tbl := lw_at lw_m1 72 rfl
theorem q99 : (Jvm.Cond.instanceMethod ({ cls := "GasMeter", name := "bad", desc := "(II)Z" } : Jvm.MethodName)) ∈ lw_all := lw_g (lw_at lw_m1 73 rfl) rfl
theorem q100 : (Jvm.Cond.code ({ cls := "GasMeter", name := "bad", desc := "(II)Z" } : Jvm.MethodName) prog_1_method_2_code (3 : Nat) (Option.some Jvm.ClassFile.FieldType.boolean)) ∈ lw_all := lw_g (lw_at lw_m1 74 rfl) rfl
theorem q102 : (Jvm.Cond.instanceMethod ({ cls := "GasMeter", name := "change", desc := "(III)I" } : Jvm.MethodName)) ∈ lw_all := lw_g (lw_at lw_m1 76 rfl) rfl
theorem q103 : (Jvm.Cond.selects "GasMeter" ({ cls := "GasMeter", name := "change", desc := "(III)I" } : Jvm.MethodName) ({ cls := "GasMeter", name := "change", desc := "(III)I" } : Jvm.MethodName)) ∈ lw_all := lw_g (lw_at lw_m1 77 rfl) rfl
theorem q104 : (Jvm.Cond.code ({ cls := "GasMeter", name := "change", desc := "(III)I" } : Jvm.MethodName) prog_1_method_4_code (5 : Nat) (Option.some Jvm.ClassFile.FieldType.int)) ∈ lw_all := lw_g (lw_at lw_m1 78 rfl) rfl
theorem q106 : (Jvm.Cond.instanceMethod ({ cls := "GasMeter", name := "clear", desc := "()V" } : Jvm.MethodName)) ∈ lw_all := lw_g (lw_at lw_m1 80 rfl) rfl
theorem q107 : (Jvm.Cond.selects "GasMeter" ({ cls := "GasMeter", name := "clear", desc := "()V" } : Jvm.MethodName) ({ cls := "GasMeter", name := "clear", desc := "()V" } : Jvm.MethodName)) ∈ lw_all := lw_g (lw_at lw_m1 81 rfl) rfl
theorem q108 : (Jvm.Cond.code ({ cls := "GasMeter", name := "clear", desc := "()V" } : Jvm.MethodName) prog_1_method_5_code (1 : Nat) (Option.none : Option Jvm.ClassFile.FieldType)) ∈ lw_all := lw_g (lw_at lw_m1 82 rfl) rfl
theorem q110 : (Jvm.Cond.instanceMethod ({ cls := "GasMeter", name := "size", desc := "()I" } : Jvm.MethodName)) ∈ lw_all := lw_g (lw_at lw_m1 84 rfl) rfl
theorem q111 : (Jvm.Cond.selects "GasMeter" ({ cls := "GasMeter", name := "size", desc := "()I" } : Jvm.MethodName) ({ cls := "GasMeter", name := "size", desc := "()I" } : Jvm.MethodName)) ∈ lw_all := lw_g (lw_at lw_m1 85 rfl) rfl
theorem q112 : (Jvm.Cond.code ({ cls := "GasMeter", name := "size", desc := "()I" } : Jvm.MethodName) prog_1_method_6_code (1 : Nat) (Option.some Jvm.ClassFile.FieldType.int)) ∈ lw_all := lw_g (lw_at lw_m1 86 rfl) rfl
theorem q114 : (Jvm.Cond.instanceMethod ({ cls := "GasMeter", name := "set", desc := "(II)I" } : Jvm.MethodName)) ∈ lw_all := lw_g (lw_at lw_m1 88 rfl) rfl
theorem q115 : (Jvm.Cond.selects "GasMeter" ({ cls := "GasMeter", name := "set", desc := "(II)I" } : Jvm.MethodName) ({ cls := "GasMeter", name := "set", desc := "(II)I" } : Jvm.MethodName)) ∈ lw_all := lw_g (lw_at lw_m1 89 rfl) rfl
theorem q116 : (Jvm.Cond.code ({ cls := "GasMeter", name := "set", desc := "(II)I" } : Jvm.MethodName) prog_1_method_7_code (3 : Nat) (Option.some Jvm.ClassFile.FieldType.int)) ∈ lw_all := lw_g (lw_at lw_m1 90 rfl) rfl
theorem q118 : (Jvm.Cond.instanceMethod ({ cls := "GasMeter", name := "get", desc := "(I)I" } : Jvm.MethodName)) ∈ lw_all := lw_g (lw_at lw_m1 92 rfl) rfl
theorem q119 : (Jvm.Cond.selects "GasMeter" ({ cls := "GasMeter", name := "get", desc := "(I)I" } : Jvm.MethodName) ({ cls := "GasMeter", name := "get", desc := "(I)I" } : Jvm.MethodName)) ∈ lw_all := lw_g (lw_at lw_m1 93 rfl) rfl
theorem q120 : (Jvm.Cond.code ({ cls := "GasMeter", name := "get", desc := "(I)I" } : Jvm.MethodName) prog_1_method_8_code (2 : Nat) (Option.some Jvm.ClassFile.FieldType.int)) ∈ lw_all := lw_g (lw_at lw_m1 94 rfl) rfl
theorem q122 : (Jvm.Cond.instanceMethod ({ cls := "GasMeter", name := "fund", desc := "(I)I" } : Jvm.MethodName)) ∈ lw_all := lw_g (lw_at lw_m1 96 rfl) rfl
theorem q123 : (Jvm.Cond.selects "GasMeter" ({ cls := "GasMeter", name := "fund", desc := "(I)I" } : Jvm.MethodName) ({ cls := "GasMeter", name := "fund", desc := "(I)I" } : Jvm.MethodName)) ∈ lw_all := lw_g (lw_at lw_m1 97 rfl) rfl
theorem q124 : (Jvm.Cond.code ({ cls := "GasMeter", name := "fund", desc := "(I)I" } : Jvm.MethodName) prog_1_method_9_code (2 : Nat) (Option.some Jvm.ClassFile.FieldType.int)) ∈ lw_all := lw_g (lw_at lw_m1 98 rfl) rfl
theorem q125 : (Jvm.Cond.constant "GasMeter" (55 : Nat) (100000 : Int32)) ∈ lw_all := lw_g (lw_at lw_m1 99 rfl) rfl
theorem q127 : (Jvm.Cond.instanceMethod ({ cls := "GasMeter", name := "gas", desc := "()I" } : Jvm.MethodName)) ∈ lw_all := lw_g (lw_at lw_m1 101 rfl) rfl
theorem q128 : (Jvm.Cond.selects "GasMeter" ({ cls := "GasMeter", name := "gas", desc := "()I" } : Jvm.MethodName) ({ cls := "GasMeter", name := "gas", desc := "()I" } : Jvm.MethodName)) ∈ lw_all := lw_g (lw_at lw_m1 102 rfl) rfl
theorem q129 : (Jvm.Cond.code ({ cls := "GasMeter", name := "gas", desc := "()I" } : Jvm.MethodName) prog_1_method_10_code (1 : Nat) (Option.some Jvm.ClassFile.FieldType.int)) ∈ lw_all := lw_g (lw_at lw_m1 103 rfl) rfl
theorem q131 : (Jvm.Cond.instanceMethod ({ cls := "GasMeter", name := "run", desc := "()I" } : Jvm.MethodName)) ∈ lw_all := lw_g (lw_at lw_m1 105 rfl) rfl
theorem q132 : (Jvm.Cond.selects "GasMeter" ({ cls := "GasMeter", name := "run", desc := "()I" } : Jvm.MethodName) ({ cls := "GasMeter", name := "run", desc := "()I" } : Jvm.MethodName)) ∈ lw_all := lw_g (lw_at lw_m1 106 rfl) rfl
theorem q133 : (Jvm.Cond.code ({ cls := "GasMeter", name := "run", desc := "()I" } : Jvm.MethodName) prog_1_method_25_code (2 : Nat) (Option.some Jvm.ClassFile.FieldType.int)) ∈ lw_all := lw_g (lw_at lw_m1 107 rfl) rfl
theorem q134 : (Jvm.Cond.methodLink "GasMeter" (112 : Nat) ({ cls := "GasMeter", name := "execute", desc := "()V" } : Jvm.MethodName)) ∈ lw_all := lw_g (lw_at lw_m1 108 rfl) rfl
theorem q135 : (Jvm.Cond.privateMethod ({ cls := "GasMeter", name := "execute", desc := "()V" } : Jvm.MethodName)) ∈ lw_tbl := lw_at lw_m1 109 rfl
theorem q136 : (Jvm.Cond.instanceMethod ({ cls := "GasMeter", name := "execute", desc := "()V" } : Jvm.MethodName)) ∈ lw_all := lw_g (lw_at lw_m1 110 rfl) rfl
theorem q137 : (Jvm.Cond.code ({ cls := "GasMeter", name := "execute", desc := "()V" } : Jvm.MethodName) prog_1_method_24_code (2 : Nat) (Option.none : Option Jvm.ClassFile.FieldType)) ∈ lw_all := lw_g (lw_at lw_m1 111 rfl) rfl
theorem q138 : (Jvm.Cond.methodLink "GasMeter" (99 : Nat) ({ cls := "GasMeter", name := "plan", desc := "()V" } : Jvm.MethodName)) ∈ lw_all := lw_g (lw_at lw_m1 112 rfl) rfl
theorem q139 : (Jvm.Cond.privateMethod ({ cls := "GasMeter", name := "plan", desc := "()V" } : Jvm.MethodName)) ∈ lw_tbl := lw_at lw_m1 113 rfl
theorem q140 : (Jvm.Cond.instanceMethod ({ cls := "GasMeter", name := "plan", desc := "()V" } : Jvm.MethodName)) ∈ lw_all := lw_g (lw_at lw_m1 114 rfl) rfl
theorem q141 : (Jvm.Cond.code ({ cls := "GasMeter", name := "plan", desc := "()V" } : Jvm.MethodName) prog_1_method_16_code (2 : Nat) (Option.none : Option Jvm.ClassFile.FieldType)) ∈ lw_all := lw_g (lw_at lw_m1 115 rfl) rfl
theorem q142 : (Jvm.Cond.methodLink "GasMeter" (70 : Nat) ({ cls := "GasMeter", name := "planAt", desc := "(I)V" } : Jvm.MethodName)) ∈ lw_all := lw_g (lw_at lw_m1 116 rfl) rfl
theorem q143 : (Jvm.Cond.privateMethod ({ cls := "GasMeter", name := "planAt", desc := "(I)V" } : Jvm.MethodName)) ∈ lw_tbl := lw_at lw_m1 117 rfl
theorem q144 : (Jvm.Cond.instanceMethod ({ cls := "GasMeter", name := "planAt", desc := "(I)V" } : Jvm.MethodName)) ∈ lw_all := lw_g (lw_at lw_m1 118 rfl) rfl
theorem q145 : (Jvm.Cond.code ({ cls := "GasMeter", name := "planAt", desc := "(I)V" } : Jvm.MethodName) prog_1_method_15_code (8 : Nat) (Option.none : Option Jvm.ClassFile.FieldType)) ∈ lw_all := lw_g (lw_at lw_m1 119 rfl) rfl
theorem q146 : (Jvm.Cond.methodLink "GasMeter" (56 : Nat) ({ cls := "GasMeter", name := "breaks", desc := "(I)Z" } : Jvm.MethodName)) ∈ lw_all := lw_g (lw_at lw_m1 120 rfl) rfl
theorem q147 : (Jvm.Cond.privateMethod ({ cls := "GasMeter", name := "breaks", desc := "(I)Z" } : Jvm.MethodName)) ∈ lw_tbl := lw_at lw_m1 121 rfl
theorem q148 : (Jvm.Cond.instanceMethod ({ cls := "GasMeter", name := "breaks", desc := "(I)Z" } : Jvm.MethodName)) ∈ lw_all := lw_g (lw_at lw_m1 122 rfl) rfl
theorem q149 : (Jvm.Cond.code ({ cls := "GasMeter", name := "breaks", desc := "(I)Z" } : Jvm.MethodName) prog_1_method_14_code (2 : Nat) (Option.some Jvm.ClassFile.FieldType.boolean)) ∈ lw_all := lw_g (lw_at lw_m1 123 rfl) rfl
theorem q150 : (Jvm.Cond.methodLink "GasMeter" (60 : Nat) ({ cls := "GasMeter", name := "puts", desc := "(I)I" } : Jvm.MethodName)) ∈ lw_all := lw_g (lw_at lw_m1 124 rfl) rfl
theorem q151 : (Jvm.Cond.privateMethod ({ cls := "GasMeter", name := "puts", desc := "(I)I" } : Jvm.MethodName)) ∈ lw_tbl := lw_at lw_m1 125 rfl
theorem q152 : (Jvm.Cond.instanceMethod ({ cls := "GasMeter", name := "puts", desc := "(I)I" } : Jvm.MethodName)) ∈ lw_all := lw_g (lw_at lw_m1 126 rfl) rfl
theorem q153 : (Jvm.Cond.code ({ cls := "GasMeter", name := "puts", desc := "(I)I" } : Jvm.MethodName) prog_1_method_13_code (2 : Nat) (Option.some Jvm.ClassFile.FieldType.int)) ∈ lw_all := lw_g (lw_at lw_m1 127 rfl) rfl
theorem q154 : (Jvm.Cond.methodLink "GasMeter" (64 : Nat) ({ cls := "GasMeter", name := "takes", desc := "(I)I" } : Jvm.MethodName)) ∈ lw_all := lw_g (lw_at lw_m1 128 rfl) rfl
theorem q155 : (Jvm.Cond.privateMethod ({ cls := "GasMeter", name := "takes", desc := "(I)I" } : Jvm.MethodName)) ∈ lw_tbl := lw_at lw_m1 129 rfl
theorem q156 : (Jvm.Cond.instanceMethod ({ cls := "GasMeter", name := "takes", desc := "(I)I" } : Jvm.MethodName)) ∈ lw_all := lw_g (lw_at lw_m1 130 rfl) rfl
theorem q157 : (Jvm.Cond.code ({ cls := "GasMeter", name := "takes", desc := "(I)I" } : Jvm.MethodName) prog_1_method_12_code (2 : Nat) (Option.some Jvm.ClassFile.FieldType.int)) ∈ lw_all := lw_g (lw_at lw_m1 131 rfl) rfl
theorem q158 : (Jvm.Cond.methodLink "GasMeter" (67 : Nat) ({ cls := "GasMeter", name := "priceOf", desc := "(I)I" } : Jvm.MethodName)) ∈ lw_all := lw_g (lw_at lw_m1 132 rfl) rfl
theorem q159 : (Jvm.Cond.privateMethod ({ cls := "GasMeter", name := "priceOf", desc := "(I)I" } : Jvm.MethodName)) ∈ lw_tbl := lw_at lw_m1 133 rfl
theorem q160 : (Jvm.Cond.instanceMethod ({ cls := "GasMeter", name := "priceOf", desc := "(I)I" } : Jvm.MethodName)) ∈ lw_all := lw_g (lw_at lw_m1 134 rfl) rfl
theorem q161 : (Jvm.Cond.code ({ cls := "GasMeter", name := "priceOf", desc := "(I)I" } : Jvm.MethodName) prog_1_method_11_code (2 : Nat) (Option.some Jvm.ClassFile.FieldType.int)) ∈ lw_all := lw_g (lw_at lw_m1 135 rfl) rfl
theorem q162 : (Jvm.Cond.methodLink "GasMeter" (102 : Nat) ({ cls := "GasMeter", name := "sure", desc := "()Z" } : Jvm.MethodName)) ∈ lw_all := lw_g (lw_at lw_m1 136 rfl) rfl
theorem q163 : (Jvm.Cond.privateMethod ({ cls := "GasMeter", name := "sure", desc := "()Z" } : Jvm.MethodName)) ∈ lw_tbl := lw_at lw_m1 137 rfl
theorem q164 : (Jvm.Cond.instanceMethod ({ cls := "GasMeter", name := "sure", desc := "()Z" } : Jvm.MethodName)) ∈ lw_all := lw_g (lw_at lw_m1 138 rfl) rfl
theorem q165 : (Jvm.Cond.code ({ cls := "GasMeter", name := "sure", desc := "()Z" } : Jvm.MethodName) prog_1_method_22_code (2 : Nat) (Option.some Jvm.ClassFile.FieldType.boolean)) ∈ lw_all := lw_g (lw_at lw_m1 139 rfl) rfl
theorem q166 : (Jvm.Cond.methodLink "GasMeter" (106 : Nat) ({ cls := "GasMeter", name := "runStretch", desc := "()V" } : Jvm.MethodName)) ∈ lw_all := lw_g (lw_at lw_m1 140 rfl) rfl
theorem q167 : (Jvm.Cond.privateMethod ({ cls := "GasMeter", name := "runStretch", desc := "()V" } : Jvm.MethodName)) ∈ lw_tbl := lw_at lw_m1 141 rfl
theorem q168 : (Jvm.Cond.instanceMethod ({ cls := "GasMeter", name := "runStretch", desc := "()V" } : Jvm.MethodName)) ∈ lw_all := lw_g (lw_at lw_m1 142 rfl) rfl
theorem q169 : (Jvm.Cond.code ({ cls := "GasMeter", name := "runStretch", desc := "()V" } : Jvm.MethodName) prog_1_method_23_code (4 : Nat) (Option.none : Option Jvm.ClassFile.FieldType)) ∈ lw_all := lw_g (lw_at lw_m1 143 rfl) rfl
theorem q170 : (Jvm.Cond.methodLink "GasMeter" (96 : Nat) ({ cls := "GasMeter", name := "work", desc := "(I)V" } : Jvm.MethodName)) ∈ lw_all := lw_g (lw_at lw_m1 144 rfl) rfl
theorem q171 : (Jvm.Cond.privateMethod ({ cls := "GasMeter", name := "work", desc := "(I)V" } : Jvm.MethodName)) ∈ lw_tbl := lw_at lw_m1 145 rfl
theorem q172 : (Jvm.Cond.instanceMethod ({ cls := "GasMeter", name := "work", desc := "(I)V" } : Jvm.MethodName)) ∈ lw_all := lw_g (lw_at lw_m1 146 rfl) rfl
theorem q173 : (Jvm.Cond.code ({ cls := "GasMeter", name := "work", desc := "(I)V" } : Jvm.MethodName) prog_1_method_19_code (4 : Nat) (Option.none : Option Jvm.ClassFile.FieldType)) ∈ lw_all := lw_g (lw_at lw_m1 147 rfl) rfl
theorem q174 : (Jvm.Cond.methodLink "GasMeter" (77 : Nat) ({ cls := "GasMeter", name := "put", desc := "(I)V" } : Jvm.MethodName)) ∈ lw_all := lw_g (lw_at lw_m1 148 rfl) rfl
theorem q175 : (Jvm.Cond.privateMethod ({ cls := "GasMeter", name := "put", desc := "(I)V" } : Jvm.MethodName)) ∈ lw_tbl := lw_at lw_m1 149 rfl
theorem q176 : (Jvm.Cond.instanceMethod ({ cls := "GasMeter", name := "put", desc := "(I)V" } : Jvm.MethodName)) ∈ lw_all := lw_g (lw_at lw_m1 150 rfl) rfl
theorem q177 : (Jvm.Cond.code ({ cls := "GasMeter", name := "put", desc := "(I)V" } : Jvm.MethodName) prog_1_method_17_code (2 : Nat) (Option.none : Option Jvm.ClassFile.FieldType)) ∈ lw_all := lw_g (lw_at lw_m1 151 rfl) rfl
theorem q178 : (Jvm.Cond.methodLink "GasMeter" (80 : Nat) ({ cls := "GasMeter", name := "combined", desc := "(III)I" } : Jvm.MethodName)) ∈ lw_all := lw_g (lw_at lw_m1 152 rfl) rfl
theorem q179 : (Jvm.Cond.privateMethod ({ cls := "GasMeter", name := "combined", desc := "(III)I" } : Jvm.MethodName)) ∈ lw_tbl := lw_at lw_m1 153 rfl
theorem q180 : (Jvm.Cond.instanceMethod ({ cls := "GasMeter", name := "combined", desc := "(III)I" } : Jvm.MethodName)) ∈ lw_all := lw_g (lw_at lw_m1 154 rfl) rfl
theorem q181 : (Jvm.Cond.code ({ cls := "GasMeter", name := "combined", desc := "(III)I" } : Jvm.MethodName) prog_1_method_18_code (4 : Nat) (Option.some Jvm.ClassFile.FieldType.int)) ∈ lw_all := lw_g (lw_at lw_m1 155 rfl) rfl
theorem q182 : (Jvm.Cond.methodLink "GasMeter" (109 : Nat) ({ cls := "GasMeter", name := "step", desc := "()V" } : Jvm.MethodName)) ∈ lw_all := lw_g (lw_at lw_m1 156 rfl) rfl
theorem q183 : (Jvm.Cond.privateMethod ({ cls := "GasMeter", name := "step", desc := "()V" } : Jvm.MethodName)) ∈ lw_tbl := lw_at lw_m1 157 rfl
theorem q184 : (Jvm.Cond.instanceMethod ({ cls := "GasMeter", name := "step", desc := "()V" } : Jvm.MethodName)) ∈ lw_all := lw_g (lw_at lw_m1 158 rfl) rfl
theorem q185 : (Jvm.Cond.code ({ cls := "GasMeter", name := "step", desc := "()V" } : Jvm.MethodName) prog_1_method_21_code (4 : Nat) (Option.none : Option Jvm.ClassFile.FieldType)) ∈ lw_all := lw_g (lw_at lw_m1 159 rfl) rfl
theorem q186 : (Jvm.Cond.methodLink "GasMeter" (93 : Nat) ({ cls := "GasMeter", name := "workBreak", desc := "(I)V" } : Jvm.MethodName)) ∈ lw_all := lw_g (lw_at lw_m1 160 rfl) rfl
theorem q187 : (Jvm.Cond.privateMethod ({ cls := "GasMeter", name := "workBreak", desc := "(I)V" } : Jvm.MethodName)) ∈ lw_tbl := lw_at lw_m1 161 rfl
theorem q188 : (Jvm.Cond.instanceMethod ({ cls := "GasMeter", name := "workBreak", desc := "(I)V" } : Jvm.MethodName)) ∈ lw_all := lw_g (lw_at lw_m1 162 rfl) rfl
theorem q189 : (Jvm.Cond.code ({ cls := "GasMeter", name := "workBreak", desc := "(I)V" } : Jvm.MethodName) prog_1_method_20_code (3 : Nat) (Option.none : Option Jvm.ClassFile.FieldType)) ∈ lw_all := lw_g (lw_at lw_m1 163 rfl) rfl
theorem q191 : (Jvm.Cond.instanceMethod ({ cls := "GasMeter", name := "ending", desc := "()I" } : Jvm.MethodName)) ∈ lw_all := lw_g (lw_at lw_m1 165 rfl) rfl
theorem q192 : (Jvm.Cond.selects "GasMeter" ({ cls := "GasMeter", name := "ending", desc := "()I" } : Jvm.MethodName) ({ cls := "GasMeter", name := "ending", desc := "()I" } : Jvm.MethodName)) ∈ lw_all := lw_g (lw_at lw_m1 166 rfl) rfl
theorem q193 : (Jvm.Cond.code ({ cls := "GasMeter", name := "ending", desc := "()I" } : Jvm.MethodName) prog_1_method_26_code (1 : Nat) (Option.some Jvm.ClassFile.FieldType.int)) ∈ lw_all := lw_g (lw_at lw_m1 167 rfl) rfl
theorem q195 : (Jvm.Cond.instanceMethod ({ cls := "GasMeter", name := "place", desc := "()I" } : Jvm.MethodName)) ∈ lw_all := lw_g (lw_at lw_m1 169 rfl) rfl
theorem q196 : (Jvm.Cond.selects "GasMeter" ({ cls := "GasMeter", name := "place", desc := "()I" } : Jvm.MethodName) ({ cls := "GasMeter", name := "place", desc := "()I" } : Jvm.MethodName)) ∈ lw_all := lw_g (lw_at lw_m1 170 rfl) rfl
theorem q197 : (Jvm.Cond.code ({ cls := "GasMeter", name := "place", desc := "()I" } : Jvm.MethodName) prog_1_method_27_code (1 : Nat) (Option.some Jvm.ClassFile.FieldType.int)) ∈ lw_all := lw_g (lw_at lw_m1 171 rfl) rfl
theorem q199 : (Jvm.Cond.instanceMethod ({ cls := "GasMeter", name := "steps", desc := "()I" } : Jvm.MethodName)) ∈ lw_all := lw_g (lw_at lw_m1 173 rfl) rfl
theorem q200 : (Jvm.Cond.selects "GasMeter" ({ cls := "GasMeter", name := "steps", desc := "()I" } : Jvm.MethodName) ({ cls := "GasMeter", name := "steps", desc := "()I" } : Jvm.MethodName)) ∈ lw_all := lw_g (lw_at lw_m1 174 rfl) rfl
theorem q201 : (Jvm.Cond.code ({ cls := "GasMeter", name := "steps", desc := "()I" } : Jvm.MethodName) prog_1_method_28_code (1 : Nat) (Option.some Jvm.ClassFile.FieldType.int)) ∈ lw_all := lw_g (lw_at lw_m1 175 rfl) rfl
theorem q203 : (Jvm.Cond.instanceMethod ({ cls := "GasMeter", name := "spent", desc := "()I" } : Jvm.MethodName)) ∈ lw_all := lw_g (lw_at lw_m1 177 rfl) rfl
theorem q204 : (Jvm.Cond.selects "GasMeter" ({ cls := "GasMeter", name := "spent", desc := "()I" } : Jvm.MethodName) ({ cls := "GasMeter", name := "spent", desc := "()I" } : Jvm.MethodName)) ∈ lw_all := lw_g (lw_at lw_m1 178 rfl) rfl
theorem q205 : (Jvm.Cond.code ({ cls := "GasMeter", name := "spent", desc := "()I" } : Jvm.MethodName) prog_1_method_29_code (1 : Nat) (Option.some Jvm.ClassFile.FieldType.int)) ∈ lw_all := lw_g (lw_at lw_m1 179 rfl) rfl
theorem q207 : (Jvm.Cond.instanceMethod ({ cls := "GasMeter", name := "height", desc := "()I" } : Jvm.MethodName)) ∈ lw_all := lw_g (lw_at lw_m1 181 rfl) rfl
theorem q208 : (Jvm.Cond.selects "GasMeter" ({ cls := "GasMeter", name := "height", desc := "()I" } : Jvm.MethodName) ({ cls := "GasMeter", name := "height", desc := "()I" } : Jvm.MethodName)) ∈ lw_all := lw_g (lw_at lw_m1 182 rfl) rfl
theorem q209 : (Jvm.Cond.code ({ cls := "GasMeter", name := "height", desc := "()I" } : Jvm.MethodName) prog_1_method_30_code (1 : Nat) (Option.some Jvm.ClassFile.FieldType.int)) ∈ lw_all := lw_g (lw_at lw_m1 183 rfl) rfl
theorem q211 : (Jvm.Cond.instanceMethod ({ cls := "GasMeter", name := "pile", desc := "(I)I" } : Jvm.MethodName)) ∈ lw_all := lw_g (lw_at lw_m1 185 rfl) rfl
theorem q212 : (Jvm.Cond.selects "GasMeter" ({ cls := "GasMeter", name := "pile", desc := "(I)I" } : Jvm.MethodName) ({ cls := "GasMeter", name := "pile", desc := "(I)I" } : Jvm.MethodName)) ∈ lw_all := lw_g (lw_at lw_m1 186 rfl) rfl
theorem q213 : (Jvm.Cond.code ({ cls := "GasMeter", name := "pile", desc := "(I)I" } : Jvm.MethodName) prog_1_method_31_code (2 : Nat) (Option.some Jvm.ClassFile.FieldType.int)) ∈ lw_all := lw_g (lw_at lw_m1 187 rfl) rfl
theorem q215 : (Jvm.Cond.instanceMethod ({ cls := "GasMeter", name := "bill", desc := "()I" } : Jvm.MethodName)) ∈ lw_all := lw_g (lw_at lw_m1 189 rfl) rfl
theorem q216 : (Jvm.Cond.selects "GasMeter" ({ cls := "GasMeter", name := "bill", desc := "()I" } : Jvm.MethodName) ({ cls := "GasMeter", name := "bill", desc := "()I" } : Jvm.MethodName)) ∈ lw_all := lw_g (lw_at lw_m1 190 rfl) rfl
theorem q217 : (Jvm.Cond.code ({ cls := "GasMeter", name := "bill", desc := "()I" } : Jvm.MethodName) prog_1_method_32_code (8 : Nat) (Option.some Jvm.ClassFile.FieldType.int)) ∈ lw_all := lw_g (lw_at lw_m1 191 rfl) rfl
theorem q218 : (Jvm.Cond.constant "GasMeter" (118 : Nat) (1000000 : Int32)) ∈ lw_all := lw_g (lw_at lw_m1 192 rfl) rfl
theorem in_X0 : ∀ w ∈ wsX00, w ∈ lw_all := lw_in wsX00 [55, 57, 59, 61, 63, 65, 67, 69, 71, 73, 75, 77, 79, 81, 83, 85, 87, 89] (by decide +kernel) (by decide +kernel)

theorem q28 : (Jvm.Cond.initialized "GasMeterModel") ∈ lw_all := lw_g (lw_at lw_m1 2 rfl) rfl
theorem q220 : (Jvm.Cond.instantiable "GasMeterModel" (13 : Nat)) ∈ lw_all := lw_g (lw_at lw_m1 194 rfl) rfl
theorem q222 : (Jvm.Cond.instanceMethod ({ cls := "GasMeterModel", name := "<init>", desc := "()V" } : Jvm.MethodName)) ∈ lw_all := lw_g (lw_at lw_m1 196 rfl) rfl
theorem q223 : (Jvm.Cond.code ({ cls := "GasMeterModel", name := "<init>", desc := "()V" } : Jvm.MethodName) prog_3_method_1_code (1 : Nat) (Option.none : Option Jvm.ClassFile.FieldType)) ∈ lw_all := lw_g (lw_at lw_m1 197 rfl) rfl
theorem q224 : (Jvm.Cond.methodLink "GasMeterModel" (1 : Nat) ({ cls := "java/lang/Object", name := "<init>", desc := "()V" } : Jvm.MethodName)) ∈ lw_all := lw_g (lw_at lw_m1 198 rfl) rfl
theorem q225 : (Jvm.Cond.fieldLink "GasMeterModel" (7 : Nat) "GasMeterModel" "ops" "[I") ∈ lw_all := lw_g (lw_at lw_m1 199 rfl) rfl
theorem q226 : (Jvm.Cond.fieldLink "GasMeterModel" (13 : Nat) "GasMeterModel" "numbers" "[I") ∈ lw_all := lw_g (lw_at lw_m1 200 rfl) rfl
theorem q227 : (Jvm.Cond.fieldLink "GasMeterModel" (32 : Nat) "GasMeterModel" "size" "I") ∈ lw_all := lw_g (lw_at lw_m1 201 rfl) rfl
theorem q228 : (Jvm.Cond.fieldLink "GasMeterModel" (16 : Nat) "GasMeterModel" "variables" "[I") ∈ lw_all := lw_g (lw_at lw_m1 202 rfl) rfl
theorem q229 : (Jvm.Cond.fieldLink "GasMeterModel" (19 : Nat) "GasMeterModel" "pile" "[I") ∈ lw_all := lw_g (lw_at lw_m1 203 rfl) rfl
theorem q230 : (Jvm.Cond.fieldLink "GasMeterModel" (40 : Nat) "GasMeterModel" "height" "I") ∈ lw_all := lw_g (lw_at lw_m1 204 rfl) rfl
theorem q231 : (Jvm.Cond.fieldLink "GasMeterModel" (36 : Nat) "GasMeterModel" "gas" "I") ∈ lw_all := lw_g (lw_at lw_m1 205 rfl) rfl
theorem q232 : (Jvm.Cond.fieldLink "GasMeterModel" (74 : Nat) "GasMeterModel" "ending" "I") ∈ lw_all := lw_g (lw_at lw_m1 206 rfl) rfl
theorem q233 : (Jvm.Cond.fieldLink "GasMeterModel" (68 : Nat) "GasMeterModel" "place" "I") ∈ lw_all := lw_g (lw_at lw_m1 207 rfl) rfl
theorem q234 : (Jvm.Cond.fieldLink "GasMeterModel" (54 : Nat) "GasMeterModel" "steps" "I") ∈ lw_all := lw_g (lw_at lw_m1 208 rfl) rfl
theorem q235 : (Jvm.Cond.fieldLink "GasMeterModel" (65 : Nat) "GasMeterModel" "spent" "I") ∈ lw_all := lw_g (lw_at lw_m1 209 rfl) rfl
theorem q236 : (Jvm.Cond.fieldLink "GasMeterModel" (22 : Nat) "GasMeterModel" "keptVariables" "[I") ∈ lw_all := lw_g (lw_at lw_m1 210 rfl) rfl
theorem q237 : (Jvm.Cond.fieldLink "GasMeterModel" (25 : Nat) "GasMeterModel" "keptPile" "[I") ∈ lw_all := lw_g (lw_at lw_m1 211 rfl) rfl
theorem q238 : (Jvm.Cond.laysFinal "GasMeterModel" "GasMeterModel" "ops" "[I") ∈ lw_all := lw_g (lw_at lw_m1 212 rfl) rfl
theorem q239 : (Jvm.Cond.soleField "GasMeterModel" "ops") ∈ lw_all := lw_g (lw_at lw_m1 213 rfl) rfl
theorem q240 : (Jvm.Cond.laysFinal "GasMeterModel" "GasMeterModel" "numbers" "[I") ∈ lw_all := lw_g (lw_at lw_m1 214 rfl) rfl
theorem q241 : (Jvm.Cond.soleField "GasMeterModel" "numbers") ∈ lw_all := lw_g (lw_at lw_m1 215 rfl) rfl
theorem q242 : (Jvm.Cond.lays "GasMeterModel" "GasMeterModel" "size" "I") ∈ lw_all := lw_g (lw_at lw_m1 216 rfl) rfl
theorem q243 : (Jvm.Cond.soleField "GasMeterModel" "size") ∈ lw_all := lw_g (lw_at lw_m1 217 rfl) rfl
theorem q244 : (Jvm.Cond.laysFinal "GasMeterModel" "GasMeterModel" "variables" "[I") ∈ lw_all := lw_g (lw_at lw_m1 218 rfl) rfl
theorem q245 : (Jvm.Cond.soleField "GasMeterModel" "variables") ∈ lw_all := lw_g (lw_at lw_m1 219 rfl) rfl
theorem q246 : (Jvm.Cond.laysFinal "GasMeterModel" "GasMeterModel" "pile" "[I") ∈ lw_all := lw_g (lw_at lw_m1 220 rfl) rfl
theorem q247 : (Jvm.Cond.soleField "GasMeterModel" "pile") ∈ lw_all := lw_g (lw_at lw_m1 221 rfl) rfl
theorem q248 : (Jvm.Cond.lays "GasMeterModel" "GasMeterModel" "height" "I") ∈ lw_all := lw_g (lw_at lw_m1 222 rfl) rfl
theorem q249 : (Jvm.Cond.soleField "GasMeterModel" "height") ∈ lw_all := lw_g (lw_at lw_m1 223 rfl) rfl
theorem q250 : (Jvm.Cond.lays "GasMeterModel" "GasMeterModel" "gas" "I") ∈ lw_all := lw_g (lw_at lw_m1 224 rfl) rfl
theorem q251 : (Jvm.Cond.soleField "GasMeterModel" "gas") ∈ lw_all := lw_g (lw_at lw_m1 225 rfl) rfl
theorem q252 : (Jvm.Cond.lays "GasMeterModel" "GasMeterModel" "ending" "I") ∈ lw_all := lw_g (lw_at lw_m1 226 rfl) rfl
theorem q253 : (Jvm.Cond.soleField "GasMeterModel" "ending") ∈ lw_all := lw_g (lw_at lw_m1 227 rfl) rfl
theorem q254 : (Jvm.Cond.lays "GasMeterModel" "GasMeterModel" "place" "I") ∈ lw_all := lw_g (lw_at lw_m1 228 rfl) rfl
theorem q255 : (Jvm.Cond.soleField "GasMeterModel" "place") ∈ lw_all := lw_g (lw_at lw_m1 229 rfl) rfl
theorem q256 : (Jvm.Cond.lays "GasMeterModel" "GasMeterModel" "steps" "I") ∈ lw_all := lw_g (lw_at lw_m1 230 rfl) rfl
theorem q257 : (Jvm.Cond.soleField "GasMeterModel" "steps") ∈ lw_all := lw_g (lw_at lw_m1 231 rfl) rfl
theorem q258 : (Jvm.Cond.lays "GasMeterModel" "GasMeterModel" "spent" "I") ∈ lw_all := lw_g (lw_at lw_m1 232 rfl) rfl
theorem q259 : (Jvm.Cond.soleField "GasMeterModel" "spent") ∈ lw_all := lw_g (lw_at lw_m1 233 rfl) rfl
theorem q260 : (Jvm.Cond.laysFinal "GasMeterModel" "GasMeterModel" "keptVariables" "[I") ∈ lw_all := lw_g (lw_at lw_m1 234 rfl) rfl
theorem q261 : (Jvm.Cond.soleField "GasMeterModel" "keptVariables") ∈ lw_all := lw_g (lw_at lw_m1 235 rfl) rfl
theorem q262 : (Jvm.Cond.laysFinal "GasMeterModel" "GasMeterModel" "keptPile" "[I") ∈ lw_all := lw_g (lw_at lw_m1 236 rfl) rfl
theorem q263 : (Jvm.Cond.soleField "GasMeterModel" "keptPile") ∈ lw_all := lw_g (lw_at lw_m1 237 rfl) rfl
theorem q264 : (Jvm.Cond.superclass "GasMeterModel" "java/lang/Object") ∈ lw_all := lw_g (lw_at lw_m1 238 rfl) rfl
theorem q266 : (Jvm.Cond.instanceMethod ({ cls := "GasMeterModel", name := "append", desc := "(II)I" } : Jvm.MethodName)) ∈ lw_all := lw_g (lw_at lw_m2 0 rfl) rfl
theorem q267 : (Jvm.Cond.selects "GasMeterModel" ({ cls := "GasMeterModel", name := "append", desc := "(II)I" } : Jvm.MethodName) ({ cls := "GasMeterModel", name := "append", desc := "(II)I" } : Jvm.MethodName)) ∈ lw_all := lw_g (lw_at lw_m2 1 rfl) rfl
theorem q268 : (Jvm.Cond.code ({ cls := "GasMeterModel", name := "append", desc := "(II)I" } : Jvm.MethodName) prog_3_method_3_code (3 : Nat) (Option.some Jvm.ClassFile.FieldType.int)) ∈ lw_all := lw_g (lw_at lw_m2 2 rfl) rfl
theorem q269 : (Jvm.Cond.methodLink "GasMeterModel" (28 : Nat) ({ cls := "GasMeterModel", name := "isFit", desc := "(II)Z" } : Jvm.MethodName)) ∈ lw_all := lw_g (lw_at lw_m2 3 rfl) rfl
theorem q270 : (Jvm.Cond.privateMethod ({ cls := "GasMeterModel", name := "isFit", desc := "(II)Z" } : Jvm.MethodName)) ∈ lw_tbl := lw_at lw_m2 4 rfl
theorem q271 : (Jvm.Cond.instanceMethod ({ cls := "GasMeterModel", name := "isFit", desc := "(II)Z" } : Jvm.MethodName)) ∈ lw_all := lw_g (lw_at lw_m2 5 rfl) rfl
theorem q272 : (Jvm.Cond.code ({ cls := "GasMeterModel", name := "isFit", desc := "(II)Z" } : Jvm.MethodName) prog_3_method_2_code (3 : Nat) (Option.some Jvm.ClassFile.FieldType.boolean)) ∈ lw_all := lw_g (lw_at lw_m2 6 rfl) rfl
theorem q274 : (Jvm.Cond.instanceMethod ({ cls := "GasMeterModel", name := "change", desc := "(III)I" } : Jvm.MethodName)) ∈ lw_all := lw_g (lw_at lw_m2 8 rfl) rfl
theorem q275 : (Jvm.Cond.selects "GasMeterModel" ({ cls := "GasMeterModel", name := "change", desc := "(III)I" } : Jvm.MethodName) ({ cls := "GasMeterModel", name := "change", desc := "(III)I" } : Jvm.MethodName)) ∈ lw_all := lw_g (lw_at lw_m2 9 rfl) rfl
theorem q276 : (Jvm.Cond.code ({ cls := "GasMeterModel", name := "change", desc := "(III)I" } : Jvm.MethodName) prog_3_method_4_code (5 : Nat) (Option.some Jvm.ClassFile.FieldType.int)) ∈ lw_all := lw_g (lw_at lw_m2 10 rfl) rfl
theorem q278 : (Jvm.Cond.instanceMethod ({ cls := "GasMeterModel", name := "clear", desc := "()V" } : Jvm.MethodName)) ∈ lw_all := lw_g (lw_at lw_m2 12 rfl) rfl
theorem q279 : (Jvm.Cond.selects "GasMeterModel" ({ cls := "GasMeterModel", name := "clear", desc := "()V" } : Jvm.MethodName) ({ cls := "GasMeterModel", name := "clear", desc := "()V" } : Jvm.MethodName)) ∈ lw_all := lw_g (lw_at lw_m2 13 rfl) rfl
theorem q280 : (Jvm.Cond.code ({ cls := "GasMeterModel", name := "clear", desc := "()V" } : Jvm.MethodName) prog_3_method_5_code (1 : Nat) (Option.none : Option Jvm.ClassFile.FieldType)) ∈ lw_all := lw_g (lw_at lw_m2 14 rfl) rfl
theorem q282 : (Jvm.Cond.instanceMethod ({ cls := "GasMeterModel", name := "size", desc := "()I" } : Jvm.MethodName)) ∈ lw_all := lw_g (lw_at lw_m2 16 rfl) rfl
theorem q283 : (Jvm.Cond.selects "GasMeterModel" ({ cls := "GasMeterModel", name := "size", desc := "()I" } : Jvm.MethodName) ({ cls := "GasMeterModel", name := "size", desc := "()I" } : Jvm.MethodName)) ∈ lw_all := lw_g (lw_at lw_m2 17 rfl) rfl
theorem q284 : (Jvm.Cond.code ({ cls := "GasMeterModel", name := "size", desc := "()I" } : Jvm.MethodName) prog_3_method_6_code (1 : Nat) (Option.some Jvm.ClassFile.FieldType.int)) ∈ lw_all := lw_g (lw_at lw_m2 18 rfl) rfl
theorem q286 : (Jvm.Cond.instanceMethod ({ cls := "GasMeterModel", name := "set", desc := "(II)I" } : Jvm.MethodName)) ∈ lw_all := lw_g (lw_at lw_m2 20 rfl) rfl
theorem q287 : (Jvm.Cond.selects "GasMeterModel" ({ cls := "GasMeterModel", name := "set", desc := "(II)I" } : Jvm.MethodName) ({ cls := "GasMeterModel", name := "set", desc := "(II)I" } : Jvm.MethodName)) ∈ lw_all := lw_g (lw_at lw_m2 21 rfl) rfl
theorem q288 : (Jvm.Cond.code ({ cls := "GasMeterModel", name := "set", desc := "(II)I" } : Jvm.MethodName) prog_3_method_7_code (3 : Nat) (Option.some Jvm.ClassFile.FieldType.int)) ∈ lw_all := lw_g (lw_at lw_m2 22 rfl) rfl
theorem q290 : (Jvm.Cond.instanceMethod ({ cls := "GasMeterModel", name := "get", desc := "(I)I" } : Jvm.MethodName)) ∈ lw_all := lw_g (lw_at lw_m2 24 rfl) rfl
theorem q291 : (Jvm.Cond.selects "GasMeterModel" ({ cls := "GasMeterModel", name := "get", desc := "(I)I" } : Jvm.MethodName) ({ cls := "GasMeterModel", name := "get", desc := "(I)I" } : Jvm.MethodName)) ∈ lw_all := lw_g (lw_at lw_m2 25 rfl) rfl
theorem q292 : (Jvm.Cond.code ({ cls := "GasMeterModel", name := "get", desc := "(I)I" } : Jvm.MethodName) prog_3_method_8_code (2 : Nat) (Option.some Jvm.ClassFile.FieldType.int)) ∈ lw_all := lw_g (lw_at lw_m2 26 rfl) rfl
theorem q294 : (Jvm.Cond.instanceMethod ({ cls := "GasMeterModel", name := "fund", desc := "(I)I" } : Jvm.MethodName)) ∈ lw_all := lw_g (lw_at lw_m2 28 rfl) rfl
theorem q295 : (Jvm.Cond.selects "GasMeterModel" ({ cls := "GasMeterModel", name := "fund", desc := "(I)I" } : Jvm.MethodName) ({ cls := "GasMeterModel", name := "fund", desc := "(I)I" } : Jvm.MethodName)) ∈ lw_all := lw_g (lw_at lw_m2 29 rfl) rfl
theorem q296 : (Jvm.Cond.code ({ cls := "GasMeterModel", name := "fund", desc := "(I)I" } : Jvm.MethodName) prog_3_method_9_code (2 : Nat) (Option.some Jvm.ClassFile.FieldType.int)) ∈ lw_all := lw_g (lw_at lw_m2 30 rfl) rfl
theorem q297 : (Jvm.Cond.constant "GasMeterModel" (39 : Nat) (100000 : Int32)) ∈ lw_all := lw_g (lw_at lw_m2 31 rfl) rfl
theorem q299 : (Jvm.Cond.instanceMethod ({ cls := "GasMeterModel", name := "gas", desc := "()I" } : Jvm.MethodName)) ∈ lw_all := lw_g (lw_at lw_m2 33 rfl) rfl
theorem q300 : (Jvm.Cond.selects "GasMeterModel" ({ cls := "GasMeterModel", name := "gas", desc := "()I" } : Jvm.MethodName) ({ cls := "GasMeterModel", name := "gas", desc := "()I" } : Jvm.MethodName)) ∈ lw_all := lw_g (lw_at lw_m2 34 rfl) rfl
theorem q301 : (Jvm.Cond.code ({ cls := "GasMeterModel", name := "gas", desc := "()I" } : Jvm.MethodName) prog_3_method_10_code (1 : Nat) (Option.some Jvm.ClassFile.FieldType.int)) ∈ lw_all := lw_g (lw_at lw_m2 35 rfl) rfl
theorem q303 : (Jvm.Cond.instanceMethod ({ cls := "GasMeterModel", name := "run", desc := "()I" } : Jvm.MethodName)) ∈ lw_all := lw_g (lw_at lw_m2 37 rfl) rfl
theorem q304 : (Jvm.Cond.selects "GasMeterModel" ({ cls := "GasMeterModel", name := "run", desc := "()I" } : Jvm.MethodName) ({ cls := "GasMeterModel", name := "run", desc := "()I" } : Jvm.MethodName)) ∈ lw_all := lw_g (lw_at lw_m2 38 rfl) rfl
theorem q305 : (Jvm.Cond.code ({ cls := "GasMeterModel", name := "run", desc := "()I" } : Jvm.MethodName) prog_3_method_18_code (2 : Nat) (Option.some Jvm.ClassFile.FieldType.int)) ∈ lw_all := lw_g (lw_at lw_m2 39 rfl) rfl
theorem q306 : (Jvm.Cond.methodLink "GasMeterModel" (71 : Nat) ({ cls := "GasMeterModel", name := "endAt", desc := "(I)I" } : Jvm.MethodName)) ∈ lw_all := lw_g (lw_at lw_m2 40 rfl) rfl
theorem q307 : (Jvm.Cond.privateMethod ({ cls := "GasMeterModel", name := "endAt", desc := "(I)I" } : Jvm.MethodName)) ∈ lw_tbl := lw_at lw_m2 41 rfl
theorem q308 : (Jvm.Cond.instanceMethod ({ cls := "GasMeterModel", name := "endAt", desc := "(I)I" } : Jvm.MethodName)) ∈ lw_all := lw_g (lw_at lw_m2 42 rfl) rfl
theorem q309 : (Jvm.Cond.code ({ cls := "GasMeterModel", name := "endAt", desc := "(I)I" } : Jvm.MethodName) prog_3_method_17_code (2 : Nat) (Option.some Jvm.ClassFile.FieldType.int)) ∈ lw_all := lw_g (lw_at lw_m2 43 rfl) rfl
theorem q310 : (Jvm.Cond.methodLink "GasMeterModel" (57 : Nat) ({ cls := "GasMeterModel", name := "traps", desc := "(I)Z" } : Jvm.MethodName)) ∈ lw_all := lw_g (lw_at lw_m2 44 rfl) rfl
theorem q311 : (Jvm.Cond.privateMethod ({ cls := "GasMeterModel", name := "traps", desc := "(I)Z" } : Jvm.MethodName)) ∈ lw_tbl := lw_at lw_m2 45 rfl
theorem q312 : (Jvm.Cond.instanceMethod ({ cls := "GasMeterModel", name := "traps", desc := "(I)Z" } : Jvm.MethodName)) ∈ lw_all := lw_g (lw_at lw_m2 46 rfl) rfl
theorem q313 : (Jvm.Cond.code ({ cls := "GasMeterModel", name := "traps", desc := "(I)Z" } : Jvm.MethodName) prog_3_method_11_code (4 : Nat) (Option.some Jvm.ClassFile.FieldType.boolean)) ∈ lw_all := lw_g (lw_at lw_m2 47 rfl) rfl
theorem q314 : (Jvm.Cond.methodLink "GasMeterModel" (61 : Nat) ({ cls := "GasMeterModel", name := "price", desc := "(I)I" } : Jvm.MethodName)) ∈ lw_all := lw_g (lw_at lw_m2 48 rfl) rfl
theorem q315 : (Jvm.Cond.privateMethod ({ cls := "GasMeterModel", name := "price", desc := "(I)I" } : Jvm.MethodName)) ∈ lw_tbl := lw_at lw_m2 49 rfl
theorem q316 : (Jvm.Cond.instanceMethod ({ cls := "GasMeterModel", name := "price", desc := "(I)I" } : Jvm.MethodName)) ∈ lw_all := lw_g (lw_at lw_m2 50 rfl) rfl
theorem q317 : (Jvm.Cond.code ({ cls := "GasMeterModel", name := "price", desc := "(I)I" } : Jvm.MethodName) prog_3_method_12_code (2 : Nat) (Option.some Jvm.ClassFile.FieldType.int)) ∈ lw_all := lw_g (lw_at lw_m2 51 rfl) rfl
theorem q318 : (Jvm.Cond.methodLink "GasMeterModel" (77 : Nat) ({ cls := "GasMeterModel", name := "work", desc := "(I)I" } : Jvm.MethodName)) ∈ lw_all := lw_g (lw_at lw_m2 52 rfl) rfl
theorem q319 : (Jvm.Cond.privateMethod ({ cls := "GasMeterModel", name := "work", desc := "(I)I" } : Jvm.MethodName)) ∈ lw_tbl := lw_at lw_m2 53 rfl
theorem q320 : (Jvm.Cond.instanceMethod ({ cls := "GasMeterModel", name := "work", desc := "(I)I" } : Jvm.MethodName)) ∈ lw_all := lw_g (lw_at lw_m2 54 rfl) rfl
theorem q321 : (Jvm.Cond.code ({ cls := "GasMeterModel", name := "work", desc := "(I)I" } : Jvm.MethodName) prog_3_method_16_code (5 : Nat) (Option.some Jvm.ClassFile.FieldType.int)) ∈ lw_all := lw_g (lw_at lw_m2 55 rfl) rfl
theorem q322 : (Jvm.Cond.methodLink "GasMeterModel" (47 : Nat) ({ cls := "GasMeterModel", name := "push", desc := "(I)V" } : Jvm.MethodName)) ∈ lw_all := lw_g (lw_at lw_m2 56 rfl) rfl
theorem q323 : (Jvm.Cond.privateMethod ({ cls := "GasMeterModel", name := "push", desc := "(I)V" } : Jvm.MethodName)) ∈ lw_tbl := lw_at lw_m2 57 rfl
theorem q324 : (Jvm.Cond.instanceMethod ({ cls := "GasMeterModel", name := "push", desc := "(I)V" } : Jvm.MethodName)) ∈ lw_all := lw_g (lw_at lw_m2 58 rfl) rfl
theorem q325 : (Jvm.Cond.code ({ cls := "GasMeterModel", name := "push", desc := "(I)V" } : Jvm.MethodName) prog_3_method_13_code (2 : Nat) (Option.none : Option Jvm.ClassFile.FieldType)) ∈ lw_all := lw_g (lw_at lw_m2 59 rfl) rfl
theorem q326 : (Jvm.Cond.methodLink "GasMeterModel" (51 : Nat) ({ cls := "GasMeterModel", name := "operate", desc := "(I)V" } : Jvm.MethodName)) ∈ lw_all := lw_g (lw_at lw_m2 60 rfl) rfl
theorem q327 : (Jvm.Cond.privateMethod ({ cls := "GasMeterModel", name := "operate", desc := "(I)V" } : Jvm.MethodName)) ∈ lw_tbl := lw_at lw_m2 61 rfl
theorem q328 : (Jvm.Cond.instanceMethod ({ cls := "GasMeterModel", name := "operate", desc := "(I)V" } : Jvm.MethodName)) ∈ lw_all := lw_g (lw_at lw_m2 62 rfl) rfl
theorem q329 : (Jvm.Cond.code ({ cls := "GasMeterModel", name := "operate", desc := "(I)V" } : Jvm.MethodName) prog_3_method_15_code (4 : Nat) (Option.none : Option Jvm.ClassFile.FieldType)) ∈ lw_all := lw_g (lw_at lw_m2 63 rfl) rfl
theorem q330 : (Jvm.Cond.methodLink "GasMeterModel" (43 : Nat) ({ cls := "GasMeterModel", name := "pop", desc := "()I" } : Jvm.MethodName)) ∈ lw_all := lw_g (lw_at lw_m2 64 rfl) rfl
theorem q331 : (Jvm.Cond.privateMethod ({ cls := "GasMeterModel", name := "pop", desc := "()I" } : Jvm.MethodName)) ∈ lw_tbl := lw_at lw_m2 65 rfl
theorem q332 : (Jvm.Cond.instanceMethod ({ cls := "GasMeterModel", name := "pop", desc := "()I" } : Jvm.MethodName)) ∈ lw_all := lw_g (lw_at lw_m2 66 rfl) rfl
theorem q333 : (Jvm.Cond.code ({ cls := "GasMeterModel", name := "pop", desc := "()I" } : Jvm.MethodName) prog_3_method_14_code (1 : Nat) (Option.some Jvm.ClassFile.FieldType.int)) ∈ lw_all := lw_g (lw_at lw_m2 67 rfl) rfl
theorem q335 : (Jvm.Cond.instanceMethod ({ cls := "GasMeterModel", name := "ending", desc := "()I" } : Jvm.MethodName)) ∈ lw_all := lw_g (lw_at lw_m2 69 rfl) rfl
theorem q336 : (Jvm.Cond.selects "GasMeterModel" ({ cls := "GasMeterModel", name := "ending", desc := "()I" } : Jvm.MethodName) ({ cls := "GasMeterModel", name := "ending", desc := "()I" } : Jvm.MethodName)) ∈ lw_all := lw_g (lw_at lw_m2 70 rfl) rfl
theorem q337 : (Jvm.Cond.code ({ cls := "GasMeterModel", name := "ending", desc := "()I" } : Jvm.MethodName) prog_3_method_19_code (1 : Nat) (Option.some Jvm.ClassFile.FieldType.int)) ∈ lw_all := lw_g (lw_at lw_m2 71 rfl) rfl
theorem q339 : (Jvm.Cond.instanceMethod ({ cls := "GasMeterModel", name := "place", desc := "()I" } : Jvm.MethodName)) ∈ lw_all := lw_g (lw_at lw_m2 73 rfl) rfl
theorem q340 : (Jvm.Cond.selects "GasMeterModel" ({ cls := "GasMeterModel", name := "place", desc := "()I" } : Jvm.MethodName) ({ cls := "GasMeterModel", name := "place", desc := "()I" } : Jvm.MethodName)) ∈ lw_all := lw_g (lw_at lw_m2 74 rfl) rfl
theorem q341 : (Jvm.Cond.code ({ cls := "GasMeterModel", name := "place", desc := "()I" } : Jvm.MethodName) prog_3_method_20_code (1 : Nat) (Option.some Jvm.ClassFile.FieldType.int)) ∈ lw_all := lw_g (lw_at lw_m2 75 rfl) rfl
theorem q343 : (Jvm.Cond.instanceMethod ({ cls := "GasMeterModel", name := "steps", desc := "()I" } : Jvm.MethodName)) ∈ lw_all := lw_g (lw_at lw_m2 77 rfl) rfl
theorem q344 : (Jvm.Cond.selects "GasMeterModel" ({ cls := "GasMeterModel", name := "steps", desc := "()I" } : Jvm.MethodName) ({ cls := "GasMeterModel", name := "steps", desc := "()I" } : Jvm.MethodName)) ∈ lw_all := lw_g (lw_at lw_m2 78 rfl) rfl
theorem q345 : (Jvm.Cond.code ({ cls := "GasMeterModel", name := "steps", desc := "()I" } : Jvm.MethodName) prog_3_method_21_code (1 : Nat) (Option.some Jvm.ClassFile.FieldType.int)) ∈ lw_all := lw_g (lw_at lw_m2 79 rfl) rfl
theorem q347 : (Jvm.Cond.instanceMethod ({ cls := "GasMeterModel", name := "spent", desc := "()I" } : Jvm.MethodName)) ∈ lw_all := lw_g (lw_at lw_m2 81 rfl) rfl
theorem q348 : (Jvm.Cond.selects "GasMeterModel" ({ cls := "GasMeterModel", name := "spent", desc := "()I" } : Jvm.MethodName) ({ cls := "GasMeterModel", name := "spent", desc := "()I" } : Jvm.MethodName)) ∈ lw_all := lw_g (lw_at lw_m2 82 rfl) rfl
theorem q349 : (Jvm.Cond.code ({ cls := "GasMeterModel", name := "spent", desc := "()I" } : Jvm.MethodName) prog_3_method_22_code (1 : Nat) (Option.some Jvm.ClassFile.FieldType.int)) ∈ lw_all := lw_g (lw_at lw_m2 83 rfl) rfl
theorem q351 : (Jvm.Cond.instanceMethod ({ cls := "GasMeterModel", name := "height", desc := "()I" } : Jvm.MethodName)) ∈ lw_all := lw_g (lw_at lw_m2 85 rfl) rfl
theorem q352 : (Jvm.Cond.selects "GasMeterModel" ({ cls := "GasMeterModel", name := "height", desc := "()I" } : Jvm.MethodName) ({ cls := "GasMeterModel", name := "height", desc := "()I" } : Jvm.MethodName)) ∈ lw_all := lw_g (lw_at lw_m2 86 rfl) rfl
theorem q353 : (Jvm.Cond.code ({ cls := "GasMeterModel", name := "height", desc := "()I" } : Jvm.MethodName) prog_3_method_23_code (1 : Nat) (Option.some Jvm.ClassFile.FieldType.int)) ∈ lw_all := lw_g (lw_at lw_m2 87 rfl) rfl
theorem q355 : (Jvm.Cond.instanceMethod ({ cls := "GasMeterModel", name := "pile", desc := "(I)I" } : Jvm.MethodName)) ∈ lw_all := lw_g (lw_at lw_m2 89 rfl) rfl
theorem q356 : (Jvm.Cond.selects "GasMeterModel" ({ cls := "GasMeterModel", name := "pile", desc := "(I)I" } : Jvm.MethodName) ({ cls := "GasMeterModel", name := "pile", desc := "(I)I" } : Jvm.MethodName)) ∈ lw_all := lw_g (lw_at lw_m2 90 rfl) rfl
theorem q357 : (Jvm.Cond.code ({ cls := "GasMeterModel", name := "pile", desc := "(I)I" } : Jvm.MethodName) prog_3_method_24_code (2 : Nat) (Option.some Jvm.ClassFile.FieldType.int)) ∈ lw_all := lw_g (lw_at lw_m2 91 rfl) rfl
theorem q359 : (Jvm.Cond.instanceMethod ({ cls := "GasMeterModel", name := "bill", desc := "()I" } : Jvm.MethodName)) ∈ lw_all := lw_g (lw_at lw_m2 93 rfl) rfl
theorem q360 : (Jvm.Cond.selects "GasMeterModel" ({ cls := "GasMeterModel", name := "bill", desc := "()I" } : Jvm.MethodName) ({ cls := "GasMeterModel", name := "bill", desc := "()I" } : Jvm.MethodName)) ∈ lw_all := lw_g (lw_at lw_m2 94 rfl) rfl
theorem q361 : (Jvm.Cond.code ({ cls := "GasMeterModel", name := "bill", desc := "()I" } : Jvm.MethodName) prog_3_method_28_code (8 : Nat) (Option.some Jvm.ClassFile.FieldType.int)) ∈ lw_all := lw_g (lw_at lw_m2 95 rfl) rfl
theorem q362 : (Jvm.Cond.methodLink "GasMeterModel" (80 : Nat) ({ cls := "GasMeterModel", name := "asksGas", desc := "()Z" } : Jvm.MethodName)) ∈ lw_all := lw_g (lw_at lw_m2 96 rfl) rfl
theorem q363 : (Jvm.Cond.privateMethod ({ cls := "GasMeterModel", name := "asksGas", desc := "()Z" } : Jvm.MethodName)) ∈ lw_tbl := lw_at lw_m2 97 rfl
theorem q364 : (Jvm.Cond.instanceMethod ({ cls := "GasMeterModel", name := "asksGas", desc := "()Z" } : Jvm.MethodName)) ∈ lw_all := lw_g (lw_at lw_m2 98 rfl) rfl
theorem q365 : (Jvm.Cond.code ({ cls := "GasMeterModel", name := "asksGas", desc := "()Z" } : Jvm.MethodName) prog_3_method_25_code (2 : Nat) (Option.some Jvm.ClassFile.FieldType.boolean)) ∈ lw_all := lw_g (lw_at lw_m2 99 rfl) rfl
theorem q366 : (Jvm.Cond.methodLink "GasMeterModel" (84 : Nat) ({ cls := "GasMeterModel", name := "keep", desc := "()V" } : Jvm.MethodName)) ∈ lw_all := lw_g (lw_at lw_m2 100 rfl) rfl
theorem q367 : (Jvm.Cond.privateMethod ({ cls := "GasMeterModel", name := "keep", desc := "()V" } : Jvm.MethodName)) ∈ lw_tbl := lw_at lw_m2 101 rfl
theorem q368 : (Jvm.Cond.instanceMethod ({ cls := "GasMeterModel", name := "keep", desc := "()V" } : Jvm.MethodName)) ∈ lw_all := lw_g (lw_at lw_m2 102 rfl) rfl
theorem q369 : (Jvm.Cond.code ({ cls := "GasMeterModel", name := "keep", desc := "()V" } : Jvm.MethodName) prog_3_method_26_code (2 : Nat) (Option.none : Option Jvm.ClassFile.FieldType)) ∈ lw_all := lw_g (lw_at lw_m2 103 rfl) rfl
theorem q370 : (Jvm.Cond.constant "GasMeterModel" (87 : Nat) (1000000 : Int32)) ∈ lw_all := lw_g (lw_at lw_m2 104 rfl) rfl
theorem q371 : (Jvm.Cond.methodLink "GasMeterModel" (88 : Nat) ({ cls := "GasMeterModel", name := "run", desc := "()I" } : Jvm.MethodName)) ∈ lw_all := lw_g (lw_at lw_m2 105 rfl) rfl
theorem q372 : (Jvm.Cond.methodLink "GasMeterModel" (91 : Nat) ({ cls := "GasMeterModel", name := "giveBack", desc := "()V" } : Jvm.MethodName)) ∈ lw_all := lw_g (lw_at lw_m2 106 rfl) rfl
theorem q373 : (Jvm.Cond.privateMethod ({ cls := "GasMeterModel", name := "giveBack", desc := "()V" } : Jvm.MethodName)) ∈ lw_tbl := lw_at lw_m2 107 rfl
theorem q374 : (Jvm.Cond.instanceMethod ({ cls := "GasMeterModel", name := "giveBack", desc := "()V" } : Jvm.MethodName)) ∈ lw_all := lw_g (lw_at lw_m2 108 rfl) rfl
theorem q375 : (Jvm.Cond.code ({ cls := "GasMeterModel", name := "giveBack", desc := "()V" } : Jvm.MethodName) prog_3_method_27_code (2 : Nat) (Option.none : Option Jvm.ClassFile.FieldType)) ∈ lw_all := lw_g (lw_at lw_m2 109 rfl) rfl
theorem in_X1 : ∀ w ∈ wsX10, w ∈ lw_all := lw_in wsX10 [238, 240, 242, 244, 246, 248, 250, 252, 254, 256, 258, 260, 262] (by decide +kernel) (by decide +kernel)

/-! java/lang/Object -/
set_option maxRecDepth 100000
def RJ0 : String := "java/lang/Object"
abbrev cJ0_init : ByteArray := object_method_1_code
def yJ0_init : MethodName := ⟨RJ0, "<init>", "()V"⟩
theorem dJ0_init_0 : decode cJ0_init 0 = .ok (.return_, 1) := by decide +kernel
theorem q35 : (Jvm.Cond.instanceMethod ({ cls := "java/lang/Object", name := "<init>", desc := "()V" } : Jvm.MethodName)) ∈ lw_all := lw_g (lw_at lw_m1 9 rfl) rfl
theorem q36 : (Jvm.Cond.code ({ cls := "java/lang/Object", name := "<init>", desc := "()V" } : Jvm.MethodName) object_method_1_code (1 : Nat) (Option.none : Option Jvm.ClassFile.FieldType)) ∈ lw_all := lw_g (lw_at lw_m1 10 rfl) rfl
theorem q92 : (Jvm.Cond.arrayClass Jvm.ClassFile.FieldType.int) ∈ lw_all := lw_g (lw_at lw_m1 66 rfl) rfl
set_option maxRecDepth 100000
theorem q26 : (Jvm.Cond.initialized "GasMeterLaw") ∈ lw_all := lw_g (lw_at lw_m1 0 rfl) rfl
set_option maxRecDepth 100000
theorem q29 : (Jvm.Cond.classLink "GasMeterLaw" (7 : Nat) "GasMeter") ∈ lw_all := lw_g (lw_at lw_m1 3 rfl) rfl
theorem q31 : (Jvm.Cond.methodLink "GasMeterLaw" (9 : Nat) ({ cls := "GasMeter", name := "<init>", desc := "()V" } : Jvm.MethodName)) ∈ lw_all := lw_g (lw_at lw_m1 5 rfl) rfl
theorem q93 : (Jvm.Cond.methodLink "GasMeterLaw" (13 : Nat) ({ cls := "GasMeter", name := "append", desc := "(II)I" } : Jvm.MethodName)) ∈ lw_all := lw_g (lw_at lw_m1 67 rfl) rfl
theorem q101 : (Jvm.Cond.methodLink "GasMeterLaw" (18 : Nat) ({ cls := "GasMeter", name := "change", desc := "(III)I" } : Jvm.MethodName)) ∈ lw_all := lw_g (lw_at lw_m1 75 rfl) rfl
theorem q105 : (Jvm.Cond.methodLink "GasMeterLaw" (23 : Nat) ({ cls := "GasMeter", name := "clear", desc := "()V" } : Jvm.MethodName)) ∈ lw_all := lw_g (lw_at lw_m1 79 rfl) rfl
theorem q109 : (Jvm.Cond.methodLink "GasMeterLaw" (27 : Nat) ({ cls := "GasMeter", name := "size", desc := "()I" } : Jvm.MethodName)) ∈ lw_all := lw_g (lw_at lw_m1 83 rfl) rfl
theorem q113 : (Jvm.Cond.methodLink "GasMeterLaw" (32 : Nat) ({ cls := "GasMeter", name := "set", desc := "(II)I" } : Jvm.MethodName)) ∈ lw_all := lw_g (lw_at lw_m1 87 rfl) rfl
theorem q117 : (Jvm.Cond.methodLink "GasMeterLaw" (36 : Nat) ({ cls := "GasMeter", name := "get", desc := "(I)I" } : Jvm.MethodName)) ∈ lw_all := lw_g (lw_at lw_m1 91 rfl) rfl
theorem q121 : (Jvm.Cond.methodLink "GasMeterLaw" (41 : Nat) ({ cls := "GasMeter", name := "fund", desc := "(I)I" } : Jvm.MethodName)) ∈ lw_all := lw_g (lw_at lw_m1 95 rfl) rfl
theorem q126 : (Jvm.Cond.methodLink "GasMeterLaw" (45 : Nat) ({ cls := "GasMeter", name := "gas", desc := "()I" } : Jvm.MethodName)) ∈ lw_all := lw_g (lw_at lw_m1 100 rfl) rfl
theorem q130 : (Jvm.Cond.methodLink "GasMeterLaw" (49 : Nat) ({ cls := "GasMeter", name := "run", desc := "()I" } : Jvm.MethodName)) ∈ lw_all := lw_g (lw_at lw_m1 104 rfl) rfl
theorem q190 : (Jvm.Cond.methodLink "GasMeterLaw" (53 : Nat) ({ cls := "GasMeter", name := "ending", desc := "()I" } : Jvm.MethodName)) ∈ lw_all := lw_g (lw_at lw_m1 164 rfl) rfl
theorem q194 : (Jvm.Cond.methodLink "GasMeterLaw" (57 : Nat) ({ cls := "GasMeter", name := "place", desc := "()I" } : Jvm.MethodName)) ∈ lw_all := lw_g (lw_at lw_m1 168 rfl) rfl
theorem q198 : (Jvm.Cond.methodLink "GasMeterLaw" (61 : Nat) ({ cls := "GasMeter", name := "steps", desc := "()I" } : Jvm.MethodName)) ∈ lw_all := lw_g (lw_at lw_m1 172 rfl) rfl
theorem q202 : (Jvm.Cond.methodLink "GasMeterLaw" (65 : Nat) ({ cls := "GasMeter", name := "spent", desc := "()I" } : Jvm.MethodName)) ∈ lw_all := lw_g (lw_at lw_m1 176 rfl) rfl
theorem q206 : (Jvm.Cond.methodLink "GasMeterLaw" (69 : Nat) ({ cls := "GasMeter", name := "height", desc := "()I" } : Jvm.MethodName)) ∈ lw_all := lw_g (lw_at lw_m1 180 rfl) rfl
theorem q210 : (Jvm.Cond.methodLink "GasMeterLaw" (73 : Nat) ({ cls := "GasMeter", name := "pile", desc := "(I)I" } : Jvm.MethodName)) ∈ lw_all := lw_g (lw_at lw_m1 184 rfl) rfl
theorem q214 : (Jvm.Cond.methodLink "GasMeterLaw" (77 : Nat) ({ cls := "GasMeter", name := "bill", desc := "()I" } : Jvm.MethodName)) ∈ lw_all := lw_g (lw_at lw_m1 188 rfl) rfl
theorem q219 : (Jvm.Cond.classLink "GasMeterLaw" (10 : Nat) "GasMeterModel") ∈ lw_all := lw_g (lw_at lw_m1 193 rfl) rfl
theorem q221 : (Jvm.Cond.methodLink "GasMeterLaw" (12 : Nat) ({ cls := "GasMeterModel", name := "<init>", desc := "()V" } : Jvm.MethodName)) ∈ lw_all := lw_g (lw_at lw_m1 195 rfl) rfl
theorem q265 : (Jvm.Cond.methodLink "GasMeterLaw" (17 : Nat) ({ cls := "GasMeterModel", name := "append", desc := "(II)I" } : Jvm.MethodName)) ∈ lw_all := lw_g (lw_at lw_m1 239 rfl) rfl
theorem q273 : (Jvm.Cond.methodLink "GasMeterLaw" (22 : Nat) ({ cls := "GasMeterModel", name := "change", desc := "(III)I" } : Jvm.MethodName)) ∈ lw_all := lw_g (lw_at lw_m2 7 rfl) rfl
theorem q277 : (Jvm.Cond.methodLink "GasMeterLaw" (26 : Nat) ({ cls := "GasMeterModel", name := "clear", desc := "()V" } : Jvm.MethodName)) ∈ lw_all := lw_g (lw_at lw_m2 11 rfl) rfl
theorem q281 : (Jvm.Cond.methodLink "GasMeterLaw" (31 : Nat) ({ cls := "GasMeterModel", name := "size", desc := "()I" } : Jvm.MethodName)) ∈ lw_all := lw_g (lw_at lw_m2 15 rfl) rfl
theorem q285 : (Jvm.Cond.methodLink "GasMeterLaw" (35 : Nat) ({ cls := "GasMeterModel", name := "set", desc := "(II)I" } : Jvm.MethodName)) ∈ lw_all := lw_g (lw_at lw_m2 19 rfl) rfl
theorem q289 : (Jvm.Cond.methodLink "GasMeterLaw" (40 : Nat) ({ cls := "GasMeterModel", name := "get", desc := "(I)I" } : Jvm.MethodName)) ∈ lw_all := lw_g (lw_at lw_m2 23 rfl) rfl
theorem q293 : (Jvm.Cond.methodLink "GasMeterLaw" (44 : Nat) ({ cls := "GasMeterModel", name := "fund", desc := "(I)I" } : Jvm.MethodName)) ∈ lw_all := lw_g (lw_at lw_m2 27 rfl) rfl
theorem q298 : (Jvm.Cond.methodLink "GasMeterLaw" (48 : Nat) ({ cls := "GasMeterModel", name := "gas", desc := "()I" } : Jvm.MethodName)) ∈ lw_all := lw_g (lw_at lw_m2 32 rfl) rfl
theorem q302 : (Jvm.Cond.methodLink "GasMeterLaw" (52 : Nat) ({ cls := "GasMeterModel", name := "run", desc := "()I" } : Jvm.MethodName)) ∈ lw_all := lw_g (lw_at lw_m2 36 rfl) rfl
theorem q334 : (Jvm.Cond.methodLink "GasMeterLaw" (56 : Nat) ({ cls := "GasMeterModel", name := "ending", desc := "()I" } : Jvm.MethodName)) ∈ lw_all := lw_g (lw_at lw_m2 68 rfl) rfl
theorem q338 : (Jvm.Cond.methodLink "GasMeterLaw" (60 : Nat) ({ cls := "GasMeterModel", name := "place", desc := "()I" } : Jvm.MethodName)) ∈ lw_all := lw_g (lw_at lw_m2 72 rfl) rfl
theorem q342 : (Jvm.Cond.methodLink "GasMeterLaw" (64 : Nat) ({ cls := "GasMeterModel", name := "steps", desc := "()I" } : Jvm.MethodName)) ∈ lw_all := lw_g (lw_at lw_m2 76 rfl) rfl
theorem q346 : (Jvm.Cond.methodLink "GasMeterLaw" (68 : Nat) ({ cls := "GasMeterModel", name := "spent", desc := "()I" } : Jvm.MethodName)) ∈ lw_all := lw_g (lw_at lw_m2 80 rfl) rfl
theorem q350 : (Jvm.Cond.methodLink "GasMeterLaw" (72 : Nat) ({ cls := "GasMeterModel", name := "height", desc := "()I" } : Jvm.MethodName)) ∈ lw_all := lw_g (lw_at lw_m2 84 rfl) rfl
theorem q354 : (Jvm.Cond.methodLink "GasMeterLaw" (76 : Nat) ({ cls := "GasMeterModel", name := "pile", desc := "(I)I" } : Jvm.MethodName)) ∈ lw_all := lw_g (lw_at lw_m2 88 rfl) rfl
theorem q358 : (Jvm.Cond.methodLink "GasMeterLaw" (80 : Nat) ({ cls := "GasMeterModel", name := "bill", desc := "()I" } : Jvm.MethodName)) ∈ lw_all := lw_g (lw_at lw_m2 92 rfl) rfl
end
section
set_option maxRecDepth 100000
abbrev cX0_init : ByteArray := prog_1_method_1_code
def yX0_init : MethodName := ⟨RX0, "<init>", "()V"⟩
theorem dX0_init_0 : decode cX0_init 0 = .ok (.aload_n 0, 1) := by decide +kernel
theorem dX0_init_1 : decode cX0_init 1 = .ok (.invokespecial 1, 3) := by decide +kernel
theorem dX0_init_4 : decode cX0_init 4 = .ok (.aload_n 0, 1) := by decide +kernel
theorem dX0_init_5 : decode cX0_init 5 = .ok (.bipush 20, 2) := by decide +kernel
theorem dX0_init_7 : decode cX0_init 7 = .ok (.newarray .int, 2) := by decide +kernel
theorem dX0_init_9 : decode cX0_init 9 = .ok (.putfield 7, 3) := by decide +kernel
theorem dX0_init_12 : decode cX0_init 12 = .ok (.aload_n 0, 1) := by decide +kernel
theorem dX0_init_13 : decode cX0_init 13 = .ok (.bipush 20, 2) := by decide +kernel
theorem dX0_init_15 : decode cX0_init 15 = .ok (.newarray .int, 2) := by decide +kernel
theorem dX0_init_17 : decode cX0_init 17 = .ok (.putfield 13, 3) := by decide +kernel
theorem dX0_init_20 : decode cX0_init 20 = .ok (.aload_n 0, 1) := by decide +kernel
theorem dX0_init_21 : decode cX0_init 21 = .ok (.iconst 4, 1) := by decide +kernel
theorem dX0_init_22 : decode cX0_init 22 = .ok (.newarray .int, 2) := by decide +kernel
theorem dX0_init_24 : decode cX0_init 24 = .ok (.putfield 16, 3) := by decide +kernel
theorem dX0_init_27 : decode cX0_init 27 = .ok (.aload_n 0, 1) := by decide +kernel
theorem dX0_init_28 : decode cX0_init 28 = .ok (.bipush 21, 2) := by decide +kernel
theorem dX0_init_30 : decode cX0_init 30 = .ok (.newarray .int, 2) := by decide +kernel
theorem dX0_init_32 : decode cX0_init 32 = .ok (.putfield 19, 3) := by decide +kernel
theorem dX0_init_35 : decode cX0_init 35 = .ok (.aload_n 0, 1) := by decide +kernel
theorem dX0_init_36 : decode cX0_init 36 = .ok (.bipush 21, 2) := by decide +kernel
theorem dX0_init_38 : decode cX0_init 38 = .ok (.newarray .int, 2) := by decide +kernel
theorem dX0_init_40 : decode cX0_init 40 = .ok (.putfield 22, 3) := by decide +kernel
theorem dX0_init_43 : decode cX0_init 43 = .ok (.aload_n 0, 1) := by decide +kernel
theorem dX0_init_44 : decode cX0_init 44 = .ok (.bipush 21, 2) := by decide +kernel
theorem dX0_init_46 : decode cX0_init 46 = .ok (.newarray .int, 2) := by decide +kernel
theorem dX0_init_48 : decode cX0_init 48 = .ok (.putfield 25, 3) := by decide +kernel
theorem dX0_init_51 : decode cX0_init 51 = .ok (.aload_n 0, 1) := by decide +kernel
theorem dX0_init_52 : decode cX0_init 52 = .ok (.bipush 21, 2) := by decide +kernel
theorem dX0_init_54 : decode cX0_init 54 = .ok (.newarray .int, 2) := by decide +kernel
theorem dX0_init_56 : decode cX0_init 56 = .ok (.putfield 28, 3) := by decide +kernel
theorem dX0_init_59 : decode cX0_init 59 = .ok (.aload_n 0, 1) := by decide +kernel
theorem dX0_init_60 : decode cX0_init 60 = .ok (.bipush 8, 2) := by decide +kernel
theorem dX0_init_62 : decode cX0_init 62 = .ok (.newarray .int, 2) := by decide +kernel
theorem dX0_init_64 : decode cX0_init 64 = .ok (.putfield 31, 3) := by decide +kernel
theorem dX0_init_67 : decode cX0_init 67 = .ok (.aload_n 0, 1) := by decide +kernel
theorem dX0_init_68 : decode cX0_init 68 = .ok (.iconst 4, 1) := by decide +kernel
theorem dX0_init_69 : decode cX0_init 69 = .ok (.newarray .int, 2) := by decide +kernel
theorem dX0_init_71 : decode cX0_init 71 = .ok (.putfield 34, 3) := by decide +kernel
theorem dX0_init_74 : decode cX0_init 74 = .ok (.aload_n 0, 1) := by decide +kernel
theorem dX0_init_75 : decode cX0_init 75 = .ok (.bipush 8, 2) := by decide +kernel
theorem dX0_init_77 : decode cX0_init 77 = .ok (.newarray .int, 2) := by decide +kernel
theorem dX0_init_79 : decode cX0_init 79 = .ok (.putfield 37, 3) := by decide +kernel
theorem dX0_init_82 : decode cX0_init 82 = .ok (.return_, 1) := by decide +kernel
abbrev cX0_append : ByteArray := prog_1_method_3_code
def yX0_append : MethodName := ⟨RX0, "append", "(II)I"⟩
theorem dX0_append_0 : decode cX0_append 0 = .ok (.aload_n 0, 1) := by decide +kernel
theorem dX0_append_1 : decode cX0_append 1 = .ok (.iload_n 1, 1) := by decide +kernel
theorem dX0_append_2 : decode cX0_append 2 = .ok (.iload_n 2, 1) := by decide +kernel
theorem dX0_append_3 : decode cX0_append 3 = .ok (.invokevirtual 40, 3) := by decide +kernel
theorem dX0_append_6 : decode cX0_append 6 = .ok (.ifCond .eq 5, 3) := by decide +kernel
theorem dX0_append_9 : decode cX0_append 9 = .ok (.iconst (-1), 1) := by decide +kernel
theorem dX0_append_10 : decode cX0_append 10 = .ok (.ireturn, 1) := by decide +kernel
theorem dX0_append_11 : decode cX0_append 11 = .ok (.aload_n 0, 1) := by decide +kernel
theorem dX0_append_12 : decode cX0_append 12 = .ok (.getfield 44, 3) := by decide +kernel
theorem dX0_append_15 : decode cX0_append 15 = .ok (.bipush 20, 2) := by decide +kernel
theorem dX0_append_17 : decode cX0_append 17 = .ok (.if_icmp .ne 6, 3) := by decide +kernel
theorem dX0_append_20 : decode cX0_append 20 = .ok (.bipush (-2), 2) := by decide +kernel
theorem dX0_append_22 : decode cX0_append 22 = .ok (.ireturn, 1) := by decide +kernel
theorem dX0_append_23 : decode cX0_append 23 = .ok (.aload_n 0, 1) := by decide +kernel
theorem dX0_append_24 : decode cX0_append 24 = .ok (.getfield 7, 3) := by decide +kernel
theorem dX0_append_27 : decode cX0_append 27 = .ok (.aload_n 0, 1) := by decide +kernel
theorem dX0_append_28 : decode cX0_append 28 = .ok (.getfield 44, 3) := by decide +kernel
theorem dX0_append_31 : decode cX0_append 31 = .ok (.iload_n 1, 1) := by decide +kernel
theorem dX0_append_32 : decode cX0_append 32 = .ok (.iastore, 1) := by decide +kernel
theorem dX0_append_33 : decode cX0_append 33 = .ok (.aload_n 0, 1) := by decide +kernel
theorem dX0_append_34 : decode cX0_append 34 = .ok (.getfield 13, 3) := by decide +kernel
theorem dX0_append_37 : decode cX0_append 37 = .ok (.aload_n 0, 1) := by decide +kernel
theorem dX0_append_38 : decode cX0_append 38 = .ok (.getfield 44, 3) := by decide +kernel
theorem dX0_append_41 : decode cX0_append 41 = .ok (.iload_n 2, 1) := by decide +kernel
theorem dX0_append_42 : decode cX0_append 42 = .ok (.iastore, 1) := by decide +kernel
theorem dX0_append_43 : decode cX0_append 43 = .ok (.aload_n 0, 1) := by decide +kernel
theorem dX0_append_44 : decode cX0_append 44 = .ok (.dup, 1) := by decide +kernel
theorem dX0_append_45 : decode cX0_append 45 = .ok (.getfield 44, 3) := by decide +kernel
theorem dX0_append_48 : decode cX0_append 48 = .ok (.iconst 1, 1) := by decide +kernel
theorem dX0_append_49 : decode cX0_append 49 = .ok (.iadd, 1) := by decide +kernel
theorem dX0_append_50 : decode cX0_append 50 = .ok (.putfield 44, 3) := by decide +kernel
theorem dX0_append_53 : decode cX0_append 53 = .ok (.aload_n 0, 1) := by decide +kernel
theorem dX0_append_54 : decode cX0_append 54 = .ok (.iconst 0, 1) := by decide +kernel
theorem dX0_append_55 : decode cX0_append 55 = .ok (.putfield 48, 3) := by decide +kernel
theorem dX0_append_58 : decode cX0_append 58 = .ok (.aload_n 0, 1) := by decide +kernel
theorem dX0_append_59 : decode cX0_append 59 = .ok (.getfield 44, 3) := by decide +kernel
theorem dX0_append_62 : decode cX0_append 62 = .ok (.iconst 1, 1) := by decide +kernel
theorem dX0_append_63 : decode cX0_append 63 = .ok (.isub, 1) := by decide +kernel
theorem dX0_append_64 : decode cX0_append 64 = .ok (.ireturn, 1) := by decide +kernel
abbrev cX0_bad : ByteArray := prog_1_method_2_code
def yX0_bad : MethodName := ⟨RX0, "bad", "(II)Z"⟩
theorem dX0_bad_0 : decode cX0_bad 0 = .ok (.iload_n 1, 1) := by decide +kernel
theorem dX0_bad_1 : decode cX0_bad 1 = .ok (.ifCond .lt 9, 3) := by decide +kernel
theorem dX0_bad_4 : decode cX0_bad 4 = .ok (.iload_n 1, 1) := by decide +kernel
theorem dX0_bad_5 : decode cX0_bad 5 = .ok (.bipush 14, 2) := by decide +kernel
theorem dX0_bad_7 : decode cX0_bad 7 = .ok (.if_icmp .le 5, 3) := by decide +kernel
theorem dX0_bad_10 : decode cX0_bad 10 = .ok (.iconst 1, 1) := by decide +kernel
theorem dX0_bad_11 : decode cX0_bad 11 = .ok (.ireturn, 1) := by decide +kernel
theorem dX0_bad_12 : decode cX0_bad 12 = .ok (.iload_n 1, 1) := by decide +kernel
theorem dX0_bad_13 : decode cX0_bad 13 = .ok (.ifCond .ne 21, 3) := by decide +kernel
theorem dX0_bad_16 : decode cX0_bad 16 = .ok (.iload_n 2, 1) := by decide +kernel
theorem dX0_bad_17 : decode cX0_bad 17 = .ok (.bipush (-100), 2) := by decide +kernel
theorem dX0_bad_19 : decode cX0_bad 19 = .ok (.if_icmp .lt 9, 3) := by decide +kernel
theorem dX0_bad_22 : decode cX0_bad 22 = .ok (.iload_n 2, 1) := by decide +kernel
theorem dX0_bad_23 : decode cX0_bad 23 = .ok (.bipush 100, 2) := by decide +kernel
theorem dX0_bad_25 : decode cX0_bad 25 = .ok (.if_icmp .le 7, 3) := by decide +kernel
theorem dX0_bad_28 : decode cX0_bad 28 = .ok (.iconst 1, 1) := by decide +kernel
theorem dX0_bad_29 : decode cX0_bad 29 = .ok (.goto 4, 3) := by decide +kernel
theorem dX0_bad_32 : decode cX0_bad 32 = .ok (.iconst 0, 1) := by decide +kernel
theorem dX0_bad_33 : decode cX0_bad 33 = .ok (.ireturn, 1) := by decide +kernel
theorem dX0_bad_34 : decode cX0_bad 34 = .ok (.iload_n 1, 1) := by decide +kernel
theorem dX0_bad_35 : decode cX0_bad 35 = .ok (.bipush 8, 2) := by decide +kernel
theorem dX0_bad_37 : decode cX0_bad 37 = .ok (.if_icmp .eq 9, 3) := by decide +kernel
theorem dX0_bad_40 : decode cX0_bad 40 = .ok (.iload_n 1, 1) := by decide +kernel
theorem dX0_bad_41 : decode cX0_bad 41 = .ok (.bipush 9, 2) := by decide +kernel
theorem dX0_bad_43 : decode cX0_bad 43 = .ok (.if_icmp .ne 18, 3) := by decide +kernel
theorem dX0_bad_46 : decode cX0_bad 46 = .ok (.iload_n 2, 1) := by decide +kernel
theorem dX0_bad_47 : decode cX0_bad 47 = .ok (.ifCond .lt 8, 3) := by decide +kernel
theorem dX0_bad_50 : decode cX0_bad 50 = .ok (.iload_n 2, 1) := by decide +kernel
theorem dX0_bad_51 : decode cX0_bad 51 = .ok (.iconst 3, 1) := by decide +kernel
theorem dX0_bad_52 : decode cX0_bad 52 = .ok (.if_icmp .le 7, 3) := by decide +kernel
theorem dX0_bad_55 : decode cX0_bad 55 = .ok (.iconst 1, 1) := by decide +kernel
theorem dX0_bad_56 : decode cX0_bad 56 = .ok (.goto 4, 3) := by decide +kernel
theorem dX0_bad_59 : decode cX0_bad 59 = .ok (.iconst 0, 1) := by decide +kernel
theorem dX0_bad_60 : decode cX0_bad 60 = .ok (.ireturn, 1) := by decide +kernel
theorem dX0_bad_61 : decode cX0_bad 61 = .ok (.iload_n 1, 1) := by decide +kernel
theorem dX0_bad_62 : decode cX0_bad 62 = .ok (.bipush 10, 2) := by decide +kernel
theorem dX0_bad_64 : decode cX0_bad 64 = .ok (.if_icmp .eq 9, 3) := by decide +kernel
theorem dX0_bad_67 : decode cX0_bad 67 = .ok (.iload_n 1, 1) := by decide +kernel
theorem dX0_bad_68 : decode cX0_bad 68 = .ok (.bipush 11, 2) := by decide +kernel
theorem dX0_bad_70 : decode cX0_bad 70 = .ok (.if_icmp .ne 17, 3) := by decide +kernel
theorem dX0_bad_73 : decode cX0_bad 73 = .ok (.iload_n 2, 1) := by decide +kernel
theorem dX0_bad_74 : decode cX0_bad 74 = .ok (.ifCond .lt 9, 3) := by decide +kernel
theorem dX0_bad_77 : decode cX0_bad 77 = .ok (.iload_n 2, 1) := by decide +kernel
theorem dX0_bad_78 : decode cX0_bad 78 = .ok (.bipush 20, 2) := by decide +kernel
theorem dX0_bad_80 : decode cX0_bad 80 = .ok (.if_icmp .le 7, 3) := by decide +kernel
theorem dX0_bad_83 : decode cX0_bad 83 = .ok (.iconst 1, 1) := by decide +kernel
theorem dX0_bad_84 : decode cX0_bad 84 = .ok (.goto 4, 3) := by decide +kernel
theorem dX0_bad_87 : decode cX0_bad 87 = .ok (.iconst 0, 1) := by decide +kernel
theorem dX0_bad_88 : decode cX0_bad 88 = .ok (.ireturn, 1) := by decide +kernel
abbrev cX0_change : ByteArray := prog_1_method_4_code
def yX0_change : MethodName := ⟨RX0, "change", "(III)I"⟩
theorem dX0_change_0 : decode cX0_change 0 = .ok (.iload_n 1, 1) := by decide +kernel
theorem dX0_change_1 : decode cX0_change 1 = .ok (.ifCond .lt 20, 3) := by decide +kernel
theorem dX0_change_4 : decode cX0_change 4 = .ok (.iload_n 1, 1) := by decide +kernel
theorem dX0_change_5 : decode cX0_change 5 = .ok (.aload_n 0, 1) := by decide +kernel
theorem dX0_change_6 : decode cX0_change 6 = .ok (.getfield 44, 3) := by decide +kernel
theorem dX0_change_9 : decode cX0_change 9 = .ok (.if_icmp .ge 12, 3) := by decide +kernel
theorem dX0_change_12 : decode cX0_change 12 = .ok (.aload_n 0, 1) := by decide +kernel
theorem dX0_change_13 : decode cX0_change 13 = .ok (.iload_n 2, 1) := by decide +kernel
theorem dX0_change_14 : decode cX0_change 14 = .ok (.iload_n 3, 1) := by decide +kernel
theorem dX0_change_15 : decode cX0_change 15 = .ok (.invokevirtual 40, 3) := by decide +kernel
theorem dX0_change_18 : decode cX0_change 18 = .ok (.ifCond .eq 5, 3) := by decide +kernel
theorem dX0_change_21 : decode cX0_change 21 = .ok (.iconst (-1), 1) := by decide +kernel
theorem dX0_change_22 : decode cX0_change 22 = .ok (.ireturn, 1) := by decide +kernel
theorem dX0_change_23 : decode cX0_change 23 = .ok (.aload_n 0, 1) := by decide +kernel
theorem dX0_change_24 : decode cX0_change 24 = .ok (.getfield 7, 3) := by decide +kernel
theorem dX0_change_27 : decode cX0_change 27 = .ok (.iload_n 1, 1) := by decide +kernel
theorem dX0_change_28 : decode cX0_change 28 = .ok (.iaload, 1) := by decide +kernel
theorem dX0_change_29 : decode cX0_change 29 = .ok (.istore 4, 2) := by decide +kernel
theorem dX0_change_31 : decode cX0_change 31 = .ok (.aload_n 0, 1) := by decide +kernel
theorem dX0_change_32 : decode cX0_change 32 = .ok (.getfield 7, 3) := by decide +kernel
theorem dX0_change_35 : decode cX0_change 35 = .ok (.iload_n 1, 1) := by decide +kernel
theorem dX0_change_36 : decode cX0_change 36 = .ok (.iload_n 2, 1) := by decide +kernel
theorem dX0_change_37 : decode cX0_change 37 = .ok (.iastore, 1) := by decide +kernel
theorem dX0_change_38 : decode cX0_change 38 = .ok (.aload_n 0, 1) := by decide +kernel
theorem dX0_change_39 : decode cX0_change 39 = .ok (.getfield 13, 3) := by decide +kernel
theorem dX0_change_42 : decode cX0_change 42 = .ok (.iload_n 1, 1) := by decide +kernel
theorem dX0_change_43 : decode cX0_change 43 = .ok (.iload_n 3, 1) := by decide +kernel
theorem dX0_change_44 : decode cX0_change 44 = .ok (.iastore, 1) := by decide +kernel
theorem dX0_change_45 : decode cX0_change 45 = .ok (.aload_n 0, 1) := by decide +kernel
theorem dX0_change_46 : decode cX0_change 46 = .ok (.iconst 0, 1) := by decide +kernel
theorem dX0_change_47 : decode cX0_change 47 = .ok (.putfield 48, 3) := by decide +kernel
theorem dX0_change_50 : decode cX0_change 50 = .ok (.iload 4, 2) := by decide +kernel
theorem dX0_change_52 : decode cX0_change 52 = .ok (.ireturn, 1) := by decide +kernel
abbrev cX0_clear : ByteArray := prog_1_method_5_code
def yX0_clear : MethodName := ⟨RX0, "clear", "()V"⟩
theorem dX0_clear_0 : decode cX0_clear 0 = .ok (.aload_n 0, 1) := by decide +kernel
theorem dX0_clear_1 : decode cX0_clear 1 = .ok (.iconst 0, 1) := by decide +kernel
theorem dX0_clear_2 : decode cX0_clear 2 = .ok (.putfield 44, 3) := by decide +kernel
theorem dX0_clear_5 : decode cX0_clear 5 = .ok (.aload_n 0, 1) := by decide +kernel
theorem dX0_clear_6 : decode cX0_clear 6 = .ok (.iconst 0, 1) := by decide +kernel
theorem dX0_clear_7 : decode cX0_clear 7 = .ok (.putfield 48, 3) := by decide +kernel
theorem dX0_clear_10 : decode cX0_clear 10 = .ok (.return_, 1) := by decide +kernel
abbrev cX0_size : ByteArray := prog_1_method_6_code
def yX0_size : MethodName := ⟨RX0, "size", "()I"⟩
theorem dX0_size_0 : decode cX0_size 0 = .ok (.aload_n 0, 1) := by decide +kernel
theorem dX0_size_1 : decode cX0_size 1 = .ok (.getfield 44, 3) := by decide +kernel
theorem dX0_size_4 : decode cX0_size 4 = .ok (.ireturn, 1) := by decide +kernel
abbrev cX0_set : ByteArray := prog_1_method_7_code
def yX0_set : MethodName := ⟨RX0, "set", "(II)I"⟩
theorem dX0_set_0 : decode cX0_set 0 = .ok (.iload_n 1, 1) := by decide +kernel
theorem dX0_set_1 : decode cX0_set 1 = .ok (.ifCond .lt 8, 3) := by decide +kernel
theorem dX0_set_4 : decode cX0_set 4 = .ok (.iload_n 1, 1) := by decide +kernel
theorem dX0_set_5 : decode cX0_set 5 = .ok (.iconst 3, 1) := by decide +kernel
theorem dX0_set_6 : decode cX0_set 6 = .ok (.if_icmp .le 5, 3) := by decide +kernel
theorem dX0_set_9 : decode cX0_set 9 = .ok (.iconst (-1), 1) := by decide +kernel
theorem dX0_set_10 : decode cX0_set 10 = .ok (.ireturn, 1) := by decide +kernel
theorem dX0_set_11 : decode cX0_set 11 = .ok (.aload_n 0, 1) := by decide +kernel
theorem dX0_set_12 : decode cX0_set 12 = .ok (.getfield 16, 3) := by decide +kernel
theorem dX0_set_15 : decode cX0_set 15 = .ok (.iload_n 1, 1) := by decide +kernel
theorem dX0_set_16 : decode cX0_set 16 = .ok (.iload_n 2, 1) := by decide +kernel
theorem dX0_set_17 : decode cX0_set 17 = .ok (.iastore, 1) := by decide +kernel
theorem dX0_set_18 : decode cX0_set 18 = .ok (.iconst 0, 1) := by decide +kernel
theorem dX0_set_19 : decode cX0_set 19 = .ok (.ireturn, 1) := by decide +kernel
abbrev cX0_get : ByteArray := prog_1_method_8_code
def yX0_get : MethodName := ⟨RX0, "get", "(I)I"⟩
theorem dX0_get_0 : decode cX0_get 0 = .ok (.iload_n 1, 1) := by decide +kernel
theorem dX0_get_1 : decode cX0_get 1 = .ok (.ifCond .lt 8, 3) := by decide +kernel
theorem dX0_get_4 : decode cX0_get 4 = .ok (.iload_n 1, 1) := by decide +kernel
theorem dX0_get_5 : decode cX0_get 5 = .ok (.iconst 3, 1) := by decide +kernel
theorem dX0_get_6 : decode cX0_get 6 = .ok (.if_icmp .le 7, 3) := by decide +kernel
theorem dX0_get_9 : decode cX0_get 9 = .ok (.iconst 0, 1) := by decide +kernel
theorem dX0_get_10 : decode cX0_get 10 = .ok (.goto 9, 3) := by decide +kernel
theorem dX0_get_13 : decode cX0_get 13 = .ok (.aload_n 0, 1) := by decide +kernel
theorem dX0_get_14 : decode cX0_get 14 = .ok (.getfield 16, 3) := by decide +kernel
theorem dX0_get_17 : decode cX0_get 17 = .ok (.iload_n 1, 1) := by decide +kernel
theorem dX0_get_18 : decode cX0_get 18 = .ok (.iaload, 1) := by decide +kernel
theorem dX0_get_19 : decode cX0_get 19 = .ok (.ireturn, 1) := by decide +kernel
abbrev cX0_fund : ByteArray := prog_1_method_9_code
def yX0_fund : MethodName := ⟨RX0, "fund", "(I)I"⟩
theorem dX0_fund_0 : decode cX0_fund 0 = .ok (.iload_n 1, 1) := by decide +kernel
theorem dX0_fund_1 : decode cX0_fund 1 = .ok (.ifCond .lt 21, 3) := by decide +kernel
theorem dX0_fund_4 : decode cX0_fund 4 = .ok (.iload_n 1, 1) := by decide +kernel
theorem dX0_fund_5 : decode cX0_fund 5 = .ok (.sipush 2000, 3) := by decide +kernel
theorem dX0_fund_8 : decode cX0_fund 8 = .ok (.if_icmp .gt 14, 3) := by decide +kernel
theorem dX0_fund_11 : decode cX0_fund 11 = .ok (.aload_n 0, 1) := by decide +kernel
theorem dX0_fund_12 : decode cX0_fund 12 = .ok (.getfield 52, 3) := by decide +kernel
theorem dX0_fund_15 : decode cX0_fund 15 = .ok (.iload_n 1, 1) := by decide +kernel
theorem dX0_fund_16 : decode cX0_fund 16 = .ok (.iadd, 1) := by decide +kernel
theorem dX0_fund_17 : decode cX0_fund 17 = .ok (.ldc 55, 2) := by decide +kernel
theorem dX0_fund_19 : decode cX0_fund 19 = .ok (.if_icmp .le 5, 3) := by decide +kernel
theorem dX0_fund_22 : decode cX0_fund 22 = .ok (.iconst (-1), 1) := by decide +kernel
theorem dX0_fund_23 : decode cX0_fund 23 = .ok (.ireturn, 1) := by decide +kernel
theorem dX0_fund_24 : decode cX0_fund 24 = .ok (.aload_n 0, 1) := by decide +kernel
theorem dX0_fund_25 : decode cX0_fund 25 = .ok (.aload_n 0, 1) := by decide +kernel
theorem dX0_fund_26 : decode cX0_fund 26 = .ok (.getfield 52, 3) := by decide +kernel
theorem dX0_fund_29 : decode cX0_fund 29 = .ok (.iload_n 1, 1) := by decide +kernel
theorem dX0_fund_30 : decode cX0_fund 30 = .ok (.iadd, 1) := by decide +kernel
theorem dX0_fund_31 : decode cX0_fund 31 = .ok (.putfield 52, 3) := by decide +kernel
theorem dX0_fund_34 : decode cX0_fund 34 = .ok (.aload_n 0, 1) := by decide +kernel
theorem dX0_fund_35 : decode cX0_fund 35 = .ok (.getfield 52, 3) := by decide +kernel
theorem dX0_fund_38 : decode cX0_fund 38 = .ok (.ireturn, 1) := by decide +kernel
abbrev cX0_gas : ByteArray := prog_1_method_10_code
def yX0_gas : MethodName := ⟨RX0, "gas", "()I"⟩
theorem dX0_gas_0 : decode cX0_gas 0 = .ok (.aload_n 0, 1) := by decide +kernel
theorem dX0_gas_1 : decode cX0_gas 1 = .ok (.getfield 52, 3) := by decide +kernel
theorem dX0_gas_4 : decode cX0_gas 4 = .ok (.ireturn, 1) := by decide +kernel
abbrev cX0_run : ByteArray := prog_1_method_25_code
def yX0_run : MethodName := ⟨RX0, "run", "()I"⟩
theorem dX0_run_0 : decode cX0_run 0 = .ok (.aload_n 0, 1) := by decide +kernel
theorem dX0_run_1 : decode cX0_run 1 = .ok (.getfield 52, 3) := by decide +kernel
theorem dX0_run_4 : decode cX0_run 4 = .ok (.istore_n 1, 1) := by decide +kernel
theorem dX0_run_5 : decode cX0_run 5 = .ok (.aload_n 0, 1) := by decide +kernel
theorem dX0_run_6 : decode cX0_run 6 = .ok (.invokevirtual 112, 3) := by decide +kernel
theorem dX0_run_9 : decode cX0_run 9 = .ok (.aload_n 0, 1) := by decide +kernel
theorem dX0_run_10 : decode cX0_run 10 = .ok (.iload_n 1, 1) := by decide +kernel
theorem dX0_run_11 : decode cX0_run 11 = .ok (.aload_n 0, 1) := by decide +kernel
theorem dX0_run_12 : decode cX0_run 12 = .ok (.getfield 52, 3) := by decide +kernel
theorem dX0_run_15 : decode cX0_run 15 = .ok (.isub, 1) := by decide +kernel
theorem dX0_run_16 : decode cX0_run 16 = .ok (.putfield 115, 3) := by decide +kernel
theorem dX0_run_19 : decode cX0_run 19 = .ok (.aload_n 0, 1) := by decide +kernel
theorem dX0_run_20 : decode cX0_run 20 = .ok (.getfield 87, 3) := by decide +kernel
theorem dX0_run_23 : decode cX0_run 23 = .ok (.ireturn, 1) := by decide +kernel
abbrev cX0_execute : ByteArray := prog_1_method_24_code
def yX0_execute : MethodName := ⟨RX0, "execute", "()V"⟩
theorem dX0_execute_0 : decode cX0_execute 0 = .ok (.aload_n 0, 1) := by decide +kernel
theorem dX0_execute_1 : decode cX0_execute 1 = .ok (.invokevirtual 99, 3) := by decide +kernel
theorem dX0_execute_4 : decode cX0_execute 4 = .ok (.aload_n 0, 1) := by decide +kernel
theorem dX0_execute_5 : decode cX0_execute 5 = .ok (.iconst 0, 1) := by decide +kernel
theorem dX0_execute_6 : decode cX0_execute 6 = .ok (.putfield 84, 3) := by decide +kernel
theorem dX0_execute_9 : decode cX0_execute 9 = .ok (.aload_n 0, 1) := by decide +kernel
theorem dX0_execute_10 : decode cX0_execute 10 = .ok (.iconst 0, 1) := by decide +kernel
theorem dX0_execute_11 : decode cX0_execute 11 = .ok (.putfield 87, 3) := by decide +kernel
theorem dX0_execute_14 : decode cX0_execute 14 = .ok (.aload_n 0, 1) := by decide +kernel
theorem dX0_execute_15 : decode cX0_execute 15 = .ok (.iconst 0, 1) := by decide +kernel
theorem dX0_execute_16 : decode cX0_execute 16 = .ok (.putfield 90, 3) := by decide +kernel
theorem dX0_execute_19 : decode cX0_execute 19 = .ok (.aload_n 0, 1) := by decide +kernel
theorem dX0_execute_20 : decode cX0_execute 20 = .ok (.iconst 0, 1) := by decide +kernel
theorem dX0_execute_21 : decode cX0_execute 21 = .ok (.putfield 74, 3) := by decide +kernel
theorem dX0_execute_24 : decode cX0_execute 24 = .ok (.iconst 0, 1) := by decide +kernel
theorem dX0_execute_25 : decode cX0_execute 25 = .ok (.istore_n 1, 1) := by decide +kernel
theorem dX0_execute_26 : decode cX0_execute 26 = .ok (.iload_n 1, 1) := by decide +kernel
theorem dX0_execute_27 : decode cX0_execute 27 = .ok (.sipush 300, 3) := by decide +kernel
theorem dX0_execute_30 : decode cX0_execute 30 = .ok (.if_icmp .gt 71, 3) := by decide +kernel
theorem dX0_execute_33 : decode cX0_execute 33 = .ok (.aload_n 0, 1) := by decide +kernel
theorem dX0_execute_34 : decode cX0_execute 34 = .ok (.getfield 87, 3) := by decide +kernel
theorem dX0_execute_37 : decode cX0_execute 37 = .ok (.ifCond .ne 64, 3) := by decide +kernel
theorem dX0_execute_40 : decode cX0_execute 40 = .ok (.aload_n 0, 1) := by decide +kernel
theorem dX0_execute_41 : decode cX0_execute 41 = .ok (.getfield 84, 3) := by decide +kernel
theorem dX0_execute_44 : decode cX0_execute 44 = .ok (.aload_n 0, 1) := by decide +kernel
theorem dX0_execute_45 : decode cX0_execute 45 = .ok (.getfield 44, 3) := by decide +kernel
theorem dX0_execute_48 : decode cX0_execute 48 = .ok (.if_icmp .lt 11, 3) := by decide +kernel
theorem dX0_execute_51 : decode cX0_execute 51 = .ok (.aload_n 0, 1) := by decide +kernel
theorem dX0_execute_52 : decode cX0_execute 52 = .ok (.iconst 1, 1) := by decide +kernel
theorem dX0_execute_53 : decode cX0_execute 53 = .ok (.putfield 87, 3) := by decide +kernel
theorem dX0_execute_56 : decode cX0_execute 56 = .ok (.goto 39, 3) := by decide +kernel
theorem dX0_execute_59 : decode cX0_execute 59 = .ok (.aload_n 0, 1) := by decide +kernel
theorem dX0_execute_60 : decode cX0_execute 60 = .ok (.getfield 90, 3) := by decide +kernel
theorem dX0_execute_63 : decode cX0_execute 63 = .ok (.sipush 300, 3) := by decide +kernel
theorem dX0_execute_66 : decode cX0_execute 66 = .ok (.if_icmp .ne 11, 3) := by decide +kernel
theorem dX0_execute_69 : decode cX0_execute 69 = .ok (.aload_n 0, 1) := by decide +kernel
theorem dX0_execute_70 : decode cX0_execute 70 = .ok (.iconst 2, 1) := by decide +kernel
theorem dX0_execute_71 : decode cX0_execute 71 = .ok (.putfield 87, 3) := by decide +kernel
theorem dX0_execute_74 : decode cX0_execute 74 = .ok (.goto 21, 3) := by decide +kernel
theorem dX0_execute_77 : decode cX0_execute 77 = .ok (.aload_n 0, 1) := by decide +kernel
theorem dX0_execute_78 : decode cX0_execute 78 = .ok (.invokevirtual 102, 3) := by decide +kernel
theorem dX0_execute_81 : decode cX0_execute 81 = .ok (.ifCond .eq 10, 3) := by decide +kernel
theorem dX0_execute_84 : decode cX0_execute 84 = .ok (.aload_n 0, 1) := by decide +kernel
theorem dX0_execute_85 : decode cX0_execute 85 = .ok (.invokevirtual 106, 3) := by decide +kernel
theorem dX0_execute_88 : decode cX0_execute 88 = .ok (.goto 7, 3) := by decide +kernel
theorem dX0_execute_91 : decode cX0_execute 91 = .ok (.aload_n 0, 1) := by decide +kernel
theorem dX0_execute_92 : decode cX0_execute 92 = .ok (.invokevirtual 109, 3) := by decide +kernel
theorem dX0_execute_95 : decode cX0_execute 95 = .ok (.iinc 1 1, 3) := by decide +kernel
theorem dX0_execute_98 : decode cX0_execute 98 = .ok (.goto (-72), 3) := by decide +kernel
theorem dX0_execute_101 : decode cX0_execute 101 = .ok (.return_, 1) := by decide +kernel
abbrev cX0_plan : ByteArray := prog_1_method_16_code
def yX0_plan : MethodName := ⟨RX0, "plan", "()V"⟩
theorem dX0_plan_0 : decode cX0_plan 0 = .ok (.aload_n 0, 1) := by decide +kernel
theorem dX0_plan_1 : decode cX0_plan 1 = .ok (.getfield 48, 3) := by decide +kernel
theorem dX0_plan_4 : decode cX0_plan 4 = .ok (.ifCond .eq 4, 3) := by decide +kernel
theorem dX0_plan_7 : decode cX0_plan 7 = .ok (.return_, 1) := by decide +kernel
theorem dX0_plan_8 : decode cX0_plan 8 = .ok (.aload_n 0, 1) := by decide +kernel
theorem dX0_plan_9 : decode cX0_plan 9 = .ok (.getfield 19, 3) := by decide +kernel
theorem dX0_plan_12 : decode cX0_plan 12 = .ok (.aload_n 0, 1) := by decide +kernel
theorem dX0_plan_13 : decode cX0_plan 13 = .ok (.getfield 44, 3) := by decide +kernel
theorem dX0_plan_16 : decode cX0_plan 16 = .ok (.iconst 0, 1) := by decide +kernel
theorem dX0_plan_17 : decode cX0_plan 17 = .ok (.iastore, 1) := by decide +kernel
theorem dX0_plan_18 : decode cX0_plan 18 = .ok (.aload_n 0, 1) := by decide +kernel
theorem dX0_plan_19 : decode cX0_plan 19 = .ok (.getfield 22, 3) := by decide +kernel
theorem dX0_plan_22 : decode cX0_plan 22 = .ok (.aload_n 0, 1) := by decide +kernel
theorem dX0_plan_23 : decode cX0_plan 23 = .ok (.getfield 44, 3) := by decide +kernel
theorem dX0_plan_26 : decode cX0_plan 26 = .ok (.iconst 0, 1) := by decide +kernel
theorem dX0_plan_27 : decode cX0_plan 27 = .ok (.iastore, 1) := by decide +kernel
theorem dX0_plan_28 : decode cX0_plan 28 = .ok (.aload_n 0, 1) := by decide +kernel
theorem dX0_plan_29 : decode cX0_plan 29 = .ok (.getfield 25, 3) := by decide +kernel
theorem dX0_plan_32 : decode cX0_plan 32 = .ok (.aload_n 0, 1) := by decide +kernel
theorem dX0_plan_33 : decode cX0_plan 33 = .ok (.getfield 44, 3) := by decide +kernel
theorem dX0_plan_36 : decode cX0_plan 36 = .ok (.iconst 0, 1) := by decide +kernel
theorem dX0_plan_37 : decode cX0_plan 37 = .ok (.iastore, 1) := by decide +kernel
theorem dX0_plan_38 : decode cX0_plan 38 = .ok (.aload_n 0, 1) := by decide +kernel
theorem dX0_plan_39 : decode cX0_plan 39 = .ok (.getfield 28, 3) := by decide +kernel
theorem dX0_plan_42 : decode cX0_plan 42 = .ok (.aload_n 0, 1) := by decide +kernel
theorem dX0_plan_43 : decode cX0_plan 43 = .ok (.getfield 44, 3) := by decide +kernel
theorem dX0_plan_46 : decode cX0_plan 46 = .ok (.iconst 0, 1) := by decide +kernel
theorem dX0_plan_47 : decode cX0_plan 47 = .ok (.iastore, 1) := by decide +kernel
theorem dX0_plan_48 : decode cX0_plan 48 = .ok (.aload_n 0, 1) := by decide +kernel
theorem dX0_plan_49 : decode cX0_plan 49 = .ok (.getfield 44, 3) := by decide +kernel
theorem dX0_plan_52 : decode cX0_plan 52 = .ok (.iconst 1, 1) := by decide +kernel
theorem dX0_plan_53 : decode cX0_plan 53 = .ok (.isub, 1) := by decide +kernel
theorem dX0_plan_54 : decode cX0_plan 54 = .ok (.istore_n 1, 1) := by decide +kernel
theorem dX0_plan_55 : decode cX0_plan 55 = .ok (.iload_n 1, 1) := by decide +kernel
theorem dX0_plan_56 : decode cX0_plan 56 = .ok (.ifCond .lt 14, 3) := by decide +kernel
theorem dX0_plan_59 : decode cX0_plan 59 = .ok (.aload_n 0, 1) := by decide +kernel
theorem dX0_plan_60 : decode cX0_plan 60 = .ok (.iload_n 1, 1) := by decide +kernel
theorem dX0_plan_61 : decode cX0_plan 61 = .ok (.invokevirtual 70, 3) := by decide +kernel
theorem dX0_plan_64 : decode cX0_plan 64 = .ok (.iinc 1 (-1), 3) := by decide +kernel
theorem dX0_plan_67 : decode cX0_plan 67 = .ok (.goto (-12), 3) := by decide +kernel
theorem dX0_plan_70 : decode cX0_plan 70 = .ok (.aload_n 0, 1) := by decide +kernel
theorem dX0_plan_71 : decode cX0_plan 71 = .ok (.iconst 1, 1) := by decide +kernel
theorem dX0_plan_72 : decode cX0_plan 72 = .ok (.putfield 48, 3) := by decide +kernel
theorem dX0_plan_75 : decode cX0_plan 75 = .ok (.return_, 1) := by decide +kernel
abbrev cX0_planAt : ByteArray := prog_1_method_15_code
def yX0_planAt : MethodName := ⟨RX0, "planAt", "(I)V"⟩
theorem dX0_planAt_0 : decode cX0_planAt 0 = .ok (.aload_n 0, 1) := by decide +kernel
theorem dX0_planAt_1 : decode cX0_planAt 1 = .ok (.getfield 7, 3) := by decide +kernel
theorem dX0_planAt_4 : decode cX0_planAt 4 = .ok (.iload_n 1, 1) := by decide +kernel
theorem dX0_planAt_5 : decode cX0_planAt 5 = .ok (.iaload, 1) := by decide +kernel
theorem dX0_planAt_6 : decode cX0_planAt 6 = .ok (.istore_n 2, 1) := by decide +kernel
theorem dX0_planAt_7 : decode cX0_planAt 7 = .ok (.aload_n 0, 1) := by decide +kernel
theorem dX0_planAt_8 : decode cX0_planAt 8 = .ok (.iload_n 2, 1) := by decide +kernel
theorem dX0_planAt_9 : decode cX0_planAt 9 = .ok (.invokevirtual 56, 3) := by decide +kernel
theorem dX0_planAt_12 : decode cX0_planAt 12 = .ok (.ifCond .eq 32, 3) := by decide +kernel
theorem dX0_planAt_15 : decode cX0_planAt 15 = .ok (.aload_n 0, 1) := by decide +kernel
theorem dX0_planAt_16 : decode cX0_planAt 16 = .ok (.getfield 19, 3) := by decide +kernel
theorem dX0_planAt_19 : decode cX0_planAt 19 = .ok (.iload_n 1, 1) := by decide +kernel
theorem dX0_planAt_20 : decode cX0_planAt 20 = .ok (.iconst 0, 1) := by decide +kernel
theorem dX0_planAt_21 : decode cX0_planAt 21 = .ok (.iastore, 1) := by decide +kernel
theorem dX0_planAt_22 : decode cX0_planAt 22 = .ok (.aload_n 0, 1) := by decide +kernel
theorem dX0_planAt_23 : decode cX0_planAt 23 = .ok (.getfield 22, 3) := by decide +kernel
theorem dX0_planAt_26 : decode cX0_planAt 26 = .ok (.iload_n 1, 1) := by decide +kernel
theorem dX0_planAt_27 : decode cX0_planAt 27 = .ok (.iconst 0, 1) := by decide +kernel
theorem dX0_planAt_28 : decode cX0_planAt 28 = .ok (.iastore, 1) := by decide +kernel
theorem dX0_planAt_29 : decode cX0_planAt 29 = .ok (.aload_n 0, 1) := by decide +kernel
theorem dX0_planAt_30 : decode cX0_planAt 30 = .ok (.getfield 25, 3) := by decide +kernel
theorem dX0_planAt_33 : decode cX0_planAt 33 = .ok (.iload_n 1, 1) := by decide +kernel
theorem dX0_planAt_34 : decode cX0_planAt 34 = .ok (.iconst 0, 1) := by decide +kernel
theorem dX0_planAt_35 : decode cX0_planAt 35 = .ok (.iastore, 1) := by decide +kernel
theorem dX0_planAt_36 : decode cX0_planAt 36 = .ok (.aload_n 0, 1) := by decide +kernel
theorem dX0_planAt_37 : decode cX0_planAt 37 = .ok (.getfield 28, 3) := by decide +kernel
theorem dX0_planAt_40 : decode cX0_planAt 40 = .ok (.iload_n 1, 1) := by decide +kernel
theorem dX0_planAt_41 : decode cX0_planAt 41 = .ok (.iconst 0, 1) := by decide +kernel
theorem dX0_planAt_42 : decode cX0_planAt 42 = .ok (.iastore, 1) := by decide +kernel
theorem dX0_planAt_43 : decode cX0_planAt 43 = .ok (.return_, 1) := by decide +kernel
theorem dX0_planAt_44 : decode cX0_planAt 44 = .ok (.aload_n 0, 1) := by decide +kernel
theorem dX0_planAt_45 : decode cX0_planAt 45 = .ok (.iload_n 2, 1) := by decide +kernel
theorem dX0_planAt_46 : decode cX0_planAt 46 = .ok (.invokevirtual 60, 3) := by decide +kernel
theorem dX0_planAt_49 : decode cX0_planAt 49 = .ok (.aload_n 0, 1) := by decide +kernel
theorem dX0_planAt_50 : decode cX0_planAt 50 = .ok (.iload_n 2, 1) := by decide +kernel
theorem dX0_planAt_51 : decode cX0_planAt 51 = .ok (.invokevirtual 64, 3) := by decide +kernel
theorem dX0_planAt_54 : decode cX0_planAt 54 = .ok (.isub, 1) := by decide +kernel
theorem dX0_planAt_55 : decode cX0_planAt 55 = .ok (.istore_n 3, 1) := by decide +kernel
theorem dX0_planAt_56 : decode cX0_planAt 56 = .ok (.aload_n 0, 1) := by decide +kernel
theorem dX0_planAt_57 : decode cX0_planAt 57 = .ok (.getfield 19, 3) := by decide +kernel
theorem dX0_planAt_60 : decode cX0_planAt 60 = .ok (.iload_n 1, 1) := by decide +kernel
theorem dX0_planAt_61 : decode cX0_planAt 61 = .ok (.aload_n 0, 1) := by decide +kernel
theorem dX0_planAt_62 : decode cX0_planAt 62 = .ok (.getfield 19, 3) := by decide +kernel
theorem dX0_planAt_65 : decode cX0_planAt 65 = .ok (.iload_n 1, 1) := by decide +kernel
theorem dX0_planAt_66 : decode cX0_planAt 66 = .ok (.iconst 1, 1) := by decide +kernel
theorem dX0_planAt_67 : decode cX0_planAt 67 = .ok (.iadd, 1) := by decide +kernel
theorem dX0_planAt_68 : decode cX0_planAt 68 = .ok (.iaload, 1) := by decide +kernel
theorem dX0_planAt_69 : decode cX0_planAt 69 = .ok (.iconst 1, 1) := by decide +kernel
theorem dX0_planAt_70 : decode cX0_planAt 70 = .ok (.iadd, 1) := by decide +kernel
theorem dX0_planAt_71 : decode cX0_planAt 71 = .ok (.iastore, 1) := by decide +kernel
theorem dX0_planAt_72 : decode cX0_planAt 72 = .ok (.aload_n 0, 1) := by decide +kernel
theorem dX0_planAt_73 : decode cX0_planAt 73 = .ok (.getfield 22, 3) := by decide +kernel
theorem dX0_planAt_76 : decode cX0_planAt 76 = .ok (.iload_n 1, 1) := by decide +kernel
theorem dX0_planAt_77 : decode cX0_planAt 77 = .ok (.aload_n 0, 1) := by decide +kernel
theorem dX0_planAt_78 : decode cX0_planAt 78 = .ok (.getfield 22, 3) := by decide +kernel
theorem dX0_planAt_81 : decode cX0_planAt 81 = .ok (.iload_n 1, 1) := by decide +kernel
theorem dX0_planAt_82 : decode cX0_planAt 82 = .ok (.iconst 1, 1) := by decide +kernel
theorem dX0_planAt_83 : decode cX0_planAt 83 = .ok (.iadd, 1) := by decide +kernel
theorem dX0_planAt_84 : decode cX0_planAt 84 = .ok (.iaload, 1) := by decide +kernel
theorem dX0_planAt_85 : decode cX0_planAt 85 = .ok (.aload_n 0, 1) := by decide +kernel
theorem dX0_planAt_86 : decode cX0_planAt 86 = .ok (.iload_n 2, 1) := by decide +kernel
theorem dX0_planAt_87 : decode cX0_planAt 87 = .ok (.invokevirtual 67, 3) := by decide +kernel
theorem dX0_planAt_90 : decode cX0_planAt 90 = .ok (.iadd, 1) := by decide +kernel
theorem dX0_planAt_91 : decode cX0_planAt 91 = .ok (.iastore, 1) := by decide +kernel
theorem dX0_planAt_92 : decode cX0_planAt 92 = .ok (.aload_n 0, 1) := by decide +kernel
theorem dX0_planAt_93 : decode cX0_planAt 93 = .ok (.getfield 25, 3) := by decide +kernel
theorem dX0_planAt_96 : decode cX0_planAt 96 = .ok (.iload_n 1, 1) := by decide +kernel
theorem dX0_planAt_97 : decode cX0_planAt 97 = .ok (.iconst 1, 1) := by decide +kernel
theorem dX0_planAt_98 : decode cX0_planAt 98 = .ok (.iadd, 1) := by decide +kernel
theorem dX0_planAt_99 : decode cX0_planAt 99 = .ok (.iaload, 1) := by decide +kernel
theorem dX0_planAt_100 : decode cX0_planAt 100 = .ok (.iload_n 3, 1) := by decide +kernel
theorem dX0_planAt_101 : decode cX0_planAt 101 = .ok (.isub, 1) := by decide +kernel
theorem dX0_planAt_102 : decode cX0_planAt 102 = .ok (.istore 4, 2) := by decide +kernel
theorem dX0_planAt_104 : decode cX0_planAt 104 = .ok (.aload_n 0, 1) := by decide +kernel
theorem dX0_planAt_105 : decode cX0_planAt 105 = .ok (.iload_n 2, 1) := by decide +kernel
theorem dX0_planAt_106 : decode cX0_planAt 106 = .ok (.invokevirtual 64, 3) := by decide +kernel
theorem dX0_planAt_109 : decode cX0_planAt 109 = .ok (.istore 5, 2) := by decide +kernel
theorem dX0_planAt_111 : decode cX0_planAt 111 = .ok (.aload_n 0, 1) := by decide +kernel
theorem dX0_planAt_112 : decode cX0_planAt 112 = .ok (.getfield 25, 3) := by decide +kernel
theorem dX0_planAt_115 : decode cX0_planAt 115 = .ok (.iload_n 1, 1) := by decide +kernel
theorem dX0_planAt_116 : decode cX0_planAt 116 = .ok (.iload 4, 2) := by decide +kernel
theorem dX0_planAt_118 : decode cX0_planAt 118 = .ok (.iload 5, 2) := by decide +kernel
theorem dX0_planAt_120 : decode cX0_planAt 120 = .ok (.if_icmp .le 8, 3) := by decide +kernel
theorem dX0_planAt_123 : decode cX0_planAt 123 = .ok (.iload 4, 2) := by decide +kernel
theorem dX0_planAt_125 : decode cX0_planAt 125 = .ok (.goto 5, 3) := by decide +kernel
theorem dX0_planAt_128 : decode cX0_planAt 128 = .ok (.iload 5, 2) := by decide +kernel
theorem dX0_planAt_130 : decode cX0_planAt 130 = .ok (.iastore, 1) := by decide +kernel
theorem dX0_planAt_131 : decode cX0_planAt 131 = .ok (.aload_n 0, 1) := by decide +kernel
theorem dX0_planAt_132 : decode cX0_planAt 132 = .ok (.getfield 28, 3) := by decide +kernel
theorem dX0_planAt_135 : decode cX0_planAt 135 = .ok (.iload_n 1, 1) := by decide +kernel
theorem dX0_planAt_136 : decode cX0_planAt 136 = .ok (.iconst 1, 1) := by decide +kernel
theorem dX0_planAt_137 : decode cX0_planAt 137 = .ok (.iadd, 1) := by decide +kernel
theorem dX0_planAt_138 : decode cX0_planAt 138 = .ok (.iaload, 1) := by decide +kernel
theorem dX0_planAt_139 : decode cX0_planAt 139 = .ok (.iload_n 3, 1) := by decide +kernel
theorem dX0_planAt_140 : decode cX0_planAt 140 = .ok (.iadd, 1) := by decide +kernel
theorem dX0_planAt_141 : decode cX0_planAt 141 = .ok (.istore 6, 2) := by decide +kernel
theorem dX0_planAt_143 : decode cX0_planAt 143 = .ok (.iload_n 3, 1) := by decide +kernel
theorem dX0_planAt_144 : decode cX0_planAt 144 = .ok (.ifCond .le 7, 3) := by decide +kernel
theorem dX0_planAt_147 : decode cX0_planAt 147 = .ok (.iload_n 3, 1) := by decide +kernel
theorem dX0_planAt_148 : decode cX0_planAt 148 = .ok (.goto 4, 3) := by decide +kernel
theorem dX0_planAt_151 : decode cX0_planAt 151 = .ok (.iconst 0, 1) := by decide +kernel
theorem dX0_planAt_152 : decode cX0_planAt 152 = .ok (.istore 7, 2) := by decide +kernel
theorem dX0_planAt_154 : decode cX0_planAt 154 = .ok (.aload_n 0, 1) := by decide +kernel
theorem dX0_planAt_155 : decode cX0_planAt 155 = .ok (.getfield 28, 3) := by decide +kernel
theorem dX0_planAt_158 : decode cX0_planAt 158 = .ok (.iload_n 1, 1) := by decide +kernel
theorem dX0_planAt_159 : decode cX0_planAt 159 = .ok (.iload 6, 2) := by decide +kernel
theorem dX0_planAt_161 : decode cX0_planAt 161 = .ok (.iload 7, 2) := by decide +kernel
theorem dX0_planAt_163 : decode cX0_planAt 163 = .ok (.if_icmp .le 8, 3) := by decide +kernel
theorem dX0_planAt_166 : decode cX0_planAt 166 = .ok (.iload 6, 2) := by decide +kernel
theorem dX0_planAt_168 : decode cX0_planAt 168 = .ok (.goto 5, 3) := by decide +kernel
theorem dX0_planAt_171 : decode cX0_planAt 171 = .ok (.iload 7, 2) := by decide +kernel
theorem dX0_planAt_173 : decode cX0_planAt 173 = .ok (.iastore, 1) := by decide +kernel
theorem dX0_planAt_174 : decode cX0_planAt 174 = .ok (.return_, 1) := by decide +kernel
abbrev cX0_breaks : ByteArray := prog_1_method_14_code
def yX0_breaks : MethodName := ⟨RX0, "breaks", "(I)Z"⟩
theorem dX0_breaks_0 : decode cX0_breaks 0 = .ok (.iload_n 1, 1) := by decide +kernel
theorem dX0_breaks_1 : decode cX0_breaks 1 = .ok (.bipush 10, 2) := by decide +kernel
theorem dX0_breaks_3 : decode cX0_breaks 3 = .ok (.if_icmp .lt 7, 3) := by decide +kernel
theorem dX0_breaks_6 : decode cX0_breaks 6 = .ok (.iconst 1, 1) := by decide +kernel
theorem dX0_breaks_7 : decode cX0_breaks 7 = .ok (.goto 4, 3) := by decide +kernel
theorem dX0_breaks_10 : decode cX0_breaks 10 = .ok (.iconst 0, 1) := by decide +kernel
theorem dX0_breaks_11 : decode cX0_breaks 11 = .ok (.ireturn, 1) := by decide +kernel
abbrev cX0_puts : ByteArray := prog_1_method_13_code
def yX0_puts : MethodName := ⟨RX0, "puts", "(I)I"⟩
theorem dX0_puts_0 : decode cX0_puts 0 = .ok (.iload_n 1, 1) := by decide +kernel
theorem dX0_puts_1 : decode cX0_puts 1 = .ok (.iconst 5, 1) := by decide +kernel
theorem dX0_puts_2 : decode cX0_puts 2 = .ok (.if_icmp .eq 9, 3) := by decide +kernel
theorem dX0_puts_5 : decode cX0_puts 5 = .ok (.iload_n 1, 1) := by decide +kernel
theorem dX0_puts_6 : decode cX0_puts 6 = .ok (.bipush 6, 2) := by decide +kernel
theorem dX0_puts_8 : decode cX0_puts 8 = .ok (.if_icmp .ne 5, 3) := by decide +kernel
theorem dX0_puts_11 : decode cX0_puts 11 = .ok (.iconst 2, 1) := by decide +kernel
theorem dX0_puts_12 : decode cX0_puts 12 = .ok (.ireturn, 1) := by decide +kernel
theorem dX0_puts_13 : decode cX0_puts 13 = .ok (.iload_n 1, 1) := by decide +kernel
theorem dX0_puts_14 : decode cX0_puts 14 = .ok (.iconst 4, 1) := by decide +kernel
theorem dX0_puts_15 : decode cX0_puts 15 = .ok (.if_icmp .le 15, 3) := by decide +kernel
theorem dX0_puts_18 : decode cX0_puts 18 = .ok (.iload_n 1, 1) := by decide +kernel
theorem dX0_puts_19 : decode cX0_puts 19 = .ok (.bipush 8, 2) := by decide +kernel
theorem dX0_puts_21 : decode cX0_puts 21 = .ok (.if_icmp .eq 9, 3) := by decide +kernel
theorem dX0_puts_24 : decode cX0_puts 24 = .ok (.iload_n 1, 1) := by decide +kernel
theorem dX0_puts_25 : decode cX0_puts 25 = .ok (.bipush 13, 2) := by decide +kernel
theorem dX0_puts_27 : decode cX0_puts 27 = .ok (.if_icmp .ne 7, 3) := by decide +kernel
theorem dX0_puts_30 : decode cX0_puts 30 = .ok (.iconst 1, 1) := by decide +kernel
theorem dX0_puts_31 : decode cX0_puts 31 = .ok (.goto 4, 3) := by decide +kernel
theorem dX0_puts_34 : decode cX0_puts 34 = .ok (.iconst 0, 1) := by decide +kernel
theorem dX0_puts_35 : decode cX0_puts 35 = .ok (.ireturn, 1) := by decide +kernel
abbrev cX0_takes : ByteArray := prog_1_method_12_code
def yX0_takes : MethodName := ⟨RX0, "takes", "(I)I"⟩
theorem dX0_takes_0 : decode cX0_takes 0 = .ok (.iload_n 1, 1) := by decide +kernel
theorem dX0_takes_1 : decode cX0_takes 1 = .ok (.iconst 1, 1) := by decide +kernel
theorem dX0_takes_2 : decode cX0_takes 2 = .ok (.if_icmp .lt 8, 3) := by decide +kernel
theorem dX0_takes_5 : decode cX0_takes 5 = .ok (.iload_n 1, 1) := by decide +kernel
theorem dX0_takes_6 : decode cX0_takes 6 = .ok (.iconst 4, 1) := by decide +kernel
theorem dX0_takes_7 : decode cX0_takes 7 = .ok (.if_icmp .le 9, 3) := by decide +kernel
theorem dX0_takes_10 : decode cX0_takes 10 = .ok (.iload_n 1, 1) := by decide +kernel
theorem dX0_takes_11 : decode cX0_takes 11 = .ok (.bipush 6, 2) := by decide +kernel
theorem dX0_takes_13 : decode cX0_takes 13 = .ok (.if_icmp .ne 5, 3) := by decide +kernel
theorem dX0_takes_16 : decode cX0_takes 16 = .ok (.iconst 2, 1) := by decide +kernel
theorem dX0_takes_17 : decode cX0_takes 17 = .ok (.ireturn, 1) := by decide +kernel
theorem dX0_takes_18 : decode cX0_takes 18 = .ok (.iload_n 1, 1) := by decide +kernel
theorem dX0_takes_19 : decode cX0_takes 19 = .ok (.iconst 5, 1) := by decide +kernel
theorem dX0_takes_20 : decode cX0_takes 20 = .ok (.if_icmp .eq 27, 3) := by decide +kernel
theorem dX0_takes_23 : decode cX0_takes 23 = .ok (.iload_n 1, 1) := by decide +kernel
theorem dX0_takes_24 : decode cX0_takes 24 = .ok (.bipush 7, 2) := by decide +kernel
theorem dX0_takes_26 : decode cX0_takes 26 = .ok (.if_icmp .eq 21, 3) := by decide +kernel
theorem dX0_takes_29 : decode cX0_takes 29 = .ok (.iload_n 1, 1) := by decide +kernel
theorem dX0_takes_30 : decode cX0_takes 30 = .ok (.bipush 9, 2) := by decide +kernel
theorem dX0_takes_32 : decode cX0_takes 32 = .ok (.if_icmp .eq 15, 3) := by decide +kernel
theorem dX0_takes_35 : decode cX0_takes 35 = .ok (.iload_n 1, 1) := by decide +kernel
theorem dX0_takes_36 : decode cX0_takes 36 = .ok (.bipush 11, 2) := by decide +kernel
theorem dX0_takes_38 : decode cX0_takes 38 = .ok (.if_icmp .eq 9, 3) := by decide +kernel
theorem dX0_takes_41 : decode cX0_takes 41 = .ok (.iload_n 1, 1) := by decide +kernel
theorem dX0_takes_42 : decode cX0_takes 42 = .ok (.bipush 12, 2) := by decide +kernel
theorem dX0_takes_44 : decode cX0_takes 44 = .ok (.if_icmp .ne 7, 3) := by decide +kernel
theorem dX0_takes_47 : decode cX0_takes 47 = .ok (.iconst 1, 1) := by decide +kernel
theorem dX0_takes_48 : decode cX0_takes 48 = .ok (.goto 4, 3) := by decide +kernel
theorem dX0_takes_51 : decode cX0_takes 51 = .ok (.iconst 0, 1) := by decide +kernel
theorem dX0_takes_52 : decode cX0_takes 52 = .ok (.ireturn, 1) := by decide +kernel
abbrev cX0_priceOf : ByteArray := prog_1_method_11_code
def yX0_priceOf : MethodName := ⟨RX0, "priceOf", "(I)I"⟩
theorem dX0_priceOf_0 : decode cX0_priceOf 0 = .ok (.iload_n 1, 1) := by decide +kernel
theorem dX0_priceOf_1 : decode cX0_priceOf 1 = .ok (.iconst 3, 1) := by decide +kernel
theorem dX0_priceOf_2 : decode cX0_priceOf 2 = .ok (.if_icmp .eq 9, 3) := by decide +kernel
theorem dX0_priceOf_5 : decode cX0_priceOf 5 = .ok (.iload_n 1, 1) := by decide +kernel
theorem dX0_priceOf_6 : decode cX0_priceOf 6 = .ok (.bipush 11, 2) := by decide +kernel
theorem dX0_priceOf_8 : decode cX0_priceOf 8 = .ok (.if_icmp .ne 5, 3) := by decide +kernel
theorem dX0_priceOf_11 : decode cX0_priceOf 11 = .ok (.iconst 5, 1) := by decide +kernel
theorem dX0_priceOf_12 : decode cX0_priceOf 12 = .ok (.ireturn, 1) := by decide +kernel
theorem dX0_priceOf_13 : decode cX0_priceOf 13 = .ok (.iload_n 1, 1) := by decide +kernel
theorem dX0_priceOf_14 : decode cX0_priceOf 14 = .ok (.bipush 9, 2) := by decide +kernel
theorem dX0_priceOf_16 : decode cX0_priceOf 16 = .ok (.if_icmp .eq 9, 3) := by decide +kernel
theorem dX0_priceOf_19 : decode cX0_priceOf 19 = .ok (.iload_n 1, 1) := by decide +kernel
theorem dX0_priceOf_20 : decode cX0_priceOf 20 = .ok (.bipush 10, 2) := by decide +kernel
theorem dX0_priceOf_22 : decode cX0_priceOf 22 = .ok (.if_icmp .ne 5, 3) := by decide +kernel
theorem dX0_priceOf_25 : decode cX0_priceOf 25 = .ok (.iconst 4, 1) := by decide +kernel
theorem dX0_priceOf_26 : decode cX0_priceOf 26 = .ok (.ireturn, 1) := by decide +kernel
theorem dX0_priceOf_27 : decode cX0_priceOf 27 = .ok (.iload_n 1, 1) := by decide +kernel
theorem dX0_priceOf_28 : decode cX0_priceOf 28 = .ok (.bipush 7, 2) := by decide +kernel
theorem dX0_priceOf_30 : decode cX0_priceOf 30 = .ok (.if_icmp .eq 9, 3) := by decide +kernel
theorem dX0_priceOf_33 : decode cX0_priceOf 33 = .ok (.iload_n 1, 1) := by decide +kernel
theorem dX0_priceOf_34 : decode cX0_priceOf 34 = .ok (.bipush 12, 2) := by decide +kernel
theorem dX0_priceOf_36 : decode cX0_priceOf 36 = .ok (.if_icmp .ne 5, 3) := by decide +kernel
theorem dX0_priceOf_39 : decode cX0_priceOf 39 = .ok (.iconst 1, 1) := by decide +kernel
theorem dX0_priceOf_40 : decode cX0_priceOf 40 = .ok (.ireturn, 1) := by decide +kernel
theorem dX0_priceOf_41 : decode cX0_priceOf 41 = .ok (.iload_n 1, 1) := by decide +kernel
theorem dX0_priceOf_42 : decode cX0_priceOf 42 = .ok (.bipush 14, 2) := by decide +kernel
theorem dX0_priceOf_44 : decode cX0_priceOf 44 = .ok (.if_icmp .ne 5, 3) := by decide +kernel
theorem dX0_priceOf_47 : decode cX0_priceOf 47 = .ok (.iconst 0, 1) := by decide +kernel
theorem dX0_priceOf_48 : decode cX0_priceOf 48 = .ok (.ireturn, 1) := by decide +kernel
theorem dX0_priceOf_49 : decode cX0_priceOf 49 = .ok (.iload_n 1, 1) := by decide +kernel
theorem dX0_priceOf_50 : decode cX0_priceOf 50 = .ok (.ifCond .eq 20, 3) := by decide +kernel
theorem dX0_priceOf_53 : decode cX0_priceOf 53 = .ok (.iload_n 1, 1) := by decide +kernel
theorem dX0_priceOf_54 : decode cX0_priceOf 54 = .ok (.iconst 5, 1) := by decide +kernel
theorem dX0_priceOf_55 : decode cX0_priceOf 55 = .ok (.if_icmp .eq 15, 3) := by decide +kernel
theorem dX0_priceOf_58 : decode cX0_priceOf 58 = .ok (.iload_n 1, 1) := by decide +kernel
theorem dX0_priceOf_59 : decode cX0_priceOf 59 = .ok (.bipush 6, 2) := by decide +kernel
theorem dX0_priceOf_61 : decode cX0_priceOf 61 = .ok (.if_icmp .eq 9, 3) := by decide +kernel
theorem dX0_priceOf_64 : decode cX0_priceOf 64 = .ok (.iload_n 1, 1) := by decide +kernel
theorem dX0_priceOf_65 : decode cX0_priceOf 65 = .ok (.bipush 13, 2) := by decide +kernel
theorem dX0_priceOf_67 : decode cX0_priceOf 67 = .ok (.if_icmp .ne 7, 3) := by decide +kernel
theorem dX0_priceOf_70 : decode cX0_priceOf 70 = .ok (.iconst 2, 1) := by decide +kernel
theorem dX0_priceOf_71 : decode cX0_priceOf 71 = .ok (.goto 4, 3) := by decide +kernel
theorem dX0_priceOf_74 : decode cX0_priceOf 74 = .ok (.iconst 3, 1) := by decide +kernel
theorem dX0_priceOf_75 : decode cX0_priceOf 75 = .ok (.ireturn, 1) := by decide +kernel
end
section
set_option maxRecDepth 100000
abbrev cX0_sure : ByteArray := prog_1_method_22_code
def yX0_sure : MethodName := ⟨RX0, "sure", "()Z"⟩
theorem dX0_sure_0 : decode cX0_sure 0 = .ok (.aload_n 0, 1) := by decide +kernel
theorem dX0_sure_1 : decode cX0_sure 1 = .ok (.getfield 84, 3) := by decide +kernel
theorem dX0_sure_4 : decode cX0_sure 4 = .ok (.istore_n 1, 1) := by decide +kernel
theorem dX0_sure_5 : decode cX0_sure 5 = .ok (.aload_n 0, 1) := by decide +kernel
theorem dX0_sure_6 : decode cX0_sure 6 = .ok (.getfield 19, 3) := by decide +kernel
theorem dX0_sure_9 : decode cX0_sure 9 = .ok (.iload_n 1, 1) := by decide +kernel
theorem dX0_sure_10 : decode cX0_sure 10 = .ok (.iaload, 1) := by decide +kernel
theorem dX0_sure_11 : decode cX0_sure 11 = .ok (.ifCond .eq 32, 3) := by decide +kernel
theorem dX0_sure_14 : decode cX0_sure 14 = .ok (.aload_n 0, 1) := by decide +kernel
theorem dX0_sure_15 : decode cX0_sure 15 = .ok (.getfield 74, 3) := by decide +kernel
theorem dX0_sure_18 : decode cX0_sure 18 = .ok (.aload_n 0, 1) := by decide +kernel
theorem dX0_sure_19 : decode cX0_sure 19 = .ok (.getfield 25, 3) := by decide +kernel
theorem dX0_sure_22 : decode cX0_sure 22 = .ok (.iload_n 1, 1) := by decide +kernel
theorem dX0_sure_23 : decode cX0_sure 23 = .ok (.iaload, 1) := by decide +kernel
theorem dX0_sure_24 : decode cX0_sure 24 = .ok (.if_icmp .lt 19, 3) := by decide +kernel
theorem dX0_sure_27 : decode cX0_sure 27 = .ok (.aload_n 0, 1) := by decide +kernel
theorem dX0_sure_28 : decode cX0_sure 28 = .ok (.getfield 74, 3) := by decide +kernel
theorem dX0_sure_31 : decode cX0_sure 31 = .ok (.aload_n 0, 1) := by decide +kernel
theorem dX0_sure_32 : decode cX0_sure 32 = .ok (.getfield 28, 3) := by decide +kernel
theorem dX0_sure_35 : decode cX0_sure 35 = .ok (.iload_n 1, 1) := by decide +kernel
theorem dX0_sure_36 : decode cX0_sure 36 = .ok (.iaload, 1) := by decide +kernel
theorem dX0_sure_37 : decode cX0_sure 37 = .ok (.iadd, 1) := by decide +kernel
theorem dX0_sure_38 : decode cX0_sure 38 = .ok (.bipush 8, 2) := by decide +kernel
theorem dX0_sure_40 : decode cX0_sure 40 = .ok (.if_icmp .le 5, 3) := by decide +kernel
theorem dX0_sure_43 : decode cX0_sure 43 = .ok (.iconst 0, 1) := by decide +kernel
theorem dX0_sure_44 : decode cX0_sure 44 = .ok (.ireturn, 1) := by decide +kernel
theorem dX0_sure_45 : decode cX0_sure 45 = .ok (.aload_n 0, 1) := by decide +kernel
theorem dX0_sure_46 : decode cX0_sure 46 = .ok (.getfield 22, 3) := by decide +kernel
theorem dX0_sure_49 : decode cX0_sure 49 = .ok (.iload_n 1, 1) := by decide +kernel
theorem dX0_sure_50 : decode cX0_sure 50 = .ok (.iaload, 1) := by decide +kernel
theorem dX0_sure_51 : decode cX0_sure 51 = .ok (.aload_n 0, 1) := by decide +kernel
theorem dX0_sure_52 : decode cX0_sure 52 = .ok (.getfield 52, 3) := by decide +kernel
theorem dX0_sure_55 : decode cX0_sure 55 = .ok (.if_icmp .gt 24, 3) := by decide +kernel
theorem dX0_sure_58 : decode cX0_sure 58 = .ok (.aload_n 0, 1) := by decide +kernel
theorem dX0_sure_59 : decode cX0_sure 59 = .ok (.getfield 90, 3) := by decide +kernel
theorem dX0_sure_62 : decode cX0_sure 62 = .ok (.aload_n 0, 1) := by decide +kernel
theorem dX0_sure_63 : decode cX0_sure 63 = .ok (.getfield 19, 3) := by decide +kernel
theorem dX0_sure_66 : decode cX0_sure 66 = .ok (.iload_n 1, 1) := by decide +kernel
theorem dX0_sure_67 : decode cX0_sure 67 = .ok (.iaload, 1) := by decide +kernel
theorem dX0_sure_68 : decode cX0_sure 68 = .ok (.iadd, 1) := by decide +kernel
theorem dX0_sure_69 : decode cX0_sure 69 = .ok (.sipush 300, 3) := by decide +kernel
theorem dX0_sure_72 : decode cX0_sure 72 = .ok (.if_icmp .gt 7, 3) := by decide +kernel
theorem dX0_sure_75 : decode cX0_sure 75 = .ok (.iconst 1, 1) := by decide +kernel
theorem dX0_sure_76 : decode cX0_sure 76 = .ok (.goto 4, 3) := by decide +kernel
theorem dX0_sure_79 : decode cX0_sure 79 = .ok (.iconst 0, 1) := by decide +kernel
theorem dX0_sure_80 : decode cX0_sure 80 = .ok (.ireturn, 1) := by decide +kernel
abbrev cX0_runStretch : ByteArray := prog_1_method_23_code
def yX0_runStretch : MethodName := ⟨RX0, "runStretch", "()V"⟩
theorem dX0_runStretch_0 : decode cX0_runStretch 0 = .ok (.aload_n 0, 1) := by decide +kernel
theorem dX0_runStretch_1 : decode cX0_runStretch 1 = .ok (.getfield 84, 3) := by decide +kernel
theorem dX0_runStretch_4 : decode cX0_runStretch 4 = .ok (.istore_n 1, 1) := by decide +kernel
theorem dX0_runStretch_5 : decode cX0_runStretch 5 = .ok (.aload_n 0, 1) := by decide +kernel
theorem dX0_runStretch_6 : decode cX0_runStretch 6 = .ok (.getfield 19, 3) := by decide +kernel
theorem dX0_runStretch_9 : decode cX0_runStretch 9 = .ok (.iload_n 1, 1) := by decide +kernel
theorem dX0_runStretch_10 : decode cX0_runStretch 10 = .ok (.iaload, 1) := by decide +kernel
theorem dX0_runStretch_11 : decode cX0_runStretch 11 = .ok (.istore_n 2, 1) := by decide +kernel
theorem dX0_runStretch_12 : decode cX0_runStretch 12 = .ok (.aload_n 0, 1) := by decide +kernel
theorem dX0_runStretch_13 : decode cX0_runStretch 13 = .ok (.aload_n 0, 1) := by decide +kernel
theorem dX0_runStretch_14 : decode cX0_runStretch 14 = .ok (.getfield 52, 3) := by decide +kernel
theorem dX0_runStretch_17 : decode cX0_runStretch 17 = .ok (.aload_n 0, 1) := by decide +kernel
theorem dX0_runStretch_18 : decode cX0_runStretch 18 = .ok (.getfield 22, 3) := by decide +kernel
theorem dX0_runStretch_21 : decode cX0_runStretch 21 = .ok (.iload_n 1, 1) := by decide +kernel
theorem dX0_runStretch_22 : decode cX0_runStretch 22 = .ok (.iaload, 1) := by decide +kernel
theorem dX0_runStretch_23 : decode cX0_runStretch 23 = .ok (.isub, 1) := by decide +kernel
theorem dX0_runStretch_24 : decode cX0_runStretch 24 = .ok (.putfield 52, 3) := by decide +kernel
theorem dX0_runStretch_27 : decode cX0_runStretch 27 = .ok (.aload_n 0, 1) := by decide +kernel
theorem dX0_runStretch_28 : decode cX0_runStretch 28 = .ok (.aload_n 0, 1) := by decide +kernel
theorem dX0_runStretch_29 : decode cX0_runStretch 29 = .ok (.getfield 90, 3) := by decide +kernel
theorem dX0_runStretch_32 : decode cX0_runStretch 32 = .ok (.iload_n 2, 1) := by decide +kernel
theorem dX0_runStretch_33 : decode cX0_runStretch 33 = .ok (.iadd, 1) := by decide +kernel
theorem dX0_runStretch_34 : decode cX0_runStretch 34 = .ok (.putfield 90, 3) := by decide +kernel
theorem dX0_runStretch_37 : decode cX0_runStretch 37 = .ok (.iload_n 1, 1) := by decide +kernel
theorem dX0_runStretch_38 : decode cX0_runStretch 38 = .ok (.istore_n 3, 1) := by decide +kernel
theorem dX0_runStretch_39 : decode cX0_runStretch 39 = .ok (.iload_n 3, 1) := by decide +kernel
theorem dX0_runStretch_40 : decode cX0_runStretch 40 = .ok (.iload_n 1, 1) := by decide +kernel
theorem dX0_runStretch_41 : decode cX0_runStretch 41 = .ok (.iload_n 2, 1) := by decide +kernel
theorem dX0_runStretch_42 : decode cX0_runStretch 42 = .ok (.iadd, 1) := by decide +kernel
theorem dX0_runStretch_43 : decode cX0_runStretch 43 = .ok (.if_icmp .ge 14, 3) := by decide +kernel
theorem dX0_runStretch_46 : decode cX0_runStretch 46 = .ok (.aload_n 0, 1) := by decide +kernel
theorem dX0_runStretch_47 : decode cX0_runStretch 47 = .ok (.iload_n 3, 1) := by decide +kernel
theorem dX0_runStretch_48 : decode cX0_runStretch 48 = .ok (.invokevirtual 96, 3) := by decide +kernel
theorem dX0_runStretch_51 : decode cX0_runStretch 51 = .ok (.iinc 3 1, 3) := by decide +kernel
theorem dX0_runStretch_54 : decode cX0_runStretch 54 = .ok (.goto (-15), 3) := by decide +kernel
theorem dX0_runStretch_57 : decode cX0_runStretch 57 = .ok (.aload_n 0, 1) := by decide +kernel
theorem dX0_runStretch_58 : decode cX0_runStretch 58 = .ok (.iload_n 1, 1) := by decide +kernel
theorem dX0_runStretch_59 : decode cX0_runStretch 59 = .ok (.iload_n 2, 1) := by decide +kernel
theorem dX0_runStretch_60 : decode cX0_runStretch 60 = .ok (.iadd, 1) := by decide +kernel
theorem dX0_runStretch_61 : decode cX0_runStretch 61 = .ok (.putfield 84, 3) := by decide +kernel
theorem dX0_runStretch_64 : decode cX0_runStretch 64 = .ok (.return_, 1) := by decide +kernel
abbrev cX0_work : ByteArray := prog_1_method_19_code
def yX0_work : MethodName := ⟨RX0, "work", "(I)V"⟩
theorem dX0_work_0 : decode cX0_work 0 = .ok (.aload_n 0, 1) := by decide +kernel
theorem dX0_work_1 : decode cX0_work 1 = .ok (.getfield 7, 3) := by decide +kernel
theorem dX0_work_4 : decode cX0_work 4 = .ok (.iload_n 1, 1) := by decide +kernel
theorem dX0_work_5 : decode cX0_work 5 = .ok (.iaload, 1) := by decide +kernel
theorem dX0_work_6 : decode cX0_work 6 = .ok (.istore_n 2, 1) := by decide +kernel
theorem dX0_work_7 : decode cX0_work 7 = .ok (.iload_n 2, 1) := by decide +kernel
theorem dX0_work_8 : decode cX0_work 8 = .ok (.ifCond .ne 16, 3) := by decide +kernel
theorem dX0_work_11 : decode cX0_work 11 = .ok (.aload_n 0, 1) := by decide +kernel
theorem dX0_work_12 : decode cX0_work 12 = .ok (.aload_n 0, 1) := by decide +kernel
theorem dX0_work_13 : decode cX0_work 13 = .ok (.getfield 13, 3) := by decide +kernel
theorem dX0_work_16 : decode cX0_work 16 = .ok (.iload_n 1, 1) := by decide +kernel
theorem dX0_work_17 : decode cX0_work 17 = .ok (.iaload, 1) := by decide +kernel
theorem dX0_work_18 : decode cX0_work 18 = .ok (.invokevirtual 77, 3) := by decide +kernel
theorem dX0_work_21 : decode cX0_work 21 = .ok (.goto 190, 3) := by decide +kernel
theorem dX0_work_24 : decode cX0_work 24 = .ok (.iload_n 2, 1) := by decide +kernel
theorem dX0_work_25 : decode cX0_work 25 = .ok (.iconst 4, 1) := by decide +kernel
theorem dX0_work_26 : decode cX0_work 26 = .ok (.if_icmp .gt 47, 3) := by decide +kernel
theorem dX0_work_29 : decode cX0_work 29 = .ok (.aload_n 0, 1) := by decide +kernel
theorem dX0_work_30 : decode cX0_work 30 = .ok (.aload_n 0, 1) := by decide +kernel
theorem dX0_work_31 : decode cX0_work 31 = .ok (.getfield 74, 3) := by decide +kernel
theorem dX0_work_34 : decode cX0_work 34 = .ok (.iconst 2, 1) := by decide +kernel
theorem dX0_work_35 : decode cX0_work 35 = .ok (.isub, 1) := by decide +kernel
theorem dX0_work_36 : decode cX0_work 36 = .ok (.putfield 74, 3) := by decide +kernel
theorem dX0_work_39 : decode cX0_work 39 = .ok (.aload_n 0, 1) := by decide +kernel
theorem dX0_work_40 : decode cX0_work 40 = .ok (.iload_n 2, 1) := by decide +kernel
theorem dX0_work_41 : decode cX0_work 41 = .ok (.aload_n 0, 1) := by decide +kernel
theorem dX0_work_42 : decode cX0_work 42 = .ok (.getfield 31, 3) := by decide +kernel
theorem dX0_work_45 : decode cX0_work 45 = .ok (.aload_n 0, 1) := by decide +kernel
theorem dX0_work_46 : decode cX0_work 46 = .ok (.getfield 74, 3) := by decide +kernel
theorem dX0_work_49 : decode cX0_work 49 = .ok (.iaload, 1) := by decide +kernel
theorem dX0_work_50 : decode cX0_work 50 = .ok (.aload_n 0, 1) := by decide +kernel
theorem dX0_work_51 : decode cX0_work 51 = .ok (.getfield 31, 3) := by decide +kernel
theorem dX0_work_54 : decode cX0_work 54 = .ok (.aload_n 0, 1) := by decide +kernel
theorem dX0_work_55 : decode cX0_work 55 = .ok (.getfield 74, 3) := by decide +kernel
theorem dX0_work_58 : decode cX0_work 58 = .ok (.iconst 1, 1) := by decide +kernel
theorem dX0_work_59 : decode cX0_work 59 = .ok (.iadd, 1) := by decide +kernel
theorem dX0_work_60 : decode cX0_work 60 = .ok (.iaload, 1) := by decide +kernel
theorem dX0_work_61 : decode cX0_work 61 = .ok (.invokevirtual 80, 3) := by decide +kernel
theorem dX0_work_64 : decode cX0_work 64 = .ok (.istore_n 3, 1) := by decide +kernel
theorem dX0_work_65 : decode cX0_work 65 = .ok (.aload_n 0, 1) := by decide +kernel
theorem dX0_work_66 : decode cX0_work 66 = .ok (.iload_n 3, 1) := by decide +kernel
theorem dX0_work_67 : decode cX0_work 67 = .ok (.invokevirtual 77, 3) := by decide +kernel
theorem dX0_work_70 : decode cX0_work 70 = .ok (.goto 141, 3) := by decide +kernel
theorem dX0_work_73 : decode cX0_work 73 = .ok (.iload_n 2, 1) := by decide +kernel
theorem dX0_work_74 : decode cX0_work 74 = .ok (.iconst 5, 1) := by decide +kernel
theorem dX0_work_75 : decode cX0_work 75 = .ok (.if_icmp .ne 21, 3) := by decide +kernel
theorem dX0_work_78 : decode cX0_work 78 = .ok (.aload_n 0, 1) := by decide +kernel
theorem dX0_work_79 : decode cX0_work 79 = .ok (.aload_n 0, 1) := by decide +kernel
theorem dX0_work_80 : decode cX0_work 80 = .ok (.getfield 31, 3) := by decide +kernel
theorem dX0_work_83 : decode cX0_work 83 = .ok (.aload_n 0, 1) := by decide +kernel
theorem dX0_work_84 : decode cX0_work 84 = .ok (.getfield 74, 3) := by decide +kernel
theorem dX0_work_87 : decode cX0_work 87 = .ok (.iconst 1, 1) := by decide +kernel
theorem dX0_work_88 : decode cX0_work 88 = .ok (.isub, 1) := by decide +kernel
theorem dX0_work_89 : decode cX0_work 89 = .ok (.iaload, 1) := by decide +kernel
theorem dX0_work_90 : decode cX0_work 90 = .ok (.invokevirtual 77, 3) := by decide +kernel
theorem dX0_work_93 : decode cX0_work 93 = .ok (.goto 118, 3) := by decide +kernel
theorem dX0_work_96 : decode cX0_work 96 = .ok (.iload_n 2, 1) := by decide +kernel
theorem dX0_work_97 : decode cX0_work 97 = .ok (.bipush 6, 2) := by decide +kernel
theorem dX0_work_99 : decode cX0_work 99 = .ok (.if_icmp .ne 52, 3) := by decide +kernel
theorem dX0_work_102 : decode cX0_work 102 = .ok (.aload_n 0, 1) := by decide +kernel
theorem dX0_work_103 : decode cX0_work 103 = .ok (.getfield 31, 3) := by decide +kernel
theorem dX0_work_106 : decode cX0_work 106 = .ok (.aload_n 0, 1) := by decide +kernel
theorem dX0_work_107 : decode cX0_work 107 = .ok (.getfield 74, 3) := by decide +kernel
theorem dX0_work_110 : decode cX0_work 110 = .ok (.iconst 1, 1) := by decide +kernel
theorem dX0_work_111 : decode cX0_work 111 = .ok (.isub, 1) := by decide +kernel
theorem dX0_work_112 : decode cX0_work 112 = .ok (.iaload, 1) := by decide +kernel
theorem dX0_work_113 : decode cX0_work 113 = .ok (.istore_n 3, 1) := by decide +kernel
theorem dX0_work_114 : decode cX0_work 114 = .ok (.aload_n 0, 1) := by decide +kernel
theorem dX0_work_115 : decode cX0_work 115 = .ok (.getfield 31, 3) := by decide +kernel
theorem dX0_work_118 : decode cX0_work 118 = .ok (.aload_n 0, 1) := by decide +kernel
theorem dX0_work_119 : decode cX0_work 119 = .ok (.getfield 74, 3) := by decide +kernel
theorem dX0_work_122 : decode cX0_work 122 = .ok (.iconst 1, 1) := by decide +kernel
theorem dX0_work_123 : decode cX0_work 123 = .ok (.isub, 1) := by decide +kernel
theorem dX0_work_124 : decode cX0_work 124 = .ok (.aload_n 0, 1) := by decide +kernel
theorem dX0_work_125 : decode cX0_work 125 = .ok (.getfield 31, 3) := by decide +kernel
theorem dX0_work_128 : decode cX0_work 128 = .ok (.aload_n 0, 1) := by decide +kernel
theorem dX0_work_129 : decode cX0_work 129 = .ok (.getfield 74, 3) := by decide +kernel
theorem dX0_work_132 : decode cX0_work 132 = .ok (.iconst 2, 1) := by decide +kernel
theorem dX0_work_133 : decode cX0_work 133 = .ok (.isub, 1) := by decide +kernel
theorem dX0_work_134 : decode cX0_work 134 = .ok (.iaload, 1) := by decide +kernel
theorem dX0_work_135 : decode cX0_work 135 = .ok (.iastore, 1) := by decide +kernel
theorem dX0_work_136 : decode cX0_work 136 = .ok (.aload_n 0, 1) := by decide +kernel
theorem dX0_work_137 : decode cX0_work 137 = .ok (.getfield 31, 3) := by decide +kernel
theorem dX0_work_140 : decode cX0_work 140 = .ok (.aload_n 0, 1) := by decide +kernel
theorem dX0_work_141 : decode cX0_work 141 = .ok (.getfield 74, 3) := by decide +kernel
theorem dX0_work_144 : decode cX0_work 144 = .ok (.iconst 2, 1) := by decide +kernel
theorem dX0_work_145 : decode cX0_work 145 = .ok (.isub, 1) := by decide +kernel
theorem dX0_work_146 : decode cX0_work 146 = .ok (.iload_n 3, 1) := by decide +kernel
theorem dX0_work_147 : decode cX0_work 147 = .ok (.iastore, 1) := by decide +kernel
theorem dX0_work_148 : decode cX0_work 148 = .ok (.goto 63, 3) := by decide +kernel
theorem dX0_work_151 : decode cX0_work 151 = .ok (.iload_n 2, 1) := by decide +kernel
theorem dX0_work_152 : decode cX0_work 152 = .ok (.bipush 8, 2) := by decide +kernel
theorem dX0_work_154 : decode cX0_work 154 = .ok (.if_icmp .ne 21, 3) := by decide +kernel
theorem dX0_work_157 : decode cX0_work 157 = .ok (.aload_n 0, 1) := by decide +kernel
theorem dX0_work_158 : decode cX0_work 158 = .ok (.aload_n 0, 1) := by decide +kernel
theorem dX0_work_159 : decode cX0_work 159 = .ok (.getfield 16, 3) := by decide +kernel
theorem dX0_work_162 : decode cX0_work 162 = .ok (.aload_n 0, 1) := by decide +kernel
theorem dX0_work_163 : decode cX0_work 163 = .ok (.getfield 13, 3) := by decide +kernel
theorem dX0_work_166 : decode cX0_work 166 = .ok (.iload_n 1, 1) := by decide +kernel
theorem dX0_work_167 : decode cX0_work 167 = .ok (.iaload, 1) := by decide +kernel
theorem dX0_work_168 : decode cX0_work 168 = .ok (.iaload, 1) := by decide +kernel
theorem dX0_work_169 : decode cX0_work 169 = .ok (.invokevirtual 77, 3) := by decide +kernel
theorem dX0_work_172 : decode cX0_work 172 = .ok (.goto 39, 3) := by decide +kernel
theorem dX0_work_175 : decode cX0_work 175 = .ok (.aload_n 0, 1) := by decide +kernel
theorem dX0_work_176 : decode cX0_work 176 = .ok (.dup, 1) := by decide +kernel
theorem dX0_work_177 : decode cX0_work 177 = .ok (.getfield 74, 3) := by decide +kernel
theorem dX0_work_180 : decode cX0_work 180 = .ok (.iconst 1, 1) := by decide +kernel
theorem dX0_work_181 : decode cX0_work 181 = .ok (.isub, 1) := by decide +kernel
theorem dX0_work_182 : decode cX0_work 182 = .ok (.putfield 74, 3) := by decide +kernel
theorem dX0_work_185 : decode cX0_work 185 = .ok (.iload_n 2, 1) := by decide +kernel
theorem dX0_work_186 : decode cX0_work 186 = .ok (.bipush 9, 2) := by decide +kernel
theorem dX0_work_188 : decode cX0_work 188 = .ok (.if_icmp .ne 23, 3) := by decide +kernel
theorem dX0_work_191 : decode cX0_work 191 = .ok (.aload_n 0, 1) := by decide +kernel
theorem dX0_work_192 : decode cX0_work 192 = .ok (.getfield 16, 3) := by decide +kernel
theorem dX0_work_195 : decode cX0_work 195 = .ok (.aload_n 0, 1) := by decide +kernel
theorem dX0_work_196 : decode cX0_work 196 = .ok (.getfield 13, 3) := by decide +kernel
theorem dX0_work_199 : decode cX0_work 199 = .ok (.iload_n 1, 1) := by decide +kernel
theorem dX0_work_200 : decode cX0_work 200 = .ok (.iaload, 1) := by decide +kernel
theorem dX0_work_201 : decode cX0_work 201 = .ok (.aload_n 0, 1) := by decide +kernel
theorem dX0_work_202 : decode cX0_work 202 = .ok (.getfield 31, 3) := by decide +kernel
theorem dX0_work_205 : decode cX0_work 205 = .ok (.aload_n 0, 1) := by decide +kernel
theorem dX0_work_206 : decode cX0_work 206 = .ok (.getfield 74, 3) := by decide +kernel
theorem dX0_work_209 : decode cX0_work 209 = .ok (.iaload, 1) := by decide +kernel
theorem dX0_work_210 : decode cX0_work 210 = .ok (.iastore, 1) := by decide +kernel
theorem dX0_work_211 : decode cX0_work 211 = .ok (.return_, 1) := by decide +kernel
abbrev cX0_put : ByteArray := prog_1_method_17_code
def yX0_put : MethodName := ⟨RX0, "put", "(I)V"⟩
theorem dX0_put_0 : decode cX0_put 0 = .ok (.aload_n 0, 1) := by decide +kernel
theorem dX0_put_1 : decode cX0_put 1 = .ok (.getfield 31, 3) := by decide +kernel
theorem dX0_put_4 : decode cX0_put 4 = .ok (.aload_n 0, 1) := by decide +kernel
theorem dX0_put_5 : decode cX0_put 5 = .ok (.getfield 74, 3) := by decide +kernel
theorem dX0_put_8 : decode cX0_put 8 = .ok (.iload_n 1, 1) := by decide +kernel
theorem dX0_put_9 : decode cX0_put 9 = .ok (.iastore, 1) := by decide +kernel
theorem dX0_put_10 : decode cX0_put 10 = .ok (.aload_n 0, 1) := by decide +kernel
theorem dX0_put_11 : decode cX0_put 11 = .ok (.dup, 1) := by decide +kernel
theorem dX0_put_12 : decode cX0_put 12 = .ok (.getfield 74, 3) := by decide +kernel
theorem dX0_put_15 : decode cX0_put 15 = .ok (.iconst 1, 1) := by decide +kernel
theorem dX0_put_16 : decode cX0_put 16 = .ok (.iadd, 1) := by decide +kernel
theorem dX0_put_17 : decode cX0_put 17 = .ok (.putfield 74, 3) := by decide +kernel
theorem dX0_put_20 : decode cX0_put 20 = .ok (.return_, 1) := by decide +kernel
abbrev cX0_combined : ByteArray := prog_1_method_18_code
def yX0_combined : MethodName := ⟨RX0, "combined", "(III)I"⟩
theorem dX0_combined_0 : decode cX0_combined 0 = .ok (.iload_n 1, 1) := by decide +kernel
theorem dX0_combined_1 : decode cX0_combined 1 = .ok (.iconst 1, 1) := by decide +kernel
theorem dX0_combined_2 : decode cX0_combined 2 = .ok (.if_icmp .ne 7, 3) := by decide +kernel
theorem dX0_combined_5 : decode cX0_combined 5 = .ok (.iload_n 2, 1) := by decide +kernel
theorem dX0_combined_6 : decode cX0_combined 6 = .ok (.iload_n 3, 1) := by decide +kernel
theorem dX0_combined_7 : decode cX0_combined 7 = .ok (.iadd, 1) := by decide +kernel
theorem dX0_combined_8 : decode cX0_combined 8 = .ok (.ireturn, 1) := by decide +kernel
theorem dX0_combined_9 : decode cX0_combined 9 = .ok (.iload_n 1, 1) := by decide +kernel
theorem dX0_combined_10 : decode cX0_combined 10 = .ok (.iconst 2, 1) := by decide +kernel
theorem dX0_combined_11 : decode cX0_combined 11 = .ok (.if_icmp .ne 7, 3) := by decide +kernel
theorem dX0_combined_14 : decode cX0_combined 14 = .ok (.iload_n 2, 1) := by decide +kernel
theorem dX0_combined_15 : decode cX0_combined 15 = .ok (.iload_n 3, 1) := by decide +kernel
theorem dX0_combined_16 : decode cX0_combined 16 = .ok (.isub, 1) := by decide +kernel
theorem dX0_combined_17 : decode cX0_combined 17 = .ok (.ireturn, 1) := by decide +kernel
theorem dX0_combined_18 : decode cX0_combined 18 = .ok (.iload_n 1, 1) := by decide +kernel
theorem dX0_combined_19 : decode cX0_combined 19 = .ok (.iconst 3, 1) := by decide +kernel
theorem dX0_combined_20 : decode cX0_combined 20 = .ok (.if_icmp .ne 7, 3) := by decide +kernel
theorem dX0_combined_23 : decode cX0_combined 23 = .ok (.iload_n 2, 1) := by decide +kernel
theorem dX0_combined_24 : decode cX0_combined 24 = .ok (.iload_n 3, 1) := by decide +kernel
theorem dX0_combined_25 : decode cX0_combined 25 = .ok (.imul, 1) := by decide +kernel
theorem dX0_combined_26 : decode cX0_combined 26 = .ok (.ireturn, 1) := by decide +kernel
theorem dX0_combined_27 : decode cX0_combined 27 = .ok (.iload_n 2, 1) := by decide +kernel
theorem dX0_combined_28 : decode cX0_combined 28 = .ok (.iload_n 3, 1) := by decide +kernel
theorem dX0_combined_29 : decode cX0_combined 29 = .ok (.if_icmp .ge 7, 3) := by decide +kernel
theorem dX0_combined_32 : decode cX0_combined 32 = .ok (.iconst 1, 1) := by decide +kernel
theorem dX0_combined_33 : decode cX0_combined 33 = .ok (.goto 4, 3) := by decide +kernel
theorem dX0_combined_36 : decode cX0_combined 36 = .ok (.iconst 0, 1) := by decide +kernel
theorem dX0_combined_37 : decode cX0_combined 37 = .ok (.ireturn, 1) := by decide +kernel
abbrev cX0_step : ByteArray := prog_1_method_21_code
def yX0_step : MethodName := ⟨RX0, "step", "()V"⟩
theorem dX0_step_0 : decode cX0_step 0 = .ok (.aload_n 0, 1) := by decide +kernel
theorem dX0_step_1 : decode cX0_step 1 = .ok (.getfield 84, 3) := by decide +kernel
theorem dX0_step_4 : decode cX0_step 4 = .ok (.istore_n 1, 1) := by decide +kernel
theorem dX0_step_5 : decode cX0_step 5 = .ok (.aload_n 0, 1) := by decide +kernel
theorem dX0_step_6 : decode cX0_step 6 = .ok (.getfield 7, 3) := by decide +kernel
theorem dX0_step_9 : decode cX0_step 9 = .ok (.iload_n 1, 1) := by decide +kernel
theorem dX0_step_10 : decode cX0_step 10 = .ok (.iaload, 1) := by decide +kernel
theorem dX0_step_11 : decode cX0_step 11 = .ok (.istore_n 2, 1) := by decide +kernel
theorem dX0_step_12 : decode cX0_step 12 = .ok (.aload_n 0, 1) := by decide +kernel
theorem dX0_step_13 : decode cX0_step 13 = .ok (.getfield 74, 3) := by decide +kernel
theorem dX0_step_16 : decode cX0_step 16 = .ok (.aload_n 0, 1) := by decide +kernel
theorem dX0_step_17 : decode cX0_step 17 = .ok (.iload_n 2, 1) := by decide +kernel
theorem dX0_step_18 : decode cX0_step 18 = .ok (.invokevirtual 64, 3) := by decide +kernel
theorem dX0_step_21 : decode cX0_step 21 = .ok (.if_icmp .lt 24, 3) := by decide +kernel
theorem dX0_step_24 : decode cX0_step 24 = .ok (.aload_n 0, 1) := by decide +kernel
theorem dX0_step_25 : decode cX0_step 25 = .ok (.getfield 74, 3) := by decide +kernel
theorem dX0_step_28 : decode cX0_step 28 = .ok (.aload_n 0, 1) := by decide +kernel
theorem dX0_step_29 : decode cX0_step 29 = .ok (.iload_n 2, 1) := by decide +kernel
theorem dX0_step_30 : decode cX0_step 30 = .ok (.invokevirtual 64, 3) := by decide +kernel
theorem dX0_step_33 : decode cX0_step 33 = .ok (.isub, 1) := by decide +kernel
theorem dX0_step_34 : decode cX0_step 34 = .ok (.aload_n 0, 1) := by decide +kernel
theorem dX0_step_35 : decode cX0_step 35 = .ok (.iload_n 2, 1) := by decide +kernel
theorem dX0_step_36 : decode cX0_step 36 = .ok (.invokevirtual 60, 3) := by decide +kernel
theorem dX0_step_39 : decode cX0_step 39 = .ok (.iadd, 1) := by decide +kernel
theorem dX0_step_40 : decode cX0_step 40 = .ok (.bipush 8, 2) := by decide +kernel
theorem dX0_step_42 : decode cX0_step 42 = .ok (.if_icmp .le 9, 3) := by decide +kernel
theorem dX0_step_45 : decode cX0_step 45 = .ok (.aload_n 0, 1) := by decide +kernel
theorem dX0_step_46 : decode cX0_step 46 = .ok (.iconst 3, 1) := by decide +kernel
theorem dX0_step_47 : decode cX0_step 47 = .ok (.putfield 87, 3) := by decide +kernel
theorem dX0_step_50 : decode cX0_step 50 = .ok (.return_, 1) := by decide +kernel
theorem dX0_step_51 : decode cX0_step 51 = .ok (.aload_n 0, 1) := by decide +kernel
theorem dX0_step_52 : decode cX0_step 52 = .ok (.iload_n 2, 1) := by decide +kernel
theorem dX0_step_53 : decode cX0_step 53 = .ok (.invokevirtual 67, 3) := by decide +kernel
theorem dX0_step_56 : decode cX0_step 56 = .ok (.istore_n 3, 1) := by decide +kernel
theorem dX0_step_57 : decode cX0_step 57 = .ok (.iload_n 2, 1) := by decide +kernel
theorem dX0_step_58 : decode cX0_step 58 = .ok (.bipush 12, 2) := by decide +kernel
theorem dX0_step_60 : decode cX0_step 60 = .ok (.if_icmp .ne 20, 3) := by decide +kernel
theorem dX0_step_63 : decode cX0_step 63 = .ok (.iload_n 3, 1) := by decide +kernel
theorem dX0_step_64 : decode cX0_step 64 = .ok (.aload_n 0, 1) := by decide +kernel
theorem dX0_step_65 : decode cX0_step 65 = .ok (.getfield 31, 3) := by decide +kernel
theorem dX0_step_68 : decode cX0_step 68 = .ok (.aload_n 0, 1) := by decide +kernel
theorem dX0_step_69 : decode cX0_step 69 = .ok (.getfield 74, 3) := by decide +kernel
theorem dX0_step_72 : decode cX0_step 72 = .ok (.iconst 1, 1) := by decide +kernel
theorem dX0_step_73 : decode cX0_step 73 = .ok (.isub, 1) := by decide +kernel
theorem dX0_step_74 : decode cX0_step 74 = .ok (.iaload, 1) := by decide +kernel
theorem dX0_step_75 : decode cX0_step 75 = .ok (.bipush 15, 2) := by decide +kernel
theorem dX0_step_77 : decode cX0_step 77 = .ok (.iand, 1) := by decide +kernel
theorem dX0_step_78 : decode cX0_step 78 = .ok (.iadd, 1) := by decide +kernel
theorem dX0_step_79 : decode cX0_step 79 = .ok (.istore_n 3, 1) := by decide +kernel
theorem dX0_step_80 : decode cX0_step 80 = .ok (.iload_n 3, 1) := by decide +kernel
theorem dX0_step_81 : decode cX0_step 81 = .ok (.aload_n 0, 1) := by decide +kernel
theorem dX0_step_82 : decode cX0_step 82 = .ok (.getfield 52, 3) := by decide +kernel
theorem dX0_step_85 : decode cX0_step 85 = .ok (.if_icmp .le 9, 3) := by decide +kernel
theorem dX0_step_88 : decode cX0_step 88 = .ok (.aload_n 0, 1) := by decide +kernel
theorem dX0_step_89 : decode cX0_step 89 = .ok (.iconst 4, 1) := by decide +kernel
theorem dX0_step_90 : decode cX0_step 90 = .ok (.putfield 87, 3) := by decide +kernel
theorem dX0_step_93 : decode cX0_step 93 = .ok (.return_, 1) := by decide +kernel
theorem dX0_step_94 : decode cX0_step 94 = .ok (.aload_n 0, 1) := by decide +kernel
theorem dX0_step_95 : decode cX0_step 95 = .ok (.aload_n 0, 1) := by decide +kernel
theorem dX0_step_96 : decode cX0_step 96 = .ok (.getfield 52, 3) := by decide +kernel
theorem dX0_step_99 : decode cX0_step 99 = .ok (.iload_n 3, 1) := by decide +kernel
theorem dX0_step_100 : decode cX0_step 100 = .ok (.isub, 1) := by decide +kernel
theorem dX0_step_101 : decode cX0_step 101 = .ok (.putfield 52, 3) := by decide +kernel
theorem dX0_step_104 : decode cX0_step 104 = .ok (.aload_n 0, 1) := by decide +kernel
theorem dX0_step_105 : decode cX0_step 105 = .ok (.dup, 1) := by decide +kernel
theorem dX0_step_106 : decode cX0_step 106 = .ok (.getfield 90, 3) := by decide +kernel
theorem dX0_step_109 : decode cX0_step 109 = .ok (.iconst 1, 1) := by decide +kernel
theorem dX0_step_110 : decode cX0_step 110 = .ok (.iadd, 1) := by decide +kernel
theorem dX0_step_111 : decode cX0_step 111 = .ok (.putfield 90, 3) := by decide +kernel
theorem dX0_step_114 : decode cX0_step 114 = .ok (.aload_n 0, 1) := by decide +kernel
theorem dX0_step_115 : decode cX0_step 115 = .ok (.iload_n 2, 1) := by decide +kernel
theorem dX0_step_116 : decode cX0_step 116 = .ok (.invokevirtual 56, 3) := by decide +kernel
theorem dX0_step_119 : decode cX0_step 119 = .ok (.ifCond .eq 11, 3) := by decide +kernel
theorem dX0_step_122 : decode cX0_step 122 = .ok (.aload_n 0, 1) := by decide +kernel
theorem dX0_step_123 : decode cX0_step 123 = .ok (.iload_n 1, 1) := by decide +kernel
theorem dX0_step_124 : decode cX0_step 124 = .ok (.invokevirtual 93, 3) := by decide +kernel
theorem dX0_step_127 : decode cX0_step 127 = .ok (.goto 15, 3) := by decide +kernel
theorem dX0_step_130 : decode cX0_step 130 = .ok (.aload_n 0, 1) := by decide +kernel
theorem dX0_step_131 : decode cX0_step 131 = .ok (.iload_n 1, 1) := by decide +kernel
theorem dX0_step_132 : decode cX0_step 132 = .ok (.invokevirtual 96, 3) := by decide +kernel
theorem dX0_step_135 : decode cX0_step 135 = .ok (.aload_n 0, 1) := by decide +kernel
theorem dX0_step_136 : decode cX0_step 136 = .ok (.iload_n 1, 1) := by decide +kernel
theorem dX0_step_137 : decode cX0_step 137 = .ok (.iconst 1, 1) := by decide +kernel
theorem dX0_step_138 : decode cX0_step 138 = .ok (.iadd, 1) := by decide +kernel
theorem dX0_step_139 : decode cX0_step 139 = .ok (.putfield 84, 3) := by decide +kernel
theorem dX0_step_142 : decode cX0_step 142 = .ok (.return_, 1) := by decide +kernel
abbrev cX0_workBreak : ByteArray := prog_1_method_20_code
def yX0_workBreak : MethodName := ⟨RX0, "workBreak", "(I)V"⟩
theorem dX0_workBreak_0 : decode cX0_workBreak 0 = .ok (.aload_n 0, 1) := by decide +kernel
theorem dX0_workBreak_1 : decode cX0_workBreak 1 = .ok (.getfield 7, 3) := by decide +kernel
theorem dX0_workBreak_4 : decode cX0_workBreak 4 = .ok (.iload_n 1, 1) := by decide +kernel
theorem dX0_workBreak_5 : decode cX0_workBreak 5 = .ok (.iaload, 1) := by decide +kernel
theorem dX0_workBreak_6 : decode cX0_workBreak 6 = .ok (.istore_n 2, 1) := by decide +kernel
theorem dX0_workBreak_7 : decode cX0_workBreak 7 = .ok (.aload_n 0, 1) := by decide +kernel
theorem dX0_workBreak_8 : decode cX0_workBreak 8 = .ok (.iload_n 1, 1) := by decide +kernel
theorem dX0_workBreak_9 : decode cX0_workBreak 9 = .ok (.iconst 1, 1) := by decide +kernel
theorem dX0_workBreak_10 : decode cX0_workBreak 10 = .ok (.iadd, 1) := by decide +kernel
theorem dX0_workBreak_11 : decode cX0_workBreak 11 = .ok (.putfield 84, 3) := by decide +kernel
theorem dX0_workBreak_14 : decode cX0_workBreak 14 = .ok (.iload_n 2, 1) := by decide +kernel
theorem dX0_workBreak_15 : decode cX0_workBreak 15 = .ok (.bipush 10, 2) := by decide +kernel
theorem dX0_workBreak_17 : decode cX0_workBreak 17 = .ok (.if_icmp .ne 16, 3) := by decide +kernel
theorem dX0_workBreak_20 : decode cX0_workBreak 20 = .ok (.aload_n 0, 1) := by decide +kernel
theorem dX0_workBreak_21 : decode cX0_workBreak 21 = .ok (.aload_n 0, 1) := by decide +kernel
theorem dX0_workBreak_22 : decode cX0_workBreak 22 = .ok (.getfield 13, 3) := by decide +kernel
theorem dX0_workBreak_25 : decode cX0_workBreak 25 = .ok (.iload_n 1, 1) := by decide +kernel
theorem dX0_workBreak_26 : decode cX0_workBreak 26 = .ok (.iaload, 1) := by decide +kernel
theorem dX0_workBreak_27 : decode cX0_workBreak 27 = .ok (.putfield 84, 3) := by decide +kernel
theorem dX0_workBreak_30 : decode cX0_workBreak 30 = .ok (.goto 90, 3) := by decide +kernel
theorem dX0_workBreak_33 : decode cX0_workBreak 33 = .ok (.iload_n 2, 1) := by decide +kernel
theorem dX0_workBreak_34 : decode cX0_workBreak 34 = .ok (.bipush 11, 2) := by decide +kernel
theorem dX0_workBreak_36 : decode cX0_workBreak 36 = .ok (.if_icmp .ne 38, 3) := by decide +kernel
theorem dX0_workBreak_39 : decode cX0_workBreak 39 = .ok (.aload_n 0, 1) := by decide +kernel
theorem dX0_workBreak_40 : decode cX0_workBreak 40 = .ok (.dup, 1) := by decide +kernel
theorem dX0_workBreak_41 : decode cX0_workBreak 41 = .ok (.getfield 74, 3) := by decide +kernel
theorem dX0_workBreak_44 : decode cX0_workBreak 44 = .ok (.iconst 1, 1) := by decide +kernel
theorem dX0_workBreak_45 : decode cX0_workBreak 45 = .ok (.isub, 1) := by decide +kernel
theorem dX0_workBreak_46 : decode cX0_workBreak 46 = .ok (.putfield 74, 3) := by decide +kernel
theorem dX0_workBreak_49 : decode cX0_workBreak 49 = .ok (.aload_n 0, 1) := by decide +kernel
theorem dX0_workBreak_50 : decode cX0_workBreak 50 = .ok (.getfield 31, 3) := by decide +kernel
theorem dX0_workBreak_53 : decode cX0_workBreak 53 = .ok (.aload_n 0, 1) := by decide +kernel
theorem dX0_workBreak_54 : decode cX0_workBreak 54 = .ok (.getfield 74, 3) := by decide +kernel
theorem dX0_workBreak_57 : decode cX0_workBreak 57 = .ok (.iaload, 1) := by decide +kernel
theorem dX0_workBreak_58 : decode cX0_workBreak 58 = .ok (.ifCond .eq 62, 3) := by decide +kernel
theorem dX0_workBreak_61 : decode cX0_workBreak 61 = .ok (.aload_n 0, 1) := by decide +kernel
theorem dX0_workBreak_62 : decode cX0_workBreak 62 = .ok (.aload_n 0, 1) := by decide +kernel
theorem dX0_workBreak_63 : decode cX0_workBreak 63 = .ok (.getfield 13, 3) := by decide +kernel
theorem dX0_workBreak_66 : decode cX0_workBreak 66 = .ok (.iload_n 1, 1) := by decide +kernel
theorem dX0_workBreak_67 : decode cX0_workBreak 67 = .ok (.iaload, 1) := by decide +kernel
theorem dX0_workBreak_68 : decode cX0_workBreak 68 = .ok (.putfield 84, 3) := by decide +kernel
theorem dX0_workBreak_71 : decode cX0_workBreak 71 = .ok (.goto 49, 3) := by decide +kernel
theorem dX0_workBreak_74 : decode cX0_workBreak 74 = .ok (.iload_n 2, 1) := by decide +kernel
theorem dX0_workBreak_75 : decode cX0_workBreak 75 = .ok (.bipush 12, 2) := by decide +kernel
theorem dX0_workBreak_77 : decode cX0_workBreak 77 = .ok (.if_icmp .ne 16, 3) := by decide +kernel
theorem dX0_workBreak_80 : decode cX0_workBreak 80 = .ok (.aload_n 0, 1) := by decide +kernel
theorem dX0_workBreak_81 : decode cX0_workBreak 81 = .ok (.dup, 1) := by decide +kernel
theorem dX0_workBreak_82 : decode cX0_workBreak 82 = .ok (.getfield 74, 3) := by decide +kernel
theorem dX0_workBreak_85 : decode cX0_workBreak 85 = .ok (.iconst 1, 1) := by decide +kernel
theorem dX0_workBreak_86 : decode cX0_workBreak 86 = .ok (.isub, 1) := by decide +kernel
theorem dX0_workBreak_87 : decode cX0_workBreak 87 = .ok (.putfield 74, 3) := by decide +kernel
theorem dX0_workBreak_90 : decode cX0_workBreak 90 = .ok (.goto 30, 3) := by decide +kernel
theorem dX0_workBreak_93 : decode cX0_workBreak 93 = .ok (.iload_n 2, 1) := by decide +kernel
theorem dX0_workBreak_94 : decode cX0_workBreak 94 = .ok (.bipush 13, 2) := by decide +kernel
theorem dX0_workBreak_96 : decode cX0_workBreak 96 = .ok (.if_icmp .ne 14, 3) := by decide +kernel
theorem dX0_workBreak_99 : decode cX0_workBreak 99 = .ok (.aload_n 0, 1) := by decide +kernel
theorem dX0_workBreak_100 : decode cX0_workBreak 100 = .ok (.aload_n 0, 1) := by decide +kernel
theorem dX0_workBreak_101 : decode cX0_workBreak 101 = .ok (.getfield 52, 3) := by decide +kernel
theorem dX0_workBreak_104 : decode cX0_workBreak 104 = .ok (.invokevirtual 77, 3) := by decide +kernel
theorem dX0_workBreak_107 : decode cX0_workBreak 107 = .ok (.goto 13, 3) := by decide +kernel
theorem dX0_workBreak_110 : decode cX0_workBreak 110 = .ok (.aload_n 0, 1) := by decide +kernel
theorem dX0_workBreak_111 : decode cX0_workBreak 111 = .ok (.iload_n 1, 1) := by decide +kernel
theorem dX0_workBreak_112 : decode cX0_workBreak 112 = .ok (.putfield 84, 3) := by decide +kernel
theorem dX0_workBreak_115 : decode cX0_workBreak 115 = .ok (.aload_n 0, 1) := by decide +kernel
theorem dX0_workBreak_116 : decode cX0_workBreak 116 = .ok (.iconst 1, 1) := by decide +kernel
theorem dX0_workBreak_117 : decode cX0_workBreak 117 = .ok (.putfield 87, 3) := by decide +kernel
theorem dX0_workBreak_120 : decode cX0_workBreak 120 = .ok (.return_, 1) := by decide +kernel
abbrev cX0_ending : ByteArray := prog_1_method_26_code
def yX0_ending : MethodName := ⟨RX0, "ending", "()I"⟩
theorem dX0_ending_0 : decode cX0_ending 0 = .ok (.aload_n 0, 1) := by decide +kernel
theorem dX0_ending_1 : decode cX0_ending 1 = .ok (.getfield 87, 3) := by decide +kernel
theorem dX0_ending_4 : decode cX0_ending 4 = .ok (.ireturn, 1) := by decide +kernel
abbrev cX0_place : ByteArray := prog_1_method_27_code
def yX0_place : MethodName := ⟨RX0, "place", "()I"⟩
theorem dX0_place_0 : decode cX0_place 0 = .ok (.aload_n 0, 1) := by decide +kernel
theorem dX0_place_1 : decode cX0_place 1 = .ok (.getfield 84, 3) := by decide +kernel
theorem dX0_place_4 : decode cX0_place 4 = .ok (.ireturn, 1) := by decide +kernel
abbrev cX0_steps : ByteArray := prog_1_method_28_code
def yX0_steps : MethodName := ⟨RX0, "steps", "()I"⟩
theorem dX0_steps_0 : decode cX0_steps 0 = .ok (.aload_n 0, 1) := by decide +kernel
theorem dX0_steps_1 : decode cX0_steps 1 = .ok (.getfield 90, 3) := by decide +kernel
theorem dX0_steps_4 : decode cX0_steps 4 = .ok (.ireturn, 1) := by decide +kernel
abbrev cX0_spent : ByteArray := prog_1_method_29_code
def yX0_spent : MethodName := ⟨RX0, "spent", "()I"⟩
theorem dX0_spent_0 : decode cX0_spent 0 = .ok (.aload_n 0, 1) := by decide +kernel
theorem dX0_spent_1 : decode cX0_spent 1 = .ok (.getfield 115, 3) := by decide +kernel
theorem dX0_spent_4 : decode cX0_spent 4 = .ok (.ireturn, 1) := by decide +kernel
abbrev cX0_height : ByteArray := prog_1_method_30_code
def yX0_height : MethodName := ⟨RX0, "height", "()I"⟩
theorem dX0_height_0 : decode cX0_height 0 = .ok (.aload_n 0, 1) := by decide +kernel
theorem dX0_height_1 : decode cX0_height 1 = .ok (.getfield 74, 3) := by decide +kernel
theorem dX0_height_4 : decode cX0_height 4 = .ok (.ireturn, 1) := by decide +kernel
abbrev cX0_pile : ByteArray := prog_1_method_31_code
def yX0_pile : MethodName := ⟨RX0, "pile", "(I)I"⟩
theorem dX0_pile_0 : decode cX0_pile 0 = .ok (.iload_n 1, 1) := by decide +kernel
theorem dX0_pile_1 : decode cX0_pile 1 = .ok (.ifCond .lt 11, 3) := by decide +kernel
theorem dX0_pile_4 : decode cX0_pile 4 = .ok (.iload_n 1, 1) := by decide +kernel
theorem dX0_pile_5 : decode cX0_pile 5 = .ok (.aload_n 0, 1) := by decide +kernel
theorem dX0_pile_6 : decode cX0_pile 6 = .ok (.getfield 74, 3) := by decide +kernel
theorem dX0_pile_9 : decode cX0_pile 9 = .ok (.if_icmp .lt 7, 3) := by decide +kernel
theorem dX0_pile_12 : decode cX0_pile 12 = .ok (.iconst 0, 1) := by decide +kernel
theorem dX0_pile_13 : decode cX0_pile 13 = .ok (.goto 9, 3) := by decide +kernel
theorem dX0_pile_16 : decode cX0_pile 16 = .ok (.aload_n 0, 1) := by decide +kernel
theorem dX0_pile_17 : decode cX0_pile 17 = .ok (.getfield 31, 3) := by decide +kernel
theorem dX0_pile_20 : decode cX0_pile 20 = .ok (.iload_n 1, 1) := by decide +kernel
theorem dX0_pile_21 : decode cX0_pile 21 = .ok (.iaload, 1) := by decide +kernel
theorem dX0_pile_22 : decode cX0_pile 22 = .ok (.ireturn, 1) := by decide +kernel
abbrev cX0_bill : ByteArray := prog_1_method_32_code
def yX0_bill : MethodName := ⟨RX0, "bill", "()I"⟩
theorem dX0_bill_0 : decode cX0_bill 0 = .ok (.iconst 0, 1) := by decide +kernel
theorem dX0_bill_1 : decode cX0_bill 1 = .ok (.istore_n 1, 1) := by decide +kernel
theorem dX0_bill_2 : decode cX0_bill 2 = .ok (.iload_n 1, 1) := by decide +kernel
theorem dX0_bill_3 : decode cX0_bill 3 = .ok (.aload_n 0, 1) := by decide +kernel
theorem dX0_bill_4 : decode cX0_bill 4 = .ok (.getfield 44, 3) := by decide +kernel
theorem dX0_bill_7 : decode cX0_bill 7 = .ok (.if_icmp .ge 22, 3) := by decide +kernel
theorem dX0_bill_10 : decode cX0_bill 10 = .ok (.aload_n 0, 1) := by decide +kernel
theorem dX0_bill_11 : decode cX0_bill 11 = .ok (.getfield 7, 3) := by decide +kernel
theorem dX0_bill_14 : decode cX0_bill 14 = .ok (.iload_n 1, 1) := by decide +kernel
theorem dX0_bill_15 : decode cX0_bill 15 = .ok (.iaload, 1) := by decide +kernel
theorem dX0_bill_16 : decode cX0_bill 16 = .ok (.bipush 13, 2) := by decide +kernel
theorem dX0_bill_18 : decode cX0_bill 18 = .ok (.if_icmp .ne 5, 3) := by decide +kernel
theorem dX0_bill_21 : decode cX0_bill 21 = .ok (.iconst (-1), 1) := by decide +kernel
theorem dX0_bill_22 : decode cX0_bill 22 = .ok (.ireturn, 1) := by decide +kernel
theorem dX0_bill_23 : decode cX0_bill 23 = .ok (.iinc 1 1, 3) := by decide +kernel
theorem dX0_bill_26 : decode cX0_bill 26 = .ok (.goto (-24), 3) := by decide +kernel
theorem dX0_bill_29 : decode cX0_bill 29 = .ok (.iconst 0, 1) := by decide +kernel
theorem dX0_bill_30 : decode cX0_bill 30 = .ok (.istore_n 1, 1) := by decide +kernel
theorem dX0_bill_31 : decode cX0_bill 31 = .ok (.iload_n 1, 1) := by decide +kernel
theorem dX0_bill_32 : decode cX0_bill 32 = .ok (.iconst 4, 1) := by decide +kernel
theorem dX0_bill_33 : decode cX0_bill 33 = .ok (.if_icmp .ge 21, 3) := by decide +kernel
theorem dX0_bill_36 : decode cX0_bill 36 = .ok (.aload_n 0, 1) := by decide +kernel
theorem dX0_bill_37 : decode cX0_bill 37 = .ok (.getfield 34, 3) := by decide +kernel
theorem dX0_bill_40 : decode cX0_bill 40 = .ok (.iload_n 1, 1) := by decide +kernel
theorem dX0_bill_41 : decode cX0_bill 41 = .ok (.aload_n 0, 1) := by decide +kernel
theorem dX0_bill_42 : decode cX0_bill 42 = .ok (.getfield 16, 3) := by decide +kernel
theorem dX0_bill_45 : decode cX0_bill 45 = .ok (.iload_n 1, 1) := by decide +kernel
theorem dX0_bill_46 : decode cX0_bill 46 = .ok (.iaload, 1) := by decide +kernel
theorem dX0_bill_47 : decode cX0_bill 47 = .ok (.iastore, 1) := by decide +kernel
theorem dX0_bill_48 : decode cX0_bill 48 = .ok (.iinc 1 1, 3) := by decide +kernel
theorem dX0_bill_51 : decode cX0_bill 51 = .ok (.goto (-20), 3) := by decide +kernel
theorem dX0_bill_54 : decode cX0_bill 54 = .ok (.iconst 0, 1) := by decide +kernel
theorem dX0_bill_55 : decode cX0_bill 55 = .ok (.istore_n 1, 1) := by decide +kernel
theorem dX0_bill_56 : decode cX0_bill 56 = .ok (.iload_n 1, 1) := by decide +kernel
theorem dX0_bill_57 : decode cX0_bill 57 = .ok (.bipush 8, 2) := by decide +kernel
theorem dX0_bill_59 : decode cX0_bill 59 = .ok (.if_icmp .ge 21, 3) := by decide +kernel
theorem dX0_bill_62 : decode cX0_bill 62 = .ok (.aload_n 0, 1) := by decide +kernel
theorem dX0_bill_63 : decode cX0_bill 63 = .ok (.getfield 37, 3) := by decide +kernel
theorem dX0_bill_66 : decode cX0_bill 66 = .ok (.iload_n 1, 1) := by decide +kernel
theorem dX0_bill_67 : decode cX0_bill 67 = .ok (.aload_n 0, 1) := by decide +kernel
theorem dX0_bill_68 : decode cX0_bill 68 = .ok (.getfield 31, 3) := by decide +kernel
theorem dX0_bill_71 : decode cX0_bill 71 = .ok (.iload_n 1, 1) := by decide +kernel
theorem dX0_bill_72 : decode cX0_bill 72 = .ok (.iaload, 1) := by decide +kernel
theorem dX0_bill_73 : decode cX0_bill 73 = .ok (.iastore, 1) := by decide +kernel
theorem dX0_bill_74 : decode cX0_bill 74 = .ok (.iinc 1 1, 3) := by decide +kernel
theorem dX0_bill_77 : decode cX0_bill 77 = .ok (.goto (-21), 3) := by decide +kernel
theorem dX0_bill_80 : decode cX0_bill 80 = .ok (.aload_n 0, 1) := by decide +kernel
theorem dX0_bill_81 : decode cX0_bill 81 = .ok (.getfield 52, 3) := by decide +kernel
theorem dX0_bill_84 : decode cX0_bill 84 = .ok (.istore_n 1, 1) := by decide +kernel
theorem dX0_bill_85 : decode cX0_bill 85 = .ok (.aload_n 0, 1) := by decide +kernel
theorem dX0_bill_86 : decode cX0_bill 86 = .ok (.getfield 84, 3) := by decide +kernel
theorem dX0_bill_89 : decode cX0_bill 89 = .ok (.istore_n 2, 1) := by decide +kernel
theorem dX0_bill_90 : decode cX0_bill 90 = .ok (.aload_n 0, 1) := by decide +kernel
theorem dX0_bill_91 : decode cX0_bill 91 = .ok (.getfield 87, 3) := by decide +kernel
theorem dX0_bill_94 : decode cX0_bill 94 = .ok (.istore_n 3, 1) := by decide +kernel
theorem dX0_bill_95 : decode cX0_bill 95 = .ok (.aload_n 0, 1) := by decide +kernel
theorem dX0_bill_96 : decode cX0_bill 96 = .ok (.getfield 90, 3) := by decide +kernel
theorem dX0_bill_99 : decode cX0_bill 99 = .ok (.istore 4, 2) := by decide +kernel
theorem dX0_bill_101 : decode cX0_bill 101 = .ok (.aload_n 0, 1) := by decide +kernel
theorem dX0_bill_102 : decode cX0_bill 102 = .ok (.getfield 74, 3) := by decide +kernel
theorem dX0_bill_105 : decode cX0_bill 105 = .ok (.istore 5, 2) := by decide +kernel
theorem dX0_bill_107 : decode cX0_bill 107 = .ok (.aload_n 0, 1) := by decide +kernel
theorem dX0_bill_108 : decode cX0_bill 108 = .ok (.ldc 118, 2) := by decide +kernel
theorem dX0_bill_110 : decode cX0_bill 110 = .ok (.putfield 52, 3) := by decide +kernel
theorem dX0_bill_113 : decode cX0_bill 113 = .ok (.aload_n 0, 1) := by decide +kernel
theorem dX0_bill_114 : decode cX0_bill 114 = .ok (.invokevirtual 112, 3) := by decide +kernel
theorem dX0_bill_117 : decode cX0_bill 117 = .ok (.ldc 118, 2) := by decide +kernel
theorem dX0_bill_119 : decode cX0_bill 119 = .ok (.aload_n 0, 1) := by decide +kernel
theorem dX0_bill_120 : decode cX0_bill 120 = .ok (.getfield 52, 3) := by decide +kernel
theorem dX0_bill_123 : decode cX0_bill 123 = .ok (.isub, 1) := by decide +kernel
theorem dX0_bill_124 : decode cX0_bill 124 = .ok (.istore 6, 2) := by decide +kernel
theorem dX0_bill_126 : decode cX0_bill 126 = .ok (.iconst 0, 1) := by decide +kernel
theorem dX0_bill_127 : decode cX0_bill 127 = .ok (.istore 7, 2) := by decide +kernel
theorem dX0_bill_129 : decode cX0_bill 129 = .ok (.iload 7, 2) := by decide +kernel
theorem dX0_bill_131 : decode cX0_bill 131 = .ok (.iconst 4, 1) := by decide +kernel
theorem dX0_bill_132 : decode cX0_bill 132 = .ok (.if_icmp .ge 23, 3) := by decide +kernel
theorem dX0_bill_135 : decode cX0_bill 135 = .ok (.aload_n 0, 1) := by decide +kernel
theorem dX0_bill_136 : decode cX0_bill 136 = .ok (.getfield 16, 3) := by decide +kernel
theorem dX0_bill_139 : decode cX0_bill 139 = .ok (.iload 7, 2) := by decide +kernel
theorem dX0_bill_141 : decode cX0_bill 141 = .ok (.aload_n 0, 1) := by decide +kernel
theorem dX0_bill_142 : decode cX0_bill 142 = .ok (.getfield 34, 3) := by decide +kernel
theorem dX0_bill_145 : decode cX0_bill 145 = .ok (.iload 7, 2) := by decide +kernel
theorem dX0_bill_147 : decode cX0_bill 147 = .ok (.iaload, 1) := by decide +kernel
theorem dX0_bill_148 : decode cX0_bill 148 = .ok (.iastore, 1) := by decide +kernel
theorem dX0_bill_149 : decode cX0_bill 149 = .ok (.iinc 7 1, 3) := by decide +kernel
theorem dX0_bill_152 : decode cX0_bill 152 = .ok (.goto (-23), 3) := by decide +kernel
theorem dX0_bill_155 : decode cX0_bill 155 = .ok (.iconst 0, 1) := by decide +kernel
theorem dX0_bill_156 : decode cX0_bill 156 = .ok (.istore 7, 2) := by decide +kernel
theorem dX0_bill_158 : decode cX0_bill 158 = .ok (.iload 7, 2) := by decide +kernel
theorem dX0_bill_160 : decode cX0_bill 160 = .ok (.bipush 8, 2) := by decide +kernel
theorem dX0_bill_162 : decode cX0_bill 162 = .ok (.if_icmp .ge 23, 3) := by decide +kernel
theorem dX0_bill_165 : decode cX0_bill 165 = .ok (.aload_n 0, 1) := by decide +kernel
theorem dX0_bill_166 : decode cX0_bill 166 = .ok (.getfield 31, 3) := by decide +kernel
theorem dX0_bill_169 : decode cX0_bill 169 = .ok (.iload 7, 2) := by decide +kernel
theorem dX0_bill_171 : decode cX0_bill 171 = .ok (.aload_n 0, 1) := by decide +kernel
theorem dX0_bill_172 : decode cX0_bill 172 = .ok (.getfield 37, 3) := by decide +kernel
theorem dX0_bill_175 : decode cX0_bill 175 = .ok (.iload 7, 2) := by decide +kernel
theorem dX0_bill_177 : decode cX0_bill 177 = .ok (.iaload, 1) := by decide +kernel
theorem dX0_bill_178 : decode cX0_bill 178 = .ok (.iastore, 1) := by decide +kernel
theorem dX0_bill_179 : decode cX0_bill 179 = .ok (.iinc 7 1, 3) := by decide +kernel
theorem dX0_bill_182 : decode cX0_bill 182 = .ok (.goto (-24), 3) := by decide +kernel
theorem dX0_bill_185 : decode cX0_bill 185 = .ok (.aload_n 0, 1) := by decide +kernel
theorem dX0_bill_186 : decode cX0_bill 186 = .ok (.iload_n 1, 1) := by decide +kernel
theorem dX0_bill_187 : decode cX0_bill 187 = .ok (.putfield 52, 3) := by decide +kernel
theorem dX0_bill_190 : decode cX0_bill 190 = .ok (.aload_n 0, 1) := by decide +kernel
theorem dX0_bill_191 : decode cX0_bill 191 = .ok (.iload_n 2, 1) := by decide +kernel
theorem dX0_bill_192 : decode cX0_bill 192 = .ok (.putfield 84, 3) := by decide +kernel
theorem dX0_bill_195 : decode cX0_bill 195 = .ok (.aload_n 0, 1) := by decide +kernel
theorem dX0_bill_196 : decode cX0_bill 196 = .ok (.iload_n 3, 1) := by decide +kernel
theorem dX0_bill_197 : decode cX0_bill 197 = .ok (.putfield 87, 3) := by decide +kernel
theorem dX0_bill_200 : decode cX0_bill 200 = .ok (.aload_n 0, 1) := by decide +kernel
theorem dX0_bill_201 : decode cX0_bill 201 = .ok (.iload 4, 2) := by decide +kernel
theorem dX0_bill_203 : decode cX0_bill 203 = .ok (.putfield 90, 3) := by decide +kernel
theorem dX0_bill_206 : decode cX0_bill 206 = .ok (.aload_n 0, 1) := by decide +kernel
theorem dX0_bill_207 : decode cX0_bill 207 = .ok (.iload 5, 2) := by decide +kernel
theorem dX0_bill_209 : decode cX0_bill 209 = .ok (.putfield 74, 3) := by decide +kernel
theorem dX0_bill_212 : decode cX0_bill 212 = .ok (.iload 6, 2) := by decide +kernel
theorem dX0_bill_214 : decode cX0_bill 214 = .ok (.ireturn, 1) := by decide +kernel
end
section
set_option maxRecDepth 100000
abbrev cX1_init : ByteArray := prog_3_method_1_code
def yX1_init : MethodName := ⟨RX1, "<init>", "()V"⟩
theorem dX1_init_0 : decode cX1_init 0 = .ok (.aload_n 0, 1) := by decide +kernel
theorem dX1_init_1 : decode cX1_init 1 = .ok (.invokespecial 1, 3) := by decide +kernel
theorem dX1_init_4 : decode cX1_init 4 = .ok (.aload_n 0, 1) := by decide +kernel
theorem dX1_init_5 : decode cX1_init 5 = .ok (.bipush 20, 2) := by decide +kernel
theorem dX1_init_7 : decode cX1_init 7 = .ok (.newarray .int, 2) := by decide +kernel
theorem dX1_init_9 : decode cX1_init 9 = .ok (.putfield 7, 3) := by decide +kernel
theorem dX1_init_12 : decode cX1_init 12 = .ok (.aload_n 0, 1) := by decide +kernel
theorem dX1_init_13 : decode cX1_init 13 = .ok (.bipush 20, 2) := by decide +kernel
theorem dX1_init_15 : decode cX1_init 15 = .ok (.newarray .int, 2) := by decide +kernel
theorem dX1_init_17 : decode cX1_init 17 = .ok (.putfield 13, 3) := by decide +kernel
theorem dX1_init_20 : decode cX1_init 20 = .ok (.aload_n 0, 1) := by decide +kernel
theorem dX1_init_21 : decode cX1_init 21 = .ok (.iconst 4, 1) := by decide +kernel
theorem dX1_init_22 : decode cX1_init 22 = .ok (.newarray .int, 2) := by decide +kernel
theorem dX1_init_24 : decode cX1_init 24 = .ok (.putfield 16, 3) := by decide +kernel
theorem dX1_init_27 : decode cX1_init 27 = .ok (.aload_n 0, 1) := by decide +kernel
theorem dX1_init_28 : decode cX1_init 28 = .ok (.bipush 8, 2) := by decide +kernel
theorem dX1_init_30 : decode cX1_init 30 = .ok (.newarray .int, 2) := by decide +kernel
theorem dX1_init_32 : decode cX1_init 32 = .ok (.putfield 19, 3) := by decide +kernel
theorem dX1_init_35 : decode cX1_init 35 = .ok (.aload_n 0, 1) := by decide +kernel
theorem dX1_init_36 : decode cX1_init 36 = .ok (.iconst 4, 1) := by decide +kernel
theorem dX1_init_37 : decode cX1_init 37 = .ok (.newarray .int, 2) := by decide +kernel
theorem dX1_init_39 : decode cX1_init 39 = .ok (.putfield 22, 3) := by decide +kernel
theorem dX1_init_42 : decode cX1_init 42 = .ok (.aload_n 0, 1) := by decide +kernel
theorem dX1_init_43 : decode cX1_init 43 = .ok (.bipush 8, 2) := by decide +kernel
theorem dX1_init_45 : decode cX1_init 45 = .ok (.newarray .int, 2) := by decide +kernel
theorem dX1_init_47 : decode cX1_init 47 = .ok (.putfield 25, 3) := by decide +kernel
theorem dX1_init_50 : decode cX1_init 50 = .ok (.return_, 1) := by decide +kernel
abbrev cX1_append : ByteArray := prog_3_method_3_code
def yX1_append : MethodName := ⟨RX1, "append", "(II)I"⟩
theorem dX1_append_0 : decode cX1_append 0 = .ok (.aload_n 0, 1) := by decide +kernel
theorem dX1_append_1 : decode cX1_append 1 = .ok (.iload_n 1, 1) := by decide +kernel
theorem dX1_append_2 : decode cX1_append 2 = .ok (.iload_n 2, 1) := by decide +kernel
theorem dX1_append_3 : decode cX1_append 3 = .ok (.invokevirtual 28, 3) := by decide +kernel
theorem dX1_append_6 : decode cX1_append 6 = .ok (.ifCond .ne 5, 3) := by decide +kernel
theorem dX1_append_9 : decode cX1_append 9 = .ok (.iconst (-1), 1) := by decide +kernel
theorem dX1_append_10 : decode cX1_append 10 = .ok (.ireturn, 1) := by decide +kernel
theorem dX1_append_11 : decode cX1_append 11 = .ok (.aload_n 0, 1) := by decide +kernel
theorem dX1_append_12 : decode cX1_append 12 = .ok (.getfield 32, 3) := by decide +kernel
theorem dX1_append_15 : decode cX1_append 15 = .ok (.bipush 20, 2) := by decide +kernel
theorem dX1_append_17 : decode cX1_append 17 = .ok (.if_icmp .ne 6, 3) := by decide +kernel
theorem dX1_append_20 : decode cX1_append 20 = .ok (.bipush (-2), 2) := by decide +kernel
theorem dX1_append_22 : decode cX1_append 22 = .ok (.ireturn, 1) := by decide +kernel
theorem dX1_append_23 : decode cX1_append 23 = .ok (.aload_n 0, 1) := by decide +kernel
theorem dX1_append_24 : decode cX1_append 24 = .ok (.getfield 7, 3) := by decide +kernel
theorem dX1_append_27 : decode cX1_append 27 = .ok (.aload_n 0, 1) := by decide +kernel
theorem dX1_append_28 : decode cX1_append 28 = .ok (.getfield 32, 3) := by decide +kernel
theorem dX1_append_31 : decode cX1_append 31 = .ok (.iload_n 1, 1) := by decide +kernel
theorem dX1_append_32 : decode cX1_append 32 = .ok (.iastore, 1) := by decide +kernel
theorem dX1_append_33 : decode cX1_append 33 = .ok (.aload_n 0, 1) := by decide +kernel
theorem dX1_append_34 : decode cX1_append 34 = .ok (.getfield 13, 3) := by decide +kernel
theorem dX1_append_37 : decode cX1_append 37 = .ok (.aload_n 0, 1) := by decide +kernel
theorem dX1_append_38 : decode cX1_append 38 = .ok (.getfield 32, 3) := by decide +kernel
theorem dX1_append_41 : decode cX1_append 41 = .ok (.iload_n 2, 1) := by decide +kernel
theorem dX1_append_42 : decode cX1_append 42 = .ok (.iastore, 1) := by decide +kernel
theorem dX1_append_43 : decode cX1_append 43 = .ok (.aload_n 0, 1) := by decide +kernel
theorem dX1_append_44 : decode cX1_append 44 = .ok (.dup, 1) := by decide +kernel
theorem dX1_append_45 : decode cX1_append 45 = .ok (.getfield 32, 3) := by decide +kernel
theorem dX1_append_48 : decode cX1_append 48 = .ok (.iconst 1, 1) := by decide +kernel
theorem dX1_append_49 : decode cX1_append 49 = .ok (.iadd, 1) := by decide +kernel
theorem dX1_append_50 : decode cX1_append 50 = .ok (.putfield 32, 3) := by decide +kernel
theorem dX1_append_53 : decode cX1_append 53 = .ok (.aload_n 0, 1) := by decide +kernel
theorem dX1_append_54 : decode cX1_append 54 = .ok (.getfield 32, 3) := by decide +kernel
theorem dX1_append_57 : decode cX1_append 57 = .ok (.iconst 1, 1) := by decide +kernel
theorem dX1_append_58 : decode cX1_append 58 = .ok (.isub, 1) := by decide +kernel
theorem dX1_append_59 : decode cX1_append 59 = .ok (.ireturn, 1) := by decide +kernel
abbrev cX1_isFit : ByteArray := prog_3_method_2_code
def yX1_isFit : MethodName := ⟨RX1, "isFit", "(II)Z"⟩
theorem dX1_isFit_0 : decode cX1_isFit 0 = .ok (.iload_n 1, 1) := by decide +kernel
theorem dX1_isFit_1 : decode cX1_isFit 1 = .ok (.ifCond .lt 25, 3) := by decide +kernel
theorem dX1_isFit_4 : decode cX1_isFit 4 = .ok (.iload_n 1, 1) := by decide +kernel
theorem dX1_isFit_5 : decode cX1_isFit 5 = .ok (.bipush 14, 2) := by decide +kernel
theorem dX1_isFit_7 : decode cX1_isFit 7 = .ok (.if_icmp .gt 19, 3) := by decide +kernel
theorem dX1_isFit_10 : decode cX1_isFit 10 = .ok (.iload_n 1, 1) := by decide +kernel
theorem dX1_isFit_11 : decode cX1_isFit 11 = .ok (.ifCond .ne 17, 3) := by decide +kernel
theorem dX1_isFit_14 : decode cX1_isFit 14 = .ok (.iload_n 2, 1) := by decide +kernel
theorem dX1_isFit_15 : decode cX1_isFit 15 = .ok (.bipush (-100), 2) := by decide +kernel
theorem dX1_isFit_17 : decode cX1_isFit 17 = .ok (.if_icmp .lt 9, 3) := by decide +kernel
theorem dX1_isFit_20 : decode cX1_isFit 20 = .ok (.iload_n 2, 1) := by decide +kernel
theorem dX1_isFit_21 : decode cX1_isFit 21 = .ok (.bipush 100, 2) := by decide +kernel
theorem dX1_isFit_23 : decode cX1_isFit 23 = .ok (.if_icmp .le 5, 3) := by decide +kernel
theorem dX1_isFit_26 : decode cX1_isFit 26 = .ok (.iconst 0, 1) := by decide +kernel
theorem dX1_isFit_27 : decode cX1_isFit 27 = .ok (.ireturn, 1) := by decide +kernel
theorem dX1_isFit_28 : decode cX1_isFit 28 = .ok (.iload_n 1, 1) := by decide +kernel
theorem dX1_isFit_29 : decode cX1_isFit 29 = .ok (.bipush 8, 2) := by decide +kernel
theorem dX1_isFit_31 : decode cX1_isFit 31 = .ok (.if_icmp .eq 9, 3) := by decide +kernel
theorem dX1_isFit_34 : decode cX1_isFit 34 = .ok (.iload_n 1, 1) := by decide +kernel
theorem dX1_isFit_35 : decode cX1_isFit 35 = .ok (.bipush 9, 2) := by decide +kernel
theorem dX1_isFit_37 : decode cX1_isFit 37 = .ok (.if_icmp .ne 14, 3) := by decide +kernel
theorem dX1_isFit_40 : decode cX1_isFit 40 = .ok (.iload_n 2, 1) := by decide +kernel
theorem dX1_isFit_41 : decode cX1_isFit 41 = .ok (.ifCond .lt 8, 3) := by decide +kernel
theorem dX1_isFit_44 : decode cX1_isFit 44 = .ok (.iload_n 2, 1) := by decide +kernel
theorem dX1_isFit_45 : decode cX1_isFit 45 = .ok (.iconst 3, 1) := by decide +kernel
theorem dX1_isFit_46 : decode cX1_isFit 46 = .ok (.if_icmp .le 5, 3) := by decide +kernel
theorem dX1_isFit_49 : decode cX1_isFit 49 = .ok (.iconst 0, 1) := by decide +kernel
theorem dX1_isFit_50 : decode cX1_isFit 50 = .ok (.ireturn, 1) := by decide +kernel
theorem dX1_isFit_51 : decode cX1_isFit 51 = .ok (.iload_n 1, 1) := by decide +kernel
theorem dX1_isFit_52 : decode cX1_isFit 52 = .ok (.bipush 10, 2) := by decide +kernel
theorem dX1_isFit_54 : decode cX1_isFit 54 = .ok (.if_icmp .eq 9, 3) := by decide +kernel
theorem dX1_isFit_57 : decode cX1_isFit 57 = .ok (.iload_n 1, 1) := by decide +kernel
theorem dX1_isFit_58 : decode cX1_isFit 58 = .ok (.bipush 11, 2) := by decide +kernel
theorem dX1_isFit_60 : decode cX1_isFit 60 = .ok (.if_icmp .ne 13, 3) := by decide +kernel
theorem dX1_isFit_63 : decode cX1_isFit 63 = .ok (.iload_n 2, 1) := by decide +kernel
theorem dX1_isFit_64 : decode cX1_isFit 64 = .ok (.ifCond .lt 13, 3) := by decide +kernel
theorem dX1_isFit_67 : decode cX1_isFit 67 = .ok (.iload_n 2, 1) := by decide +kernel
theorem dX1_isFit_68 : decode cX1_isFit 68 = .ok (.bipush 20, 2) := by decide +kernel
theorem dX1_isFit_70 : decode cX1_isFit 70 = .ok (.if_icmp .gt 7, 3) := by decide +kernel
theorem dX1_isFit_73 : decode cX1_isFit 73 = .ok (.iconst 1, 1) := by decide +kernel
theorem dX1_isFit_74 : decode cX1_isFit 74 = .ok (.goto 4, 3) := by decide +kernel
theorem dX1_isFit_77 : decode cX1_isFit 77 = .ok (.iconst 0, 1) := by decide +kernel
theorem dX1_isFit_78 : decode cX1_isFit 78 = .ok (.ireturn, 1) := by decide +kernel
abbrev cX1_change : ByteArray := prog_3_method_4_code
def yX1_change : MethodName := ⟨RX1, "change", "(III)I"⟩
theorem dX1_change_0 : decode cX1_change 0 = .ok (.iload_n 1, 1) := by decide +kernel
theorem dX1_change_1 : decode cX1_change 1 = .ok (.ifCond .lt 20, 3) := by decide +kernel
theorem dX1_change_4 : decode cX1_change 4 = .ok (.iload_n 1, 1) := by decide +kernel
theorem dX1_change_5 : decode cX1_change 5 = .ok (.aload_n 0, 1) := by decide +kernel
theorem dX1_change_6 : decode cX1_change 6 = .ok (.getfield 32, 3) := by decide +kernel
theorem dX1_change_9 : decode cX1_change 9 = .ok (.if_icmp .ge 12, 3) := by decide +kernel
theorem dX1_change_12 : decode cX1_change 12 = .ok (.aload_n 0, 1) := by decide +kernel
theorem dX1_change_13 : decode cX1_change 13 = .ok (.iload_n 2, 1) := by decide +kernel
theorem dX1_change_14 : decode cX1_change 14 = .ok (.iload_n 3, 1) := by decide +kernel
theorem dX1_change_15 : decode cX1_change 15 = .ok (.invokevirtual 28, 3) := by decide +kernel
theorem dX1_change_18 : decode cX1_change 18 = .ok (.ifCond .ne 5, 3) := by decide +kernel
theorem dX1_change_21 : decode cX1_change 21 = .ok (.iconst (-1), 1) := by decide +kernel
theorem dX1_change_22 : decode cX1_change 22 = .ok (.ireturn, 1) := by decide +kernel
theorem dX1_change_23 : decode cX1_change 23 = .ok (.aload_n 0, 1) := by decide +kernel
theorem dX1_change_24 : decode cX1_change 24 = .ok (.getfield 7, 3) := by decide +kernel
theorem dX1_change_27 : decode cX1_change 27 = .ok (.iload_n 1, 1) := by decide +kernel
theorem dX1_change_28 : decode cX1_change 28 = .ok (.iaload, 1) := by decide +kernel
theorem dX1_change_29 : decode cX1_change 29 = .ok (.istore 4, 2) := by decide +kernel
theorem dX1_change_31 : decode cX1_change 31 = .ok (.aload_n 0, 1) := by decide +kernel
theorem dX1_change_32 : decode cX1_change 32 = .ok (.getfield 7, 3) := by decide +kernel
theorem dX1_change_35 : decode cX1_change 35 = .ok (.iload_n 1, 1) := by decide +kernel
theorem dX1_change_36 : decode cX1_change 36 = .ok (.iload_n 2, 1) := by decide +kernel
theorem dX1_change_37 : decode cX1_change 37 = .ok (.iastore, 1) := by decide +kernel
theorem dX1_change_38 : decode cX1_change 38 = .ok (.aload_n 0, 1) := by decide +kernel
theorem dX1_change_39 : decode cX1_change 39 = .ok (.getfield 13, 3) := by decide +kernel
theorem dX1_change_42 : decode cX1_change 42 = .ok (.iload_n 1, 1) := by decide +kernel
theorem dX1_change_43 : decode cX1_change 43 = .ok (.iload_n 3, 1) := by decide +kernel
theorem dX1_change_44 : decode cX1_change 44 = .ok (.iastore, 1) := by decide +kernel
theorem dX1_change_45 : decode cX1_change 45 = .ok (.iload 4, 2) := by decide +kernel
theorem dX1_change_47 : decode cX1_change 47 = .ok (.ireturn, 1) := by decide +kernel
abbrev cX1_clear : ByteArray := prog_3_method_5_code
def yX1_clear : MethodName := ⟨RX1, "clear", "()V"⟩
theorem dX1_clear_0 : decode cX1_clear 0 = .ok (.aload_n 0, 1) := by decide +kernel
theorem dX1_clear_1 : decode cX1_clear 1 = .ok (.iconst 0, 1) := by decide +kernel
theorem dX1_clear_2 : decode cX1_clear 2 = .ok (.putfield 32, 3) := by decide +kernel
theorem dX1_clear_5 : decode cX1_clear 5 = .ok (.return_, 1) := by decide +kernel
abbrev cX1_size : ByteArray := prog_3_method_6_code
def yX1_size : MethodName := ⟨RX1, "size", "()I"⟩
theorem dX1_size_0 : decode cX1_size 0 = .ok (.aload_n 0, 1) := by decide +kernel
theorem dX1_size_1 : decode cX1_size 1 = .ok (.getfield 32, 3) := by decide +kernel
theorem dX1_size_4 : decode cX1_size 4 = .ok (.ireturn, 1) := by decide +kernel
abbrev cX1_set : ByteArray := prog_3_method_7_code
def yX1_set : MethodName := ⟨RX1, "set", "(II)I"⟩
theorem dX1_set_0 : decode cX1_set 0 = .ok (.iload_n 1, 1) := by decide +kernel
theorem dX1_set_1 : decode cX1_set 1 = .ok (.ifCond .lt 8, 3) := by decide +kernel
theorem dX1_set_4 : decode cX1_set 4 = .ok (.iload_n 1, 1) := by decide +kernel
theorem dX1_set_5 : decode cX1_set 5 = .ok (.iconst 3, 1) := by decide +kernel
theorem dX1_set_6 : decode cX1_set 6 = .ok (.if_icmp .le 5, 3) := by decide +kernel
theorem dX1_set_9 : decode cX1_set 9 = .ok (.iconst (-1), 1) := by decide +kernel
theorem dX1_set_10 : decode cX1_set 10 = .ok (.ireturn, 1) := by decide +kernel
theorem dX1_set_11 : decode cX1_set 11 = .ok (.aload_n 0, 1) := by decide +kernel
theorem dX1_set_12 : decode cX1_set 12 = .ok (.getfield 16, 3) := by decide +kernel
theorem dX1_set_15 : decode cX1_set 15 = .ok (.iload_n 1, 1) := by decide +kernel
theorem dX1_set_16 : decode cX1_set 16 = .ok (.iload_n 2, 1) := by decide +kernel
theorem dX1_set_17 : decode cX1_set 17 = .ok (.iastore, 1) := by decide +kernel
theorem dX1_set_18 : decode cX1_set 18 = .ok (.iconst 0, 1) := by decide +kernel
theorem dX1_set_19 : decode cX1_set 19 = .ok (.ireturn, 1) := by decide +kernel
abbrev cX1_get : ByteArray := prog_3_method_8_code
def yX1_get : MethodName := ⟨RX1, "get", "(I)I"⟩
theorem dX1_get_0 : decode cX1_get 0 = .ok (.iload_n 1, 1) := by decide +kernel
theorem dX1_get_1 : decode cX1_get 1 = .ok (.ifCond .lt 8, 3) := by decide +kernel
theorem dX1_get_4 : decode cX1_get 4 = .ok (.iload_n 1, 1) := by decide +kernel
theorem dX1_get_5 : decode cX1_get 5 = .ok (.iconst 3, 1) := by decide +kernel
theorem dX1_get_6 : decode cX1_get 6 = .ok (.if_icmp .le 7, 3) := by decide +kernel
theorem dX1_get_9 : decode cX1_get 9 = .ok (.iconst 0, 1) := by decide +kernel
theorem dX1_get_10 : decode cX1_get 10 = .ok (.goto 9, 3) := by decide +kernel
theorem dX1_get_13 : decode cX1_get 13 = .ok (.aload_n 0, 1) := by decide +kernel
theorem dX1_get_14 : decode cX1_get 14 = .ok (.getfield 16, 3) := by decide +kernel
theorem dX1_get_17 : decode cX1_get 17 = .ok (.iload_n 1, 1) := by decide +kernel
theorem dX1_get_18 : decode cX1_get 18 = .ok (.iaload, 1) := by decide +kernel
theorem dX1_get_19 : decode cX1_get 19 = .ok (.ireturn, 1) := by decide +kernel
abbrev cX1_fund : ByteArray := prog_3_method_9_code
def yX1_fund : MethodName := ⟨RX1, "fund", "(I)I"⟩
theorem dX1_fund_0 : decode cX1_fund 0 = .ok (.iload_n 1, 1) := by decide +kernel
theorem dX1_fund_1 : decode cX1_fund 1 = .ok (.ifCond .lt 21, 3) := by decide +kernel
theorem dX1_fund_4 : decode cX1_fund 4 = .ok (.iload_n 1, 1) := by decide +kernel
theorem dX1_fund_5 : decode cX1_fund 5 = .ok (.sipush 2000, 3) := by decide +kernel
theorem dX1_fund_8 : decode cX1_fund 8 = .ok (.if_icmp .gt 14, 3) := by decide +kernel
theorem dX1_fund_11 : decode cX1_fund 11 = .ok (.aload_n 0, 1) := by decide +kernel
theorem dX1_fund_12 : decode cX1_fund 12 = .ok (.getfield 36, 3) := by decide +kernel
theorem dX1_fund_15 : decode cX1_fund 15 = .ok (.iload_n 1, 1) := by decide +kernel
theorem dX1_fund_16 : decode cX1_fund 16 = .ok (.iadd, 1) := by decide +kernel
theorem dX1_fund_17 : decode cX1_fund 17 = .ok (.ldc 39, 2) := by decide +kernel
theorem dX1_fund_19 : decode cX1_fund 19 = .ok (.if_icmp .le 5, 3) := by decide +kernel
theorem dX1_fund_22 : decode cX1_fund 22 = .ok (.iconst (-1), 1) := by decide +kernel
theorem dX1_fund_23 : decode cX1_fund 23 = .ok (.ireturn, 1) := by decide +kernel
theorem dX1_fund_24 : decode cX1_fund 24 = .ok (.aload_n 0, 1) := by decide +kernel
theorem dX1_fund_25 : decode cX1_fund 25 = .ok (.aload_n 0, 1) := by decide +kernel
theorem dX1_fund_26 : decode cX1_fund 26 = .ok (.getfield 36, 3) := by decide +kernel
theorem dX1_fund_29 : decode cX1_fund 29 = .ok (.iload_n 1, 1) := by decide +kernel
theorem dX1_fund_30 : decode cX1_fund 30 = .ok (.iadd, 1) := by decide +kernel
theorem dX1_fund_31 : decode cX1_fund 31 = .ok (.putfield 36, 3) := by decide +kernel
theorem dX1_fund_34 : decode cX1_fund 34 = .ok (.aload_n 0, 1) := by decide +kernel
theorem dX1_fund_35 : decode cX1_fund 35 = .ok (.getfield 36, 3) := by decide +kernel
theorem dX1_fund_38 : decode cX1_fund 38 = .ok (.ireturn, 1) := by decide +kernel
abbrev cX1_gas : ByteArray := prog_3_method_10_code
def yX1_gas : MethodName := ⟨RX1, "gas", "()I"⟩
theorem dX1_gas_0 : decode cX1_gas 0 = .ok (.aload_n 0, 1) := by decide +kernel
theorem dX1_gas_1 : decode cX1_gas 1 = .ok (.getfield 36, 3) := by decide +kernel
theorem dX1_gas_4 : decode cX1_gas 4 = .ok (.ireturn, 1) := by decide +kernel
abbrev cX1_run : ByteArray := prog_3_method_18_code
def yX1_run : MethodName := ⟨RX1, "run", "()I"⟩
theorem dX1_run_0 : decode cX1_run 0 = .ok (.aload_n 0, 1) := by decide +kernel
theorem dX1_run_1 : decode cX1_run 1 = .ok (.iconst 0, 1) := by decide +kernel
theorem dX1_run_2 : decode cX1_run 2 = .ok (.putfield 40, 3) := by decide +kernel
theorem dX1_run_5 : decode cX1_run 5 = .ok (.aload_n 0, 1) := by decide +kernel
theorem dX1_run_6 : decode cX1_run 6 = .ok (.iconst 0, 1) := by decide +kernel
theorem dX1_run_7 : decode cX1_run 7 = .ok (.putfield 54, 3) := by decide +kernel
theorem dX1_run_10 : decode cX1_run 10 = .ok (.aload_n 0, 1) := by decide +kernel
theorem dX1_run_11 : decode cX1_run 11 = .ok (.iconst 0, 1) := by decide +kernel
theorem dX1_run_12 : decode cX1_run 12 = .ok (.putfield 65, 3) := by decide +kernel
theorem dX1_run_15 : decode cX1_run 15 = .ok (.aload_n 0, 1) := by decide +kernel
theorem dX1_run_16 : decode cX1_run 16 = .ok (.iconst 0, 1) := by decide +kernel
theorem dX1_run_17 : decode cX1_run 17 = .ok (.putfield 68, 3) := by decide +kernel
theorem dX1_run_20 : decode cX1_run 20 = .ok (.aload_n 0, 1) := by decide +kernel
theorem dX1_run_21 : decode cX1_run 21 = .ok (.aload_n 0, 1) := by decide +kernel
theorem dX1_run_22 : decode cX1_run 22 = .ok (.iconst 0, 1) := by decide +kernel
theorem dX1_run_23 : decode cX1_run 23 = .ok (.invokevirtual 71, 3) := by decide +kernel
theorem dX1_run_26 : decode cX1_run 26 = .ok (.putfield 74, 3) := by decide +kernel
theorem dX1_run_29 : decode cX1_run 29 = .ok (.aload_n 0, 1) := by decide +kernel
theorem dX1_run_30 : decode cX1_run 30 = .ok (.getfield 74, 3) := by decide +kernel
theorem dX1_run_33 : decode cX1_run 33 = .ok (.ifCond .ne 96, 3) := by decide +kernel
theorem dX1_run_36 : decode cX1_run 36 = .ok (.aload_n 0, 1) := by decide +kernel
theorem dX1_run_37 : decode cX1_run 37 = .ok (.aload_n 0, 1) := by decide +kernel
theorem dX1_run_38 : decode cX1_run 38 = .ok (.getfield 7, 3) := by decide +kernel
theorem dX1_run_41 : decode cX1_run 41 = .ok (.aload_n 0, 1) := by decide +kernel
theorem dX1_run_42 : decode cX1_run 42 = .ok (.getfield 68, 3) := by decide +kernel
theorem dX1_run_45 : decode cX1_run 45 = .ok (.iaload, 1) := by decide +kernel
theorem dX1_run_46 : decode cX1_run 46 = .ok (.invokevirtual 61, 3) := by decide +kernel
theorem dX1_run_49 : decode cX1_run 49 = .ok (.istore_n 1, 1) := by decide +kernel
theorem dX1_run_50 : decode cX1_run 50 = .ok (.aload_n 0, 1) := by decide +kernel
theorem dX1_run_51 : decode cX1_run 51 = .ok (.aload_n 0, 1) := by decide +kernel
theorem dX1_run_52 : decode cX1_run 52 = .ok (.getfield 36, 3) := by decide +kernel
theorem dX1_run_55 : decode cX1_run 55 = .ok (.iload_n 1, 1) := by decide +kernel
theorem dX1_run_56 : decode cX1_run 56 = .ok (.isub, 1) := by decide +kernel
theorem dX1_run_57 : decode cX1_run 57 = .ok (.putfield 36, 3) := by decide +kernel
theorem dX1_run_60 : decode cX1_run 60 = .ok (.aload_n 0, 1) := by decide +kernel
theorem dX1_run_61 : decode cX1_run 61 = .ok (.aload_n 0, 1) := by decide +kernel
theorem dX1_run_62 : decode cX1_run 62 = .ok (.getfield 65, 3) := by decide +kernel
theorem dX1_run_65 : decode cX1_run 65 = .ok (.iload_n 1, 1) := by decide +kernel
theorem dX1_run_66 : decode cX1_run 66 = .ok (.iadd, 1) := by decide +kernel
theorem dX1_run_67 : decode cX1_run 67 = .ok (.putfield 65, 3) := by decide +kernel
theorem dX1_run_70 : decode cX1_run 70 = .ok (.aload_n 0, 1) := by decide +kernel
theorem dX1_run_71 : decode cX1_run 71 = .ok (.dup, 1) := by decide +kernel
theorem dX1_run_72 : decode cX1_run 72 = .ok (.getfield 54, 3) := by decide +kernel
theorem dX1_run_75 : decode cX1_run 75 = .ok (.iconst 1, 1) := by decide +kernel
theorem dX1_run_76 : decode cX1_run 76 = .ok (.iadd, 1) := by decide +kernel
theorem dX1_run_77 : decode cX1_run 77 = .ok (.putfield 54, 3) := by decide +kernel
theorem dX1_run_80 : decode cX1_run 80 = .ok (.aload_n 0, 1) := by decide +kernel
theorem dX1_run_81 : decode cX1_run 81 = .ok (.getfield 7, 3) := by decide +kernel
theorem dX1_run_84 : decode cX1_run 84 = .ok (.aload_n 0, 1) := by decide +kernel
theorem dX1_run_85 : decode cX1_run 85 = .ok (.getfield 68, 3) := by decide +kernel
theorem dX1_run_88 : decode cX1_run 88 = .ok (.iaload, 1) := by decide +kernel
theorem dX1_run_89 : decode cX1_run 89 = .ok (.bipush 14, 2) := by decide +kernel
theorem dX1_run_91 : decode cX1_run 91 = .ok (.if_icmp .ne 11, 3) := by decide +kernel
theorem dX1_run_94 : decode cX1_run 94 = .ok (.aload_n 0, 1) := by decide +kernel
theorem dX1_run_95 : decode cX1_run 95 = .ok (.iconst 1, 1) := by decide +kernel
theorem dX1_run_96 : decode cX1_run 96 = .ok (.putfield 74, 3) := by decide +kernel
theorem dX1_run_99 : decode cX1_run 99 = .ok (.goto 27, 3) := by decide +kernel
theorem dX1_run_102 : decode cX1_run 102 = .ok (.aload_n 0, 1) := by decide +kernel
theorem dX1_run_103 : decode cX1_run 103 = .ok (.aload_n 0, 1) := by decide +kernel
theorem dX1_run_104 : decode cX1_run 104 = .ok (.aload_n 0, 1) := by decide +kernel
theorem dX1_run_105 : decode cX1_run 105 = .ok (.getfield 68, 3) := by decide +kernel
theorem dX1_run_108 : decode cX1_run 108 = .ok (.invokevirtual 77, 3) := by decide +kernel
theorem dX1_run_111 : decode cX1_run 111 = .ok (.putfield 68, 3) := by decide +kernel
theorem dX1_run_114 : decode cX1_run 114 = .ok (.aload_n 0, 1) := by decide +kernel
theorem dX1_run_115 : decode cX1_run 115 = .ok (.aload_n 0, 1) := by decide +kernel
theorem dX1_run_116 : decode cX1_run 116 = .ok (.aload_n 0, 1) := by decide +kernel
theorem dX1_run_117 : decode cX1_run 117 = .ok (.getfield 68, 3) := by decide +kernel
theorem dX1_run_120 : decode cX1_run 120 = .ok (.invokevirtual 71, 3) := by decide +kernel
theorem dX1_run_123 : decode cX1_run 123 = .ok (.putfield 74, 3) := by decide +kernel
theorem dX1_run_126 : decode cX1_run 126 = .ok (.goto (-97), 3) := by decide +kernel
theorem dX1_run_129 : decode cX1_run 129 = .ok (.aload_n 0, 1) := by decide +kernel
theorem dX1_run_130 : decode cX1_run 130 = .ok (.getfield 74, 3) := by decide +kernel
theorem dX1_run_133 : decode cX1_run 133 = .ok (.ireturn, 1) := by decide +kernel
abbrev cX1_endAt : ByteArray := prog_3_method_17_code
def yX1_endAt : MethodName := ⟨RX1, "endAt", "(I)I"⟩
theorem dX1_endAt_0 : decode cX1_endAt 0 = .ok (.iload_n 1, 1) := by decide +kernel
theorem dX1_endAt_1 : decode cX1_endAt 1 = .ok (.aload_n 0, 1) := by decide +kernel
theorem dX1_endAt_2 : decode cX1_endAt 2 = .ok (.getfield 32, 3) := by decide +kernel
theorem dX1_endAt_5 : decode cX1_endAt 5 = .ok (.if_icmp .lt 5, 3) := by decide +kernel
theorem dX1_endAt_8 : decode cX1_endAt 8 = .ok (.iconst 1, 1) := by decide +kernel
theorem dX1_endAt_9 : decode cX1_endAt 9 = .ok (.ireturn, 1) := by decide +kernel
theorem dX1_endAt_10 : decode cX1_endAt 10 = .ok (.aload_n 0, 1) := by decide +kernel
theorem dX1_endAt_11 : decode cX1_endAt 11 = .ok (.getfield 54, 3) := by decide +kernel
theorem dX1_endAt_14 : decode cX1_endAt 14 = .ok (.sipush 300, 3) := by decide +kernel
theorem dX1_endAt_17 : decode cX1_endAt 17 = .ok (.if_icmp .ne 5, 3) := by decide +kernel
theorem dX1_endAt_20 : decode cX1_endAt 20 = .ok (.iconst 2, 1) := by decide +kernel
theorem dX1_endAt_21 : decode cX1_endAt 21 = .ok (.ireturn, 1) := by decide +kernel
theorem dX1_endAt_22 : decode cX1_endAt 22 = .ok (.aload_n 0, 1) := by decide +kernel
theorem dX1_endAt_23 : decode cX1_endAt 23 = .ok (.aload_n 0, 1) := by decide +kernel
theorem dX1_endAt_24 : decode cX1_endAt 24 = .ok (.getfield 7, 3) := by decide +kernel
theorem dX1_endAt_27 : decode cX1_endAt 27 = .ok (.iload_n 1, 1) := by decide +kernel
theorem dX1_endAt_28 : decode cX1_endAt 28 = .ok (.iaload, 1) := by decide +kernel
theorem dX1_endAt_29 : decode cX1_endAt 29 = .ok (.invokevirtual 57, 3) := by decide +kernel
theorem dX1_endAt_32 : decode cX1_endAt 32 = .ok (.ifCond .eq 5, 3) := by decide +kernel
theorem dX1_endAt_35 : decode cX1_endAt 35 = .ok (.iconst 3, 1) := by decide +kernel
theorem dX1_endAt_36 : decode cX1_endAt 36 = .ok (.ireturn, 1) := by decide +kernel
theorem dX1_endAt_37 : decode cX1_endAt 37 = .ok (.aload_n 0, 1) := by decide +kernel
theorem dX1_endAt_38 : decode cX1_endAt 38 = .ok (.aload_n 0, 1) := by decide +kernel
theorem dX1_endAt_39 : decode cX1_endAt 39 = .ok (.getfield 7, 3) := by decide +kernel
theorem dX1_endAt_42 : decode cX1_endAt 42 = .ok (.iload_n 1, 1) := by decide +kernel
theorem dX1_endAt_43 : decode cX1_endAt 43 = .ok (.iaload, 1) := by decide +kernel
theorem dX1_endAt_44 : decode cX1_endAt 44 = .ok (.invokevirtual 61, 3) := by decide +kernel
theorem dX1_endAt_47 : decode cX1_endAt 47 = .ok (.aload_n 0, 1) := by decide +kernel
theorem dX1_endAt_48 : decode cX1_endAt 48 = .ok (.getfield 36, 3) := by decide +kernel
theorem dX1_endAt_51 : decode cX1_endAt 51 = .ok (.if_icmp .le 7, 3) := by decide +kernel
theorem dX1_endAt_54 : decode cX1_endAt 54 = .ok (.iconst 4, 1) := by decide +kernel
theorem dX1_endAt_55 : decode cX1_endAt 55 = .ok (.goto 4, 3) := by decide +kernel
theorem dX1_endAt_58 : decode cX1_endAt 58 = .ok (.iconst 0, 1) := by decide +kernel
theorem dX1_endAt_59 : decode cX1_endAt 59 = .ok (.ireturn, 1) := by decide +kernel
abbrev cX1_traps : ByteArray := prog_3_method_11_code
def yX1_traps : MethodName := ⟨RX1, "traps", "(I)Z"⟩
theorem dX1_traps_0 : decode cX1_traps 0 = .ok (.iload_n 1, 1) := by decide +kernel
theorem dX1_traps_1 : decode cX1_traps 1 = .ok (.iconst 1, 1) := by decide +kernel
theorem dX1_traps_2 : decode cX1_traps 2 = .ok (.if_icmp .lt 8, 3) := by decide +kernel
theorem dX1_traps_5 : decode cX1_traps 5 = .ok (.iload_n 1, 1) := by decide +kernel
theorem dX1_traps_6 : decode cX1_traps 6 = .ok (.iconst 4, 1) := by decide +kernel
theorem dX1_traps_7 : decode cX1_traps 7 = .ok (.if_icmp .le 9, 3) := by decide +kernel
theorem dX1_traps_10 : decode cX1_traps 10 = .ok (.iload_n 1, 1) := by decide +kernel
theorem dX1_traps_11 : decode cX1_traps 11 = .ok (.bipush 6, 2) := by decide +kernel
theorem dX1_traps_13 : decode cX1_traps 13 = .ok (.if_icmp .ne 7, 3) := by decide +kernel
theorem dX1_traps_16 : decode cX1_traps 16 = .ok (.iconst 2, 1) := by decide +kernel
theorem dX1_traps_17 : decode cX1_traps 17 = .ok (.goto 37, 3) := by decide +kernel
theorem dX1_traps_20 : decode cX1_traps 20 = .ok (.iload_n 1, 1) := by decide +kernel
theorem dX1_traps_21 : decode cX1_traps 21 = .ok (.iconst 5, 1) := by decide +kernel
theorem dX1_traps_22 : decode cX1_traps 22 = .ok (.if_icmp .eq 27, 3) := by decide +kernel
theorem dX1_traps_25 : decode cX1_traps 25 = .ok (.iload_n 1, 1) := by decide +kernel
theorem dX1_traps_26 : decode cX1_traps 26 = .ok (.bipush 7, 2) := by decide +kernel
theorem dX1_traps_28 : decode cX1_traps 28 = .ok (.if_icmp .eq 21, 3) := by decide +kernel
theorem dX1_traps_31 : decode cX1_traps 31 = .ok (.iload_n 1, 1) := by decide +kernel
theorem dX1_traps_32 : decode cX1_traps 32 = .ok (.bipush 9, 2) := by decide +kernel
theorem dX1_traps_34 : decode cX1_traps 34 = .ok (.if_icmp .eq 15, 3) := by decide +kernel
theorem dX1_traps_37 : decode cX1_traps 37 = .ok (.iload_n 1, 1) := by decide +kernel
theorem dX1_traps_38 : decode cX1_traps 38 = .ok (.bipush 11, 2) := by decide +kernel
theorem dX1_traps_40 : decode cX1_traps 40 = .ok (.if_icmp .eq 9, 3) := by decide +kernel
theorem dX1_traps_43 : decode cX1_traps 43 = .ok (.iload_n 1, 1) := by decide +kernel
theorem dX1_traps_44 : decode cX1_traps 44 = .ok (.bipush 12, 2) := by decide +kernel
theorem dX1_traps_46 : decode cX1_traps 46 = .ok (.if_icmp .ne 7, 3) := by decide +kernel
theorem dX1_traps_49 : decode cX1_traps 49 = .ok (.iconst 1, 1) := by decide +kernel
theorem dX1_traps_50 : decode cX1_traps 50 = .ok (.goto 4, 3) := by decide +kernel
theorem dX1_traps_53 : decode cX1_traps 53 = .ok (.iconst 0, 1) := by decide +kernel
theorem dX1_traps_54 : decode cX1_traps 54 = .ok (.istore_n 2, 1) := by decide +kernel
theorem dX1_traps_55 : decode cX1_traps 55 = .ok (.iload_n 1, 1) := by decide +kernel
theorem dX1_traps_56 : decode cX1_traps 56 = .ok (.ifCond .eq 20, 3) := by decide +kernel
theorem dX1_traps_59 : decode cX1_traps 59 = .ok (.iload_n 1, 1) := by decide +kernel
theorem dX1_traps_60 : decode cX1_traps 60 = .ok (.iconst 5, 1) := by decide +kernel
theorem dX1_traps_61 : decode cX1_traps 61 = .ok (.if_icmp .eq 15, 3) := by decide +kernel
theorem dX1_traps_64 : decode cX1_traps 64 = .ok (.iload_n 1, 1) := by decide +kernel
theorem dX1_traps_65 : decode cX1_traps 65 = .ok (.bipush 8, 2) := by decide +kernel
theorem dX1_traps_67 : decode cX1_traps 67 = .ok (.if_icmp .eq 9, 3) := by decide +kernel
theorem dX1_traps_70 : decode cX1_traps 70 = .ok (.iload_n 1, 1) := by decide +kernel
theorem dX1_traps_71 : decode cX1_traps 71 = .ok (.bipush 13, 2) := by decide +kernel
theorem dX1_traps_73 : decode cX1_traps 73 = .ok (.if_icmp .ne 7, 3) := by decide +kernel
theorem dX1_traps_76 : decode cX1_traps 76 = .ok (.iconst 1, 1) := by decide +kernel
theorem dX1_traps_77 : decode cX1_traps 77 = .ok (.goto 4, 3) := by decide +kernel
theorem dX1_traps_80 : decode cX1_traps 80 = .ok (.iconst 0, 1) := by decide +kernel
theorem dX1_traps_81 : decode cX1_traps 81 = .ok (.istore_n 3, 1) := by decide +kernel
theorem dX1_traps_82 : decode cX1_traps 82 = .ok (.aload_n 0, 1) := by decide +kernel
theorem dX1_traps_83 : decode cX1_traps 83 = .ok (.getfield 40, 3) := by decide +kernel
theorem dX1_traps_86 : decode cX1_traps 86 = .ok (.iload_n 2, 1) := by decide +kernel
theorem dX1_traps_87 : decode cX1_traps 87 = .ok (.if_icmp .lt 16, 3) := by decide +kernel
theorem dX1_traps_90 : decode cX1_traps 90 = .ok (.iload_n 3, 1) := by decide +kernel
theorem dX1_traps_91 : decode cX1_traps 91 = .ok (.ifCond .eq 16, 3) := by decide +kernel
theorem dX1_traps_94 : decode cX1_traps 94 = .ok (.aload_n 0, 1) := by decide +kernel
theorem dX1_traps_95 : decode cX1_traps 95 = .ok (.getfield 40, 3) := by decide +kernel
theorem dX1_traps_98 : decode cX1_traps 98 = .ok (.bipush 8, 2) := by decide +kernel
theorem dX1_traps_100 : decode cX1_traps 100 = .ok (.if_icmp .ne 7, 3) := by decide +kernel
theorem dX1_traps_103 : decode cX1_traps 103 = .ok (.iconst 1, 1) := by decide +kernel
theorem dX1_traps_104 : decode cX1_traps 104 = .ok (.goto 4, 3) := by decide +kernel
theorem dX1_traps_107 : decode cX1_traps 107 = .ok (.iconst 0, 1) := by decide +kernel
theorem dX1_traps_108 : decode cX1_traps 108 = .ok (.ireturn, 1) := by decide +kernel
abbrev cX1_price : ByteArray := prog_3_method_12_code
def yX1_price : MethodName := ⟨RX1, "price", "(I)I"⟩
theorem dX1_price_0 : decode cX1_price 0 = .ok (.iload_n 1, 1) := by decide +kernel
theorem dX1_price_1 : decode cX1_price 1 = .ok (.bipush 12, 2) := by decide +kernel
theorem dX1_price_3 : decode cX1_price 3 = .ok (.if_icmp .ne 20, 3) := by decide +kernel
theorem dX1_price_6 : decode cX1_price 6 = .ok (.iconst 1, 1) := by decide +kernel
theorem dX1_price_7 : decode cX1_price 7 = .ok (.aload_n 0, 1) := by decide +kernel
theorem dX1_price_8 : decode cX1_price 8 = .ok (.getfield 19, 3) := by decide +kernel
theorem dX1_price_11 : decode cX1_price 11 = .ok (.aload_n 0, 1) := by decide +kernel
theorem dX1_price_12 : decode cX1_price 12 = .ok (.getfield 40, 3) := by decide +kernel
theorem dX1_price_15 : decode cX1_price 15 = .ok (.iconst 1, 1) := by decide +kernel
theorem dX1_price_16 : decode cX1_price 16 = .ok (.isub, 1) := by decide +kernel
theorem dX1_price_17 : decode cX1_price 17 = .ok (.iaload, 1) := by decide +kernel
theorem dX1_price_18 : decode cX1_price 18 = .ok (.bipush 15, 2) := by decide +kernel
theorem dX1_price_20 : decode cX1_price 20 = .ok (.iand, 1) := by decide +kernel
theorem dX1_price_21 : decode cX1_price 21 = .ok (.iadd, 1) := by decide +kernel
theorem dX1_price_22 : decode cX1_price 22 = .ok (.ireturn, 1) := by decide +kernel
theorem dX1_price_23 : decode cX1_price 23 = .ok (.iload_n 1, 1) := by decide +kernel
theorem dX1_price_24 : decode cX1_price 24 = .ok (.iconst 3, 1) := by decide +kernel
theorem dX1_price_25 : decode cX1_price 25 = .ok (.if_icmp .eq 9, 3) := by decide +kernel
theorem dX1_price_28 : decode cX1_price 28 = .ok (.iload_n 1, 1) := by decide +kernel
theorem dX1_price_29 : decode cX1_price 29 = .ok (.bipush 11, 2) := by decide +kernel
theorem dX1_price_31 : decode cX1_price 31 = .ok (.if_icmp .ne 5, 3) := by decide +kernel
theorem dX1_price_34 : decode cX1_price 34 = .ok (.iconst 5, 1) := by decide +kernel
theorem dX1_price_35 : decode cX1_price 35 = .ok (.ireturn, 1) := by decide +kernel
theorem dX1_price_36 : decode cX1_price 36 = .ok (.iload_n 1, 1) := by decide +kernel
theorem dX1_price_37 : decode cX1_price 37 = .ok (.bipush 9, 2) := by decide +kernel
theorem dX1_price_39 : decode cX1_price 39 = .ok (.if_icmp .eq 9, 3) := by decide +kernel
theorem dX1_price_42 : decode cX1_price 42 = .ok (.iload_n 1, 1) := by decide +kernel
theorem dX1_price_43 : decode cX1_price 43 = .ok (.bipush 10, 2) := by decide +kernel
theorem dX1_price_45 : decode cX1_price 45 = .ok (.if_icmp .ne 5, 3) := by decide +kernel
theorem dX1_price_48 : decode cX1_price 48 = .ok (.iconst 4, 1) := by decide +kernel
theorem dX1_price_49 : decode cX1_price 49 = .ok (.ireturn, 1) := by decide +kernel
theorem dX1_price_50 : decode cX1_price 50 = .ok (.iload_n 1, 1) := by decide +kernel
theorem dX1_price_51 : decode cX1_price 51 = .ok (.iconst 1, 1) := by decide +kernel
theorem dX1_price_52 : decode cX1_price 52 = .ok (.if_icmp .lt 8, 3) := by decide +kernel
theorem dX1_price_55 : decode cX1_price 55 = .ok (.iload_n 1, 1) := by decide +kernel
theorem dX1_price_56 : decode cX1_price 56 = .ok (.iconst 4, 1) := by decide +kernel
theorem dX1_price_57 : decode cX1_price 57 = .ok (.if_icmp .le 9, 3) := by decide +kernel
theorem dX1_price_60 : decode cX1_price 60 = .ok (.iload_n 1, 1) := by decide +kernel
theorem dX1_price_61 : decode cX1_price 61 = .ok (.bipush 8, 2) := by decide +kernel
theorem dX1_price_63 : decode cX1_price 63 = .ok (.if_icmp .ne 5, 3) := by decide +kernel
theorem dX1_price_66 : decode cX1_price 66 = .ok (.iconst 3, 1) := by decide +kernel
theorem dX1_price_67 : decode cX1_price 67 = .ok (.ireturn, 1) := by decide +kernel
theorem dX1_price_68 : decode cX1_price 68 = .ok (.iload_n 1, 1) := by decide +kernel
theorem dX1_price_69 : decode cX1_price 69 = .ok (.bipush 14, 2) := by decide +kernel
theorem dX1_price_71 : decode cX1_price 71 = .ok (.if_icmp .ne 7, 3) := by decide +kernel
theorem dX1_price_74 : decode cX1_price 74 = .ok (.iconst 0, 1) := by decide +kernel
theorem dX1_price_75 : decode cX1_price 75 = .ok (.goto 14, 3) := by decide +kernel
theorem dX1_price_78 : decode cX1_price 78 = .ok (.iload_n 1, 1) := by decide +kernel
theorem dX1_price_79 : decode cX1_price 79 = .ok (.bipush 7, 2) := by decide +kernel
theorem dX1_price_81 : decode cX1_price 81 = .ok (.if_icmp .ne 7, 3) := by decide +kernel
theorem dX1_price_84 : decode cX1_price 84 = .ok (.iconst 1, 1) := by decide +kernel
theorem dX1_price_85 : decode cX1_price 85 = .ok (.goto 4, 3) := by decide +kernel
theorem dX1_price_88 : decode cX1_price 88 = .ok (.iconst 2, 1) := by decide +kernel
theorem dX1_price_89 : decode cX1_price 89 = .ok (.ireturn, 1) := by decide +kernel
end
section
set_option maxRecDepth 100000
abbrev cX1_work : ByteArray := prog_3_method_16_code
def yX1_work : MethodName := ⟨RX1, "work", "(I)I"⟩
theorem dX1_work_0 : decode cX1_work 0 = .ok (.aload_n 0, 1) := by decide +kernel
theorem dX1_work_1 : decode cX1_work 1 = .ok (.getfield 7, 3) := by decide +kernel
theorem dX1_work_4 : decode cX1_work 4 = .ok (.iload_n 1, 1) := by decide +kernel
theorem dX1_work_5 : decode cX1_work 5 = .ok (.iaload, 1) := by decide +kernel
theorem dX1_work_6 : decode cX1_work 6 = .ok (.istore_n 2, 1) := by decide +kernel
theorem dX1_work_7 : decode cX1_work 7 = .ok (.aload_n 0, 1) := by decide +kernel
theorem dX1_work_8 : decode cX1_work 8 = .ok (.getfield 13, 3) := by decide +kernel
theorem dX1_work_11 : decode cX1_work 11 = .ok (.iload_n 1, 1) := by decide +kernel
theorem dX1_work_12 : decode cX1_work 12 = .ok (.iaload, 1) := by decide +kernel
theorem dX1_work_13 : decode cX1_work 13 = .ok (.istore_n 3, 1) := by decide +kernel
theorem dX1_work_14 : decode cX1_work 14 = .ok (.iload_n 2, 1) := by decide +kernel
theorem dX1_work_15 : decode cX1_work 15 = .ok (.ifCond .ne 11, 3) := by decide +kernel
theorem dX1_work_18 : decode cX1_work 18 = .ok (.aload_n 0, 1) := by decide +kernel
theorem dX1_work_19 : decode cX1_work 19 = .ok (.iload_n 3, 1) := by decide +kernel
theorem dX1_work_20 : decode cX1_work 20 = .ok (.invokevirtual 47, 3) := by decide +kernel
theorem dX1_work_23 : decode cX1_work 23 = .ok (.goto 128, 3) := by decide +kernel
theorem dX1_work_26 : decode cX1_work 26 = .ok (.iload_n 2, 1) := by decide +kernel
theorem dX1_work_27 : decode cX1_work 27 = .ok (.iconst 4, 1) := by decide +kernel
theorem dX1_work_28 : decode cX1_work 28 = .ok (.if_icmp .le 9, 3) := by decide +kernel
theorem dX1_work_31 : decode cX1_work 31 = .ok (.iload_n 2, 1) := by decide +kernel
theorem dX1_work_32 : decode cX1_work 32 = .ok (.bipush 6, 2) := by decide +kernel
theorem dX1_work_34 : decode cX1_work 34 = .ok (.if_icmp .ne 11, 3) := by decide +kernel
theorem dX1_work_37 : decode cX1_work 37 = .ok (.aload_n 0, 1) := by decide +kernel
theorem dX1_work_38 : decode cX1_work 38 = .ok (.iload_n 2, 1) := by decide +kernel
theorem dX1_work_39 : decode cX1_work 39 = .ok (.invokevirtual 51, 3) := by decide +kernel
theorem dX1_work_42 : decode cX1_work 42 = .ok (.goto 109, 3) := by decide +kernel
theorem dX1_work_45 : decode cX1_work 45 = .ok (.iload_n 2, 1) := by decide +kernel
theorem dX1_work_46 : decode cX1_work 46 = .ok (.iconst 5, 1) := by decide +kernel
theorem dX1_work_47 : decode cX1_work 47 = .ok (.if_icmp .ne 21, 3) := by decide +kernel
theorem dX1_work_50 : decode cX1_work 50 = .ok (.aload_n 0, 1) := by decide +kernel
theorem dX1_work_51 : decode cX1_work 51 = .ok (.aload_n 0, 1) := by decide +kernel
theorem dX1_work_52 : decode cX1_work 52 = .ok (.getfield 19, 3) := by decide +kernel
theorem dX1_work_55 : decode cX1_work 55 = .ok (.aload_n 0, 1) := by decide +kernel
theorem dX1_work_56 : decode cX1_work 56 = .ok (.getfield 40, 3) := by decide +kernel
theorem dX1_work_59 : decode cX1_work 59 = .ok (.iconst 1, 1) := by decide +kernel
theorem dX1_work_60 : decode cX1_work 60 = .ok (.isub, 1) := by decide +kernel
theorem dX1_work_61 : decode cX1_work 61 = .ok (.iaload, 1) := by decide +kernel
theorem dX1_work_62 : decode cX1_work 62 = .ok (.invokevirtual 47, 3) := by decide +kernel
theorem dX1_work_65 : decode cX1_work 65 = .ok (.goto 86, 3) := by decide +kernel
theorem dX1_work_68 : decode cX1_work 68 = .ok (.iload_n 2, 1) := by decide +kernel
theorem dX1_work_69 : decode cX1_work 69 = .ok (.bipush 8, 2) := by decide +kernel
theorem dX1_work_71 : decode cX1_work 71 = .ok (.if_icmp .ne 16, 3) := by decide +kernel
theorem dX1_work_74 : decode cX1_work 74 = .ok (.aload_n 0, 1) := by decide +kernel
theorem dX1_work_75 : decode cX1_work 75 = .ok (.aload_n 0, 1) := by decide +kernel
theorem dX1_work_76 : decode cX1_work 76 = .ok (.getfield 16, 3) := by decide +kernel
theorem dX1_work_79 : decode cX1_work 79 = .ok (.iload_n 3, 1) := by decide +kernel
theorem dX1_work_80 : decode cX1_work 80 = .ok (.iaload, 1) := by decide +kernel
theorem dX1_work_81 : decode cX1_work 81 = .ok (.invokevirtual 47, 3) := by decide +kernel
theorem dX1_work_84 : decode cX1_work 84 = .ok (.goto 67, 3) := by decide +kernel
theorem dX1_work_87 : decode cX1_work 87 = .ok (.iload_n 2, 1) := by decide +kernel
theorem dX1_work_88 : decode cX1_work 88 = .ok (.bipush 13, 2) := by decide +kernel
theorem dX1_work_90 : decode cX1_work 90 = .ok (.if_icmp .ne 14, 3) := by decide +kernel
theorem dX1_work_93 : decode cX1_work 93 = .ok (.aload_n 0, 1) := by decide +kernel
theorem dX1_work_94 : decode cX1_work 94 = .ok (.aload_n 0, 1) := by decide +kernel
theorem dX1_work_95 : decode cX1_work 95 = .ok (.getfield 36, 3) := by decide +kernel
theorem dX1_work_98 : decode cX1_work 98 = .ok (.invokevirtual 47, 3) := by decide +kernel
theorem dX1_work_101 : decode cX1_work 101 = .ok (.goto 50, 3) := by decide +kernel
theorem dX1_work_104 : decode cX1_work 104 = .ok (.iload_n 2, 1) := by decide +kernel
theorem dX1_work_105 : decode cX1_work 105 = .ok (.bipush 10, 2) := by decide +kernel
theorem dX1_work_107 : decode cX1_work 107 = .ok (.if_icmp .ne 5, 3) := by decide +kernel
theorem dX1_work_110 : decode cX1_work 110 = .ok (.iload_n 3, 1) := by decide +kernel
theorem dX1_work_111 : decode cX1_work 111 = .ok (.ireturn, 1) := by decide +kernel
theorem dX1_work_112 : decode cX1_work 112 = .ok (.iload_n 2, 1) := by decide +kernel
theorem dX1_work_113 : decode cX1_work 113 = .ok (.bipush 14, 2) := by decide +kernel
theorem dX1_work_115 : decode cX1_work 115 = .ok (.if_icmp .eq 36, 3) := by decide +kernel
theorem dX1_work_118 : decode cX1_work 118 = .ok (.aload_n 0, 1) := by decide +kernel
theorem dX1_work_119 : decode cX1_work 119 = .ok (.invokevirtual 43, 3) := by decide +kernel
theorem dX1_work_122 : decode cX1_work 122 = .ok (.istore 4, 2) := by decide +kernel
theorem dX1_work_124 : decode cX1_work 124 = .ok (.iload_n 2, 1) := by decide +kernel
theorem dX1_work_125 : decode cX1_work 125 = .ok (.bipush 9, 2) := by decide +kernel
theorem dX1_work_127 : decode cX1_work 127 = .ok (.if_icmp .ne 11, 3) := by decide +kernel
theorem dX1_work_130 : decode cX1_work 130 = .ok (.aload_n 0, 1) := by decide +kernel
theorem dX1_work_131 : decode cX1_work 131 = .ok (.getfield 16, 3) := by decide +kernel
theorem dX1_work_134 : decode cX1_work 134 = .ok (.iload_n 3, 1) := by decide +kernel
theorem dX1_work_135 : decode cX1_work 135 = .ok (.iload 4, 2) := by decide +kernel
theorem dX1_work_137 : decode cX1_work 137 = .ok (.iastore, 1) := by decide +kernel
theorem dX1_work_138 : decode cX1_work 138 = .ok (.iload_n 2, 1) := by decide +kernel
theorem dX1_work_139 : decode cX1_work 139 = .ok (.bipush 11, 2) := by decide +kernel
theorem dX1_work_141 : decode cX1_work 141 = .ok (.if_icmp .ne 10, 3) := by decide +kernel
theorem dX1_work_144 : decode cX1_work 144 = .ok (.iload 4, 2) := by decide +kernel
theorem dX1_work_146 : decode cX1_work 146 = .ok (.ifCond .eq 5, 3) := by decide +kernel
theorem dX1_work_149 : decode cX1_work 149 = .ok (.iload_n 3, 1) := by decide +kernel
theorem dX1_work_150 : decode cX1_work 150 = .ok (.ireturn, 1) := by decide +kernel
theorem dX1_work_151 : decode cX1_work 151 = .ok (.iload_n 1, 1) := by decide +kernel
theorem dX1_work_152 : decode cX1_work 152 = .ok (.iconst 1, 1) := by decide +kernel
theorem dX1_work_153 : decode cX1_work 153 = .ok (.iadd, 1) := by decide +kernel
theorem dX1_work_154 : decode cX1_work 154 = .ok (.ireturn, 1) := by decide +kernel
abbrev cX1_push : ByteArray := prog_3_method_13_code
def yX1_push : MethodName := ⟨RX1, "push", "(I)V"⟩
theorem dX1_push_0 : decode cX1_push 0 = .ok (.aload_n 0, 1) := by decide +kernel
theorem dX1_push_1 : decode cX1_push 1 = .ok (.getfield 19, 3) := by decide +kernel
theorem dX1_push_4 : decode cX1_push 4 = .ok (.aload_n 0, 1) := by decide +kernel
theorem dX1_push_5 : decode cX1_push 5 = .ok (.getfield 40, 3) := by decide +kernel
theorem dX1_push_8 : decode cX1_push 8 = .ok (.iload_n 1, 1) := by decide +kernel
theorem dX1_push_9 : decode cX1_push 9 = .ok (.iastore, 1) := by decide +kernel
theorem dX1_push_10 : decode cX1_push 10 = .ok (.aload_n 0, 1) := by decide +kernel
theorem dX1_push_11 : decode cX1_push 11 = .ok (.dup, 1) := by decide +kernel
theorem dX1_push_12 : decode cX1_push 12 = .ok (.getfield 40, 3) := by decide +kernel
theorem dX1_push_15 : decode cX1_push 15 = .ok (.iconst 1, 1) := by decide +kernel
theorem dX1_push_16 : decode cX1_push 16 = .ok (.iadd, 1) := by decide +kernel
theorem dX1_push_17 : decode cX1_push 17 = .ok (.putfield 40, 3) := by decide +kernel
theorem dX1_push_20 : decode cX1_push 20 = .ok (.return_, 1) := by decide +kernel
abbrev cX1_operate : ByteArray := prog_3_method_15_code
def yX1_operate : MethodName := ⟨RX1, "operate", "(I)V"⟩
theorem dX1_operate_0 : decode cX1_operate 0 = .ok (.aload_n 0, 1) := by decide +kernel
theorem dX1_operate_1 : decode cX1_operate 1 = .ok (.invokevirtual 43, 3) := by decide +kernel
theorem dX1_operate_4 : decode cX1_operate 4 = .ok (.istore_n 2, 1) := by decide +kernel
theorem dX1_operate_5 : decode cX1_operate 5 = .ok (.aload_n 0, 1) := by decide +kernel
theorem dX1_operate_6 : decode cX1_operate 6 = .ok (.invokevirtual 43, 3) := by decide +kernel
theorem dX1_operate_9 : decode cX1_operate 9 = .ok (.istore_n 3, 1) := by decide +kernel
theorem dX1_operate_10 : decode cX1_operate 10 = .ok (.iload_n 1, 1) := by decide +kernel
theorem dX1_operate_11 : decode cX1_operate 11 = .ok (.bipush 6, 2) := by decide +kernel
theorem dX1_operate_13 : decode cX1_operate 13 = .ok (.if_icmp .ne 16, 3) := by decide +kernel
theorem dX1_operate_16 : decode cX1_operate 16 = .ok (.aload_n 0, 1) := by decide +kernel
theorem dX1_operate_17 : decode cX1_operate 17 = .ok (.iload_n 2, 1) := by decide +kernel
theorem dX1_operate_18 : decode cX1_operate 18 = .ok (.invokevirtual 47, 3) := by decide +kernel
theorem dX1_operate_21 : decode cX1_operate 21 = .ok (.aload_n 0, 1) := by decide +kernel
theorem dX1_operate_22 : decode cX1_operate 22 = .ok (.iload_n 3, 1) := by decide +kernel
theorem dX1_operate_23 : decode cX1_operate 23 = .ok (.invokevirtual 47, 3) := by decide +kernel
theorem dX1_operate_26 : decode cX1_operate 26 = .ok (.goto 50, 3) := by decide +kernel
theorem dX1_operate_29 : decode cX1_operate 29 = .ok (.aload_n 0, 1) := by decide +kernel
theorem dX1_operate_30 : decode cX1_operate 30 = .ok (.iload_n 1, 1) := by decide +kernel
theorem dX1_operate_31 : decode cX1_operate 31 = .ok (.iconst 1, 1) := by decide +kernel
theorem dX1_operate_32 : decode cX1_operate 32 = .ok (.if_icmp .ne 9, 3) := by decide +kernel
theorem dX1_operate_35 : decode cX1_operate 35 = .ok (.iload_n 3, 1) := by decide +kernel
theorem dX1_operate_36 : decode cX1_operate 36 = .ok (.iload_n 2, 1) := by decide +kernel
theorem dX1_operate_37 : decode cX1_operate 37 = .ok (.iadd, 1) := by decide +kernel
theorem dX1_operate_38 : decode cX1_operate 38 = .ok (.goto 35, 3) := by decide +kernel
theorem dX1_operate_41 : decode cX1_operate 41 = .ok (.iload_n 1, 1) := by decide +kernel
theorem dX1_operate_42 : decode cX1_operate 42 = .ok (.iconst 2, 1) := by decide +kernel
theorem dX1_operate_43 : decode cX1_operate 43 = .ok (.if_icmp .ne 9, 3) := by decide +kernel
theorem dX1_operate_46 : decode cX1_operate 46 = .ok (.iload_n 3, 1) := by decide +kernel
theorem dX1_operate_47 : decode cX1_operate 47 = .ok (.iload_n 2, 1) := by decide +kernel
theorem dX1_operate_48 : decode cX1_operate 48 = .ok (.isub, 1) := by decide +kernel
theorem dX1_operate_49 : decode cX1_operate 49 = .ok (.goto 24, 3) := by decide +kernel
theorem dX1_operate_52 : decode cX1_operate 52 = .ok (.iload_n 1, 1) := by decide +kernel
theorem dX1_operate_53 : decode cX1_operate 53 = .ok (.iconst 3, 1) := by decide +kernel
theorem dX1_operate_54 : decode cX1_operate 54 = .ok (.if_icmp .ne 9, 3) := by decide +kernel
theorem dX1_operate_57 : decode cX1_operate 57 = .ok (.iload_n 3, 1) := by decide +kernel
theorem dX1_operate_58 : decode cX1_operate 58 = .ok (.iload_n 2, 1) := by decide +kernel
theorem dX1_operate_59 : decode cX1_operate 59 = .ok (.imul, 1) := by decide +kernel
theorem dX1_operate_60 : decode cX1_operate 60 = .ok (.goto 13, 3) := by decide +kernel
theorem dX1_operate_63 : decode cX1_operate 63 = .ok (.iload_n 3, 1) := by decide +kernel
theorem dX1_operate_64 : decode cX1_operate 64 = .ok (.iload_n 2, 1) := by decide +kernel
theorem dX1_operate_65 : decode cX1_operate 65 = .ok (.if_icmp .ge 7, 3) := by decide +kernel
theorem dX1_operate_68 : decode cX1_operate 68 = .ok (.iconst 1, 1) := by decide +kernel
theorem dX1_operate_69 : decode cX1_operate 69 = .ok (.goto 4, 3) := by decide +kernel
theorem dX1_operate_72 : decode cX1_operate 72 = .ok (.iconst 0, 1) := by decide +kernel
theorem dX1_operate_73 : decode cX1_operate 73 = .ok (.invokevirtual 47, 3) := by decide +kernel
theorem dX1_operate_76 : decode cX1_operate 76 = .ok (.return_, 1) := by decide +kernel
abbrev cX1_pop : ByteArray := prog_3_method_14_code
def yX1_pop : MethodName := ⟨RX1, "pop", "()I"⟩
theorem dX1_pop_0 : decode cX1_pop 0 = .ok (.aload_n 0, 1) := by decide +kernel
theorem dX1_pop_1 : decode cX1_pop 1 = .ok (.dup, 1) := by decide +kernel
theorem dX1_pop_2 : decode cX1_pop 2 = .ok (.getfield 40, 3) := by decide +kernel
theorem dX1_pop_5 : decode cX1_pop 5 = .ok (.iconst 1, 1) := by decide +kernel
theorem dX1_pop_6 : decode cX1_pop 6 = .ok (.isub, 1) := by decide +kernel
theorem dX1_pop_7 : decode cX1_pop 7 = .ok (.putfield 40, 3) := by decide +kernel
theorem dX1_pop_10 : decode cX1_pop 10 = .ok (.aload_n 0, 1) := by decide +kernel
theorem dX1_pop_11 : decode cX1_pop 11 = .ok (.getfield 19, 3) := by decide +kernel
theorem dX1_pop_14 : decode cX1_pop 14 = .ok (.aload_n 0, 1) := by decide +kernel
theorem dX1_pop_15 : decode cX1_pop 15 = .ok (.getfield 40, 3) := by decide +kernel
theorem dX1_pop_18 : decode cX1_pop 18 = .ok (.iaload, 1) := by decide +kernel
theorem dX1_pop_19 : decode cX1_pop 19 = .ok (.ireturn, 1) := by decide +kernel
abbrev cX1_ending : ByteArray := prog_3_method_19_code
def yX1_ending : MethodName := ⟨RX1, "ending", "()I"⟩
theorem dX1_ending_0 : decode cX1_ending 0 = .ok (.aload_n 0, 1) := by decide +kernel
theorem dX1_ending_1 : decode cX1_ending 1 = .ok (.getfield 74, 3) := by decide +kernel
theorem dX1_ending_4 : decode cX1_ending 4 = .ok (.ireturn, 1) := by decide +kernel
abbrev cX1_place : ByteArray := prog_3_method_20_code
def yX1_place : MethodName := ⟨RX1, "place", "()I"⟩
theorem dX1_place_0 : decode cX1_place 0 = .ok (.aload_n 0, 1) := by decide +kernel
theorem dX1_place_1 : decode cX1_place 1 = .ok (.getfield 68, 3) := by decide +kernel
theorem dX1_place_4 : decode cX1_place 4 = .ok (.ireturn, 1) := by decide +kernel
abbrev cX1_steps : ByteArray := prog_3_method_21_code
def yX1_steps : MethodName := ⟨RX1, "steps", "()I"⟩
theorem dX1_steps_0 : decode cX1_steps 0 = .ok (.aload_n 0, 1) := by decide +kernel
theorem dX1_steps_1 : decode cX1_steps 1 = .ok (.getfield 54, 3) := by decide +kernel
theorem dX1_steps_4 : decode cX1_steps 4 = .ok (.ireturn, 1) := by decide +kernel
abbrev cX1_spent : ByteArray := prog_3_method_22_code
def yX1_spent : MethodName := ⟨RX1, "spent", "()I"⟩
theorem dX1_spent_0 : decode cX1_spent 0 = .ok (.aload_n 0, 1) := by decide +kernel
theorem dX1_spent_1 : decode cX1_spent 1 = .ok (.getfield 65, 3) := by decide +kernel
theorem dX1_spent_4 : decode cX1_spent 4 = .ok (.ireturn, 1) := by decide +kernel
abbrev cX1_height : ByteArray := prog_3_method_23_code
def yX1_height : MethodName := ⟨RX1, "height", "()I"⟩
theorem dX1_height_0 : decode cX1_height 0 = .ok (.aload_n 0, 1) := by decide +kernel
theorem dX1_height_1 : decode cX1_height 1 = .ok (.getfield 40, 3) := by decide +kernel
theorem dX1_height_4 : decode cX1_height 4 = .ok (.ireturn, 1) := by decide +kernel
abbrev cX1_pile : ByteArray := prog_3_method_24_code
def yX1_pile : MethodName := ⟨RX1, "pile", "(I)I"⟩
theorem dX1_pile_0 : decode cX1_pile 0 = .ok (.iload_n 1, 1) := by decide +kernel
theorem dX1_pile_1 : decode cX1_pile 1 = .ok (.ifCond .lt 20, 3) := by decide +kernel
theorem dX1_pile_4 : decode cX1_pile 4 = .ok (.iload_n 1, 1) := by decide +kernel
theorem dX1_pile_5 : decode cX1_pile 5 = .ok (.aload_n 0, 1) := by decide +kernel
theorem dX1_pile_6 : decode cX1_pile 6 = .ok (.getfield 40, 3) := by decide +kernel
theorem dX1_pile_9 : decode cX1_pile 9 = .ok (.if_icmp .ge 12, 3) := by decide +kernel
theorem dX1_pile_12 : decode cX1_pile 12 = .ok (.aload_n 0, 1) := by decide +kernel
theorem dX1_pile_13 : decode cX1_pile 13 = .ok (.getfield 19, 3) := by decide +kernel
theorem dX1_pile_16 : decode cX1_pile 16 = .ok (.iload_n 1, 1) := by decide +kernel
theorem dX1_pile_17 : decode cX1_pile 17 = .ok (.iaload, 1) := by decide +kernel
theorem dX1_pile_18 : decode cX1_pile 18 = .ok (.goto 4, 3) := by decide +kernel
theorem dX1_pile_21 : decode cX1_pile 21 = .ok (.iconst 0, 1) := by decide +kernel
theorem dX1_pile_22 : decode cX1_pile 22 = .ok (.ireturn, 1) := by decide +kernel
abbrev cX1_bill : ByteArray := prog_3_method_28_code
def yX1_bill : MethodName := ⟨RX1, "bill", "()I"⟩
theorem dX1_bill_0 : decode cX1_bill 0 = .ok (.aload_n 0, 1) := by decide +kernel
theorem dX1_bill_1 : decode cX1_bill 1 = .ok (.invokevirtual 80, 3) := by decide +kernel
theorem dX1_bill_4 : decode cX1_bill 4 = .ok (.ifCond .eq 5, 3) := by decide +kernel
theorem dX1_bill_7 : decode cX1_bill 7 = .ok (.iconst (-1), 1) := by decide +kernel
theorem dX1_bill_8 : decode cX1_bill 8 = .ok (.ireturn, 1) := by decide +kernel
theorem dX1_bill_9 : decode cX1_bill 9 = .ok (.aload_n 0, 1) := by decide +kernel
theorem dX1_bill_10 : decode cX1_bill 10 = .ok (.invokevirtual 84, 3) := by decide +kernel
theorem dX1_bill_13 : decode cX1_bill 13 = .ok (.aload_n 0, 1) := by decide +kernel
theorem dX1_bill_14 : decode cX1_bill 14 = .ok (.getfield 40, 3) := by decide +kernel
theorem dX1_bill_17 : decode cX1_bill 17 = .ok (.istore_n 1, 1) := by decide +kernel
theorem dX1_bill_18 : decode cX1_bill 18 = .ok (.aload_n 0, 1) := by decide +kernel
theorem dX1_bill_19 : decode cX1_bill 19 = .ok (.getfield 36, 3) := by decide +kernel
theorem dX1_bill_22 : decode cX1_bill 22 = .ok (.istore_n 2, 1) := by decide +kernel
theorem dX1_bill_23 : decode cX1_bill 23 = .ok (.aload_n 0, 1) := by decide +kernel
theorem dX1_bill_24 : decode cX1_bill 24 = .ok (.getfield 74, 3) := by decide +kernel
theorem dX1_bill_27 : decode cX1_bill 27 = .ok (.istore_n 3, 1) := by decide +kernel
theorem dX1_bill_28 : decode cX1_bill 28 = .ok (.aload_n 0, 1) := by decide +kernel
theorem dX1_bill_29 : decode cX1_bill 29 = .ok (.getfield 68, 3) := by decide +kernel
theorem dX1_bill_32 : decode cX1_bill 32 = .ok (.istore 4, 2) := by decide +kernel
theorem dX1_bill_34 : decode cX1_bill 34 = .ok (.aload_n 0, 1) := by decide +kernel
theorem dX1_bill_35 : decode cX1_bill 35 = .ok (.getfield 54, 3) := by decide +kernel
theorem dX1_bill_38 : decode cX1_bill 38 = .ok (.istore 5, 2) := by decide +kernel
theorem dX1_bill_40 : decode cX1_bill 40 = .ok (.aload_n 0, 1) := by decide +kernel
theorem dX1_bill_41 : decode cX1_bill 41 = .ok (.getfield 65, 3) := by decide +kernel
theorem dX1_bill_44 : decode cX1_bill 44 = .ok (.istore 6, 2) := by decide +kernel
theorem dX1_bill_46 : decode cX1_bill 46 = .ok (.aload_n 0, 1) := by decide +kernel
theorem dX1_bill_47 : decode cX1_bill 47 = .ok (.ldc 87, 2) := by decide +kernel
theorem dX1_bill_49 : decode cX1_bill 49 = .ok (.putfield 36, 3) := by decide +kernel
theorem dX1_bill_52 : decode cX1_bill 52 = .ok (.aload_n 0, 1) := by decide +kernel
theorem dX1_bill_53 : decode cX1_bill 53 = .ok (.invokevirtual 88, 3) := by decide +kernel
theorem dX1_bill_56 : decode cX1_bill 56 = .ok (.pop, 1) := by decide +kernel
theorem dX1_bill_57 : decode cX1_bill 57 = .ok (.aload_n 0, 1) := by decide +kernel
theorem dX1_bill_58 : decode cX1_bill 58 = .ok (.getfield 65, 3) := by decide +kernel
theorem dX1_bill_61 : decode cX1_bill 61 = .ok (.istore 7, 2) := by decide +kernel
theorem dX1_bill_63 : decode cX1_bill 63 = .ok (.aload_n 0, 1) := by decide +kernel
theorem dX1_bill_64 : decode cX1_bill 64 = .ok (.invokevirtual 91, 3) := by decide +kernel
theorem dX1_bill_67 : decode cX1_bill 67 = .ok (.aload_n 0, 1) := by decide +kernel
theorem dX1_bill_68 : decode cX1_bill 68 = .ok (.iload_n 1, 1) := by decide +kernel
theorem dX1_bill_69 : decode cX1_bill 69 = .ok (.putfield 40, 3) := by decide +kernel
theorem dX1_bill_72 : decode cX1_bill 72 = .ok (.aload_n 0, 1) := by decide +kernel
theorem dX1_bill_73 : decode cX1_bill 73 = .ok (.iload_n 2, 1) := by decide +kernel
theorem dX1_bill_74 : decode cX1_bill 74 = .ok (.putfield 36, 3) := by decide +kernel
theorem dX1_bill_77 : decode cX1_bill 77 = .ok (.aload_n 0, 1) := by decide +kernel
theorem dX1_bill_78 : decode cX1_bill 78 = .ok (.iload_n 3, 1) := by decide +kernel
theorem dX1_bill_79 : decode cX1_bill 79 = .ok (.putfield 74, 3) := by decide +kernel
theorem dX1_bill_82 : decode cX1_bill 82 = .ok (.aload_n 0, 1) := by decide +kernel
theorem dX1_bill_83 : decode cX1_bill 83 = .ok (.iload 4, 2) := by decide +kernel
theorem dX1_bill_85 : decode cX1_bill 85 = .ok (.putfield 68, 3) := by decide +kernel
theorem dX1_bill_88 : decode cX1_bill 88 = .ok (.aload_n 0, 1) := by decide +kernel
theorem dX1_bill_89 : decode cX1_bill 89 = .ok (.iload 5, 2) := by decide +kernel
theorem dX1_bill_91 : decode cX1_bill 91 = .ok (.putfield 54, 3) := by decide +kernel
theorem dX1_bill_94 : decode cX1_bill 94 = .ok (.aload_n 0, 1) := by decide +kernel
theorem dX1_bill_95 : decode cX1_bill 95 = .ok (.iload 6, 2) := by decide +kernel
theorem dX1_bill_97 : decode cX1_bill 97 = .ok (.putfield 65, 3) := by decide +kernel
theorem dX1_bill_100 : decode cX1_bill 100 = .ok (.iload 7, 2) := by decide +kernel
theorem dX1_bill_102 : decode cX1_bill 102 = .ok (.ireturn, 1) := by decide +kernel
abbrev cX1_asksGas : ByteArray := prog_3_method_25_code
def yX1_asksGas : MethodName := ⟨RX1, "asksGas", "()Z"⟩
theorem dX1_asksGas_0 : decode cX1_asksGas 0 = .ok (.iconst 0, 1) := by decide +kernel
theorem dX1_asksGas_1 : decode cX1_asksGas 1 = .ok (.istore_n 1, 1) := by decide +kernel
theorem dX1_asksGas_2 : decode cX1_asksGas 2 = .ok (.iload_n 1, 1) := by decide +kernel
theorem dX1_asksGas_3 : decode cX1_asksGas 3 = .ok (.aload_n 0, 1) := by decide +kernel
theorem dX1_asksGas_4 : decode cX1_asksGas 4 = .ok (.getfield 32, 3) := by decide +kernel
theorem dX1_asksGas_7 : decode cX1_asksGas 7 = .ok (.if_icmp .ge 22, 3) := by decide +kernel
theorem dX1_asksGas_10 : decode cX1_asksGas 10 = .ok (.aload_n 0, 1) := by decide +kernel
theorem dX1_asksGas_11 : decode cX1_asksGas 11 = .ok (.getfield 7, 3) := by decide +kernel
theorem dX1_asksGas_14 : decode cX1_asksGas 14 = .ok (.iload_n 1, 1) := by decide +kernel
theorem dX1_asksGas_15 : decode cX1_asksGas 15 = .ok (.iaload, 1) := by decide +kernel
theorem dX1_asksGas_16 : decode cX1_asksGas 16 = .ok (.bipush 13, 2) := by decide +kernel
theorem dX1_asksGas_18 : decode cX1_asksGas 18 = .ok (.if_icmp .ne 5, 3) := by decide +kernel
theorem dX1_asksGas_21 : decode cX1_asksGas 21 = .ok (.iconst 1, 1) := by decide +kernel
theorem dX1_asksGas_22 : decode cX1_asksGas 22 = .ok (.ireturn, 1) := by decide +kernel
theorem dX1_asksGas_23 : decode cX1_asksGas 23 = .ok (.iinc 1 1, 3) := by decide +kernel
theorem dX1_asksGas_26 : decode cX1_asksGas 26 = .ok (.goto (-24), 3) := by decide +kernel
theorem dX1_asksGas_29 : decode cX1_asksGas 29 = .ok (.iconst 0, 1) := by decide +kernel
theorem dX1_asksGas_30 : decode cX1_asksGas 30 = .ok (.ireturn, 1) := by decide +kernel
abbrev cX1_keep : ByteArray := prog_3_method_26_code
def yX1_keep : MethodName := ⟨RX1, "keep", "()V"⟩
theorem dX1_keep_0 : decode cX1_keep 0 = .ok (.iconst 0, 1) := by decide +kernel
theorem dX1_keep_1 : decode cX1_keep 1 = .ok (.istore_n 1, 1) := by decide +kernel
theorem dX1_keep_2 : decode cX1_keep 2 = .ok (.iload_n 1, 1) := by decide +kernel
theorem dX1_keep_3 : decode cX1_keep 3 = .ok (.bipush 8, 2) := by decide +kernel
theorem dX1_keep_5 : decode cX1_keep 5 = .ok (.if_icmp .ge 37, 3) := by decide +kernel
theorem dX1_keep_8 : decode cX1_keep 8 = .ok (.aload_n 0, 1) := by decide +kernel
theorem dX1_keep_9 : decode cX1_keep 9 = .ok (.getfield 25, 3) := by decide +kernel
theorem dX1_keep_12 : decode cX1_keep 12 = .ok (.iload_n 1, 1) := by decide +kernel
theorem dX1_keep_13 : decode cX1_keep 13 = .ok (.aload_n 0, 1) := by decide +kernel
theorem dX1_keep_14 : decode cX1_keep 14 = .ok (.getfield 19, 3) := by decide +kernel
theorem dX1_keep_17 : decode cX1_keep 17 = .ok (.iload_n 1, 1) := by decide +kernel
theorem dX1_keep_18 : decode cX1_keep 18 = .ok (.iaload, 1) := by decide +kernel
theorem dX1_keep_19 : decode cX1_keep 19 = .ok (.iastore, 1) := by decide +kernel
theorem dX1_keep_20 : decode cX1_keep 20 = .ok (.aload_n 0, 1) := by decide +kernel
theorem dX1_keep_21 : decode cX1_keep 21 = .ok (.getfield 22, 3) := by decide +kernel
theorem dX1_keep_24 : decode cX1_keep 24 = .ok (.iload_n 1, 1) := by decide +kernel
theorem dX1_keep_25 : decode cX1_keep 25 = .ok (.iconst 3, 1) := by decide +kernel
theorem dX1_keep_26 : decode cX1_keep 26 = .ok (.iand, 1) := by decide +kernel
theorem dX1_keep_27 : decode cX1_keep 27 = .ok (.aload_n 0, 1) := by decide +kernel
theorem dX1_keep_28 : decode cX1_keep 28 = .ok (.getfield 16, 3) := by decide +kernel
theorem dX1_keep_31 : decode cX1_keep 31 = .ok (.iload_n 1, 1) := by decide +kernel
theorem dX1_keep_32 : decode cX1_keep 32 = .ok (.iconst 3, 1) := by decide +kernel
theorem dX1_keep_33 : decode cX1_keep 33 = .ok (.iand, 1) := by decide +kernel
theorem dX1_keep_34 : decode cX1_keep 34 = .ok (.iaload, 1) := by decide +kernel
theorem dX1_keep_35 : decode cX1_keep 35 = .ok (.iastore, 1) := by decide +kernel
theorem dX1_keep_36 : decode cX1_keep 36 = .ok (.iinc 1 1, 3) := by decide +kernel
theorem dX1_keep_39 : decode cX1_keep 39 = .ok (.goto (-37), 3) := by decide +kernel
theorem dX1_keep_42 : decode cX1_keep 42 = .ok (.return_, 1) := by decide +kernel
abbrev cX1_giveBack : ByteArray := prog_3_method_27_code
def yX1_giveBack : MethodName := ⟨RX1, "giveBack", "()V"⟩
theorem dX1_giveBack_0 : decode cX1_giveBack 0 = .ok (.iconst 0, 1) := by decide +kernel
theorem dX1_giveBack_1 : decode cX1_giveBack 1 = .ok (.istore_n 1, 1) := by decide +kernel
theorem dX1_giveBack_2 : decode cX1_giveBack 2 = .ok (.iload_n 1, 1) := by decide +kernel
theorem dX1_giveBack_3 : decode cX1_giveBack 3 = .ok (.bipush 8, 2) := by decide +kernel
theorem dX1_giveBack_5 : decode cX1_giveBack 5 = .ok (.if_icmp .ge 37, 3) := by decide +kernel
theorem dX1_giveBack_8 : decode cX1_giveBack 8 = .ok (.aload_n 0, 1) := by decide +kernel
theorem dX1_giveBack_9 : decode cX1_giveBack 9 = .ok (.getfield 19, 3) := by decide +kernel
theorem dX1_giveBack_12 : decode cX1_giveBack 12 = .ok (.iload_n 1, 1) := by decide +kernel
theorem dX1_giveBack_13 : decode cX1_giveBack 13 = .ok (.aload_n 0, 1) := by decide +kernel
theorem dX1_giveBack_14 : decode cX1_giveBack 14 = .ok (.getfield 25, 3) := by decide +kernel
theorem dX1_giveBack_17 : decode cX1_giveBack 17 = .ok (.iload_n 1, 1) := by decide +kernel
theorem dX1_giveBack_18 : decode cX1_giveBack 18 = .ok (.iaload, 1) := by decide +kernel
theorem dX1_giveBack_19 : decode cX1_giveBack 19 = .ok (.iastore, 1) := by decide +kernel
theorem dX1_giveBack_20 : decode cX1_giveBack 20 = .ok (.aload_n 0, 1) := by decide +kernel
theorem dX1_giveBack_21 : decode cX1_giveBack 21 = .ok (.getfield 16, 3) := by decide +kernel
theorem dX1_giveBack_24 : decode cX1_giveBack 24 = .ok (.iload_n 1, 1) := by decide +kernel
theorem dX1_giveBack_25 : decode cX1_giveBack 25 = .ok (.iconst 3, 1) := by decide +kernel
theorem dX1_giveBack_26 : decode cX1_giveBack 26 = .ok (.iand, 1) := by decide +kernel
theorem dX1_giveBack_27 : decode cX1_giveBack 27 = .ok (.aload_n 0, 1) := by decide +kernel
theorem dX1_giveBack_28 : decode cX1_giveBack 28 = .ok (.getfield 22, 3) := by decide +kernel
theorem dX1_giveBack_31 : decode cX1_giveBack 31 = .ok (.iload_n 1, 1) := by decide +kernel
theorem dX1_giveBack_32 : decode cX1_giveBack 32 = .ok (.iconst 3, 1) := by decide +kernel
theorem dX1_giveBack_33 : decode cX1_giveBack 33 = .ok (.iand, 1) := by decide +kernel
theorem dX1_giveBack_34 : decode cX1_giveBack 34 = .ok (.iaload, 1) := by decide +kernel
theorem dX1_giveBack_35 : decode cX1_giveBack 35 = .ok (.iastore, 1) := by decide +kernel
theorem dX1_giveBack_36 : decode cX1_giveBack 36 = .ok (.iinc 1 1, 3) := by decide +kernel
theorem dX1_giveBack_39 : decode cX1_giveBack 39 = .ok (.goto (-37), 3) := by decide +kernel
theorem dX1_giveBack_42 : decode cX1_giveBack 42 = .ok (.return_, 1) := by decide +kernel
end
section
/-! the law's own entry -/
set_option maxRecDepth 100000
abbrev cL_law : ByteArray := code
theorem dL_law_0 : decode cL_law 0 = .ok (.new 7, 3) := by decide +kernel
theorem dL_law_3 : decode cL_law 3 = .ok (.dup, 1) := by decide +kernel
theorem dL_law_4 : decode cL_law 4 = .ok (.invokespecial 9, 3) := by decide +kernel
theorem dL_law_7 : decode cL_law 7 = .ok (.astore_n 1, 1) := by decide +kernel
theorem dL_law_8 : decode cL_law 8 = .ok (.new 10, 3) := by decide +kernel
theorem dL_law_11 : decode cL_law 11 = .ok (.dup, 1) := by decide +kernel
theorem dL_law_12 : decode cL_law 12 = .ok (.invokespecial 12, 3) := by decide +kernel
theorem dL_law_15 : decode cL_law 15 = .ok (.astore_n 2, 1) := by decide +kernel
theorem dL_law_16 : decode cL_law 16 = .ok (.iconst 0, 1) := by decide +kernel
theorem dL_law_17 : decode cL_law 17 = .ok (.istore_n 3, 1) := by decide +kernel
theorem dL_law_18 : decode cL_law 18 = .ok (.iload_n 3, 1) := by decide +kernel
theorem dL_law_19 : decode cL_law 19 = .ok (.aload_n 0, 1) := by decide +kernel
theorem dL_law_20 : decode cL_law 20 = .ok (.arraylength, 1) := by decide +kernel
theorem dL_law_21 : decode cL_law 21 = .ok (.iconst 4, 1) := by decide +kernel
theorem dL_law_22 : decode cL_law 22 = .ok (.isub, 1) := by decide +kernel
theorem dL_law_23 : decode cL_law 23 = .ok (.if_icmp .gt 401, 3) := by decide +kernel
theorem dL_law_26 : decode cL_law 26 = .ok (.aload_n 0, 1) := by decide +kernel
theorem dL_law_27 : decode cL_law 27 = .ok (.iload_n 3, 1) := by decide +kernel
theorem dL_law_28 : decode cL_law 28 = .ok (.iaload, 1) := by decide +kernel
theorem dL_law_29 : decode cL_law 29 = .ok (.bipush 15, 2) := by decide +kernel
theorem dL_law_31 : decode cL_law 31 = .ok (.iand, 1) := by decide +kernel
theorem dL_law_32 : decode cL_law 32 = .ok (.tableswitch 386 0 15 #[80, 113, 156, 167, 180, 213, 236, 259, 272, 285, 298, 311, 324, 337, 350, 373], 80) := by decide +kernel
theorem dL_law_112 : decode cL_law 112 = .ok (.aload_n 1, 1) := by decide +kernel
theorem dL_law_113 : decode cL_law 113 = .ok (.aload_n 0, 1) := by decide +kernel
theorem dL_law_114 : decode cL_law 114 = .ok (.iload_n 3, 1) := by decide +kernel
theorem dL_law_115 : decode cL_law 115 = .ok (.iconst 1, 1) := by decide +kernel
theorem dL_law_116 : decode cL_law 116 = .ok (.iadd, 1) := by decide +kernel
theorem dL_law_117 : decode cL_law 117 = .ok (.iaload, 1) := by decide +kernel
theorem dL_law_118 : decode cL_law 118 = .ok (.aload_n 0, 1) := by decide +kernel
theorem dL_law_119 : decode cL_law 119 = .ok (.iload_n 3, 1) := by decide +kernel
theorem dL_law_120 : decode cL_law 120 = .ok (.iconst 2, 1) := by decide +kernel
theorem dL_law_121 : decode cL_law 121 = .ok (.iadd, 1) := by decide +kernel
theorem dL_law_122 : decode cL_law 122 = .ok (.iaload, 1) := by decide +kernel
theorem dL_law_123 : decode cL_law 123 = .ok (.invokevirtual 13, 3) := by decide +kernel
theorem dL_law_126 : decode cL_law 126 = .ok (.aload_n 2, 1) := by decide +kernel
theorem dL_law_127 : decode cL_law 127 = .ok (.aload_n 0, 1) := by decide +kernel
theorem dL_law_128 : decode cL_law 128 = .ok (.iload_n 3, 1) := by decide +kernel
theorem dL_law_129 : decode cL_law 129 = .ok (.iconst 1, 1) := by decide +kernel
theorem dL_law_130 : decode cL_law 130 = .ok (.iadd, 1) := by decide +kernel
theorem dL_law_131 : decode cL_law 131 = .ok (.iaload, 1) := by decide +kernel
theorem dL_law_132 : decode cL_law 132 = .ok (.aload_n 0, 1) := by decide +kernel
theorem dL_law_133 : decode cL_law 133 = .ok (.iload_n 3, 1) := by decide +kernel
theorem dL_law_134 : decode cL_law 134 = .ok (.iconst 2, 1) := by decide +kernel
theorem dL_law_135 : decode cL_law 135 = .ok (.iadd, 1) := by decide +kernel
theorem dL_law_136 : decode cL_law 136 = .ok (.iaload, 1) := by decide +kernel
theorem dL_law_137 : decode cL_law 137 = .ok (.invokevirtual 17, 3) := by decide +kernel
theorem dL_law_140 : decode cL_law 140 = .ok (.if_icmp .eq 278, 3) := by decide +kernel
theorem dL_law_143 : decode cL_law 143 = .ok (.iconst 0, 1) := by decide +kernel
theorem dL_law_144 : decode cL_law 144 = .ok (.ireturn, 1) := by decide +kernel
theorem dL_law_145 : decode cL_law 145 = .ok (.aload_n 1, 1) := by decide +kernel
theorem dL_law_146 : decode cL_law 146 = .ok (.aload_n 0, 1) := by decide +kernel
theorem dL_law_147 : decode cL_law 147 = .ok (.iload_n 3, 1) := by decide +kernel
theorem dL_law_148 : decode cL_law 148 = .ok (.iconst 1, 1) := by decide +kernel
theorem dL_law_149 : decode cL_law 149 = .ok (.iadd, 1) := by decide +kernel
theorem dL_law_150 : decode cL_law 150 = .ok (.iaload, 1) := by decide +kernel
theorem dL_law_151 : decode cL_law 151 = .ok (.aload_n 0, 1) := by decide +kernel
theorem dL_law_152 : decode cL_law 152 = .ok (.iload_n 3, 1) := by decide +kernel
theorem dL_law_153 : decode cL_law 153 = .ok (.iconst 2, 1) := by decide +kernel
theorem dL_law_154 : decode cL_law 154 = .ok (.iadd, 1) := by decide +kernel
theorem dL_law_155 : decode cL_law 155 = .ok (.iaload, 1) := by decide +kernel
theorem dL_law_156 : decode cL_law 156 = .ok (.aload_n 0, 1) := by decide +kernel
theorem dL_law_157 : decode cL_law 157 = .ok (.iload_n 3, 1) := by decide +kernel
theorem dL_law_158 : decode cL_law 158 = .ok (.iconst 3, 1) := by decide +kernel
theorem dL_law_159 : decode cL_law 159 = .ok (.iadd, 1) := by decide +kernel
theorem dL_law_160 : decode cL_law 160 = .ok (.iaload, 1) := by decide +kernel
theorem dL_law_161 : decode cL_law 161 = .ok (.invokevirtual 18, 3) := by decide +kernel
theorem dL_law_164 : decode cL_law 164 = .ok (.aload_n 2, 1) := by decide +kernel
theorem dL_law_165 : decode cL_law 165 = .ok (.aload_n 0, 1) := by decide +kernel
theorem dL_law_166 : decode cL_law 166 = .ok (.iload_n 3, 1) := by decide +kernel
theorem dL_law_167 : decode cL_law 167 = .ok (.iconst 1, 1) := by decide +kernel
theorem dL_law_168 : decode cL_law 168 = .ok (.iadd, 1) := by decide +kernel
theorem dL_law_169 : decode cL_law 169 = .ok (.iaload, 1) := by decide +kernel
theorem dL_law_170 : decode cL_law 170 = .ok (.aload_n 0, 1) := by decide +kernel
theorem dL_law_171 : decode cL_law 171 = .ok (.iload_n 3, 1) := by decide +kernel
theorem dL_law_172 : decode cL_law 172 = .ok (.iconst 2, 1) := by decide +kernel
theorem dL_law_173 : decode cL_law 173 = .ok (.iadd, 1) := by decide +kernel
theorem dL_law_174 : decode cL_law 174 = .ok (.iaload, 1) := by decide +kernel
theorem dL_law_175 : decode cL_law 175 = .ok (.aload_n 0, 1) := by decide +kernel
theorem dL_law_176 : decode cL_law 176 = .ok (.iload_n 3, 1) := by decide +kernel
theorem dL_law_177 : decode cL_law 177 = .ok (.iconst 3, 1) := by decide +kernel
theorem dL_law_178 : decode cL_law 178 = .ok (.iadd, 1) := by decide +kernel
theorem dL_law_179 : decode cL_law 179 = .ok (.iaload, 1) := by decide +kernel
theorem dL_law_180 : decode cL_law 180 = .ok (.invokevirtual 22, 3) := by decide +kernel
theorem dL_law_183 : decode cL_law 183 = .ok (.if_icmp .eq 235, 3) := by decide +kernel
theorem dL_law_186 : decode cL_law 186 = .ok (.iconst 0, 1) := by decide +kernel
theorem dL_law_187 : decode cL_law 187 = .ok (.ireturn, 1) := by decide +kernel
theorem dL_law_188 : decode cL_law 188 = .ok (.aload_n 1, 1) := by decide +kernel
theorem dL_law_189 : decode cL_law 189 = .ok (.invokevirtual 23, 3) := by decide +kernel
theorem dL_law_192 : decode cL_law 192 = .ok (.aload_n 2, 1) := by decide +kernel
theorem dL_law_193 : decode cL_law 193 = .ok (.invokevirtual 26, 3) := by decide +kernel
theorem dL_law_196 : decode cL_law 196 = .ok (.goto 222, 3) := by decide +kernel
theorem dL_law_199 : decode cL_law 199 = .ok (.aload_n 1, 1) := by decide +kernel
theorem dL_law_200 : decode cL_law 200 = .ok (.invokevirtual 27, 3) := by decide +kernel
theorem dL_law_203 : decode cL_law 203 = .ok (.aload_n 2, 1) := by decide +kernel
theorem dL_law_204 : decode cL_law 204 = .ok (.invokevirtual 31, 3) := by decide +kernel
theorem dL_law_207 : decode cL_law 207 = .ok (.if_icmp .eq 211, 3) := by decide +kernel
theorem dL_law_210 : decode cL_law 210 = .ok (.iconst 0, 1) := by decide +kernel
theorem dL_law_211 : decode cL_law 211 = .ok (.ireturn, 1) := by decide +kernel
theorem dL_law_212 : decode cL_law 212 = .ok (.aload_n 1, 1) := by decide +kernel
theorem dL_law_213 : decode cL_law 213 = .ok (.aload_n 0, 1) := by decide +kernel
theorem dL_law_214 : decode cL_law 214 = .ok (.iload_n 3, 1) := by decide +kernel
theorem dL_law_215 : decode cL_law 215 = .ok (.iconst 1, 1) := by decide +kernel
theorem dL_law_216 : decode cL_law 216 = .ok (.iadd, 1) := by decide +kernel
theorem dL_law_217 : decode cL_law 217 = .ok (.iaload, 1) := by decide +kernel
theorem dL_law_218 : decode cL_law 218 = .ok (.aload_n 0, 1) := by decide +kernel
theorem dL_law_219 : decode cL_law 219 = .ok (.iload_n 3, 1) := by decide +kernel
theorem dL_law_220 : decode cL_law 220 = .ok (.iconst 2, 1) := by decide +kernel
theorem dL_law_221 : decode cL_law 221 = .ok (.iadd, 1) := by decide +kernel
theorem dL_law_222 : decode cL_law 222 = .ok (.iaload, 1) := by decide +kernel
theorem dL_law_223 : decode cL_law 223 = .ok (.invokevirtual 32, 3) := by decide +kernel
theorem dL_law_226 : decode cL_law 226 = .ok (.aload_n 2, 1) := by decide +kernel
theorem dL_law_227 : decode cL_law 227 = .ok (.aload_n 0, 1) := by decide +kernel
theorem dL_law_228 : decode cL_law 228 = .ok (.iload_n 3, 1) := by decide +kernel
theorem dL_law_229 : decode cL_law 229 = .ok (.iconst 1, 1) := by decide +kernel
theorem dL_law_230 : decode cL_law 230 = .ok (.iadd, 1) := by decide +kernel
theorem dL_law_231 : decode cL_law 231 = .ok (.iaload, 1) := by decide +kernel
theorem dL_law_232 : decode cL_law 232 = .ok (.aload_n 0, 1) := by decide +kernel
theorem dL_law_233 : decode cL_law 233 = .ok (.iload_n 3, 1) := by decide +kernel
theorem dL_law_234 : decode cL_law 234 = .ok (.iconst 2, 1) := by decide +kernel
theorem dL_law_235 : decode cL_law 235 = .ok (.iadd, 1) := by decide +kernel
theorem dL_law_236 : decode cL_law 236 = .ok (.iaload, 1) := by decide +kernel
theorem dL_law_237 : decode cL_law 237 = .ok (.invokevirtual 35, 3) := by decide +kernel
theorem dL_law_240 : decode cL_law 240 = .ok (.if_icmp .eq 178, 3) := by decide +kernel
theorem dL_law_243 : decode cL_law 243 = .ok (.iconst 0, 1) := by decide +kernel
theorem dL_law_244 : decode cL_law 244 = .ok (.ireturn, 1) := by decide +kernel
theorem dL_law_245 : decode cL_law 245 = .ok (.aload_n 1, 1) := by decide +kernel
theorem dL_law_246 : decode cL_law 246 = .ok (.aload_n 0, 1) := by decide +kernel
theorem dL_law_247 : decode cL_law 247 = .ok (.iload_n 3, 1) := by decide +kernel
theorem dL_law_248 : decode cL_law 248 = .ok (.iconst 1, 1) := by decide +kernel
theorem dL_law_249 : decode cL_law 249 = .ok (.iadd, 1) := by decide +kernel
theorem dL_law_250 : decode cL_law 250 = .ok (.iaload, 1) := by decide +kernel
theorem dL_law_251 : decode cL_law 251 = .ok (.invokevirtual 36, 3) := by decide +kernel
theorem dL_law_254 : decode cL_law 254 = .ok (.aload_n 2, 1) := by decide +kernel
theorem dL_law_255 : decode cL_law 255 = .ok (.aload_n 0, 1) := by decide +kernel
theorem dL_law_256 : decode cL_law 256 = .ok (.iload_n 3, 1) := by decide +kernel
theorem dL_law_257 : decode cL_law 257 = .ok (.iconst 1, 1) := by decide +kernel
theorem dL_law_258 : decode cL_law 258 = .ok (.iadd, 1) := by decide +kernel
theorem dL_law_259 : decode cL_law 259 = .ok (.iaload, 1) := by decide +kernel
theorem dL_law_260 : decode cL_law 260 = .ok (.invokevirtual 40, 3) := by decide +kernel
theorem dL_law_263 : decode cL_law 263 = .ok (.if_icmp .eq 155, 3) := by decide +kernel
theorem dL_law_266 : decode cL_law 266 = .ok (.iconst 0, 1) := by decide +kernel
theorem dL_law_267 : decode cL_law 267 = .ok (.ireturn, 1) := by decide +kernel
theorem dL_law_268 : decode cL_law 268 = .ok (.aload_n 1, 1) := by decide +kernel
theorem dL_law_269 : decode cL_law 269 = .ok (.aload_n 0, 1) := by decide +kernel
theorem dL_law_270 : decode cL_law 270 = .ok (.iload_n 3, 1) := by decide +kernel
theorem dL_law_271 : decode cL_law 271 = .ok (.iconst 1, 1) := by decide +kernel
theorem dL_law_272 : decode cL_law 272 = .ok (.iadd, 1) := by decide +kernel
theorem dL_law_273 : decode cL_law 273 = .ok (.iaload, 1) := by decide +kernel
theorem dL_law_274 : decode cL_law 274 = .ok (.invokevirtual 41, 3) := by decide +kernel
theorem dL_law_277 : decode cL_law 277 = .ok (.aload_n 2, 1) := by decide +kernel
theorem dL_law_278 : decode cL_law 278 = .ok (.aload_n 0, 1) := by decide +kernel
theorem dL_law_279 : decode cL_law 279 = .ok (.iload_n 3, 1) := by decide +kernel
theorem dL_law_280 : decode cL_law 280 = .ok (.iconst 1, 1) := by decide +kernel
theorem dL_law_281 : decode cL_law 281 = .ok (.iadd, 1) := by decide +kernel
theorem dL_law_282 : decode cL_law 282 = .ok (.iaload, 1) := by decide +kernel
theorem dL_law_283 : decode cL_law 283 = .ok (.invokevirtual 44, 3) := by decide +kernel
theorem dL_law_286 : decode cL_law 286 = .ok (.if_icmp .eq 132, 3) := by decide +kernel
theorem dL_law_289 : decode cL_law 289 = .ok (.iconst 0, 1) := by decide +kernel
theorem dL_law_290 : decode cL_law 290 = .ok (.ireturn, 1) := by decide +kernel
theorem dL_law_291 : decode cL_law 291 = .ok (.aload_n 1, 1) := by decide +kernel
theorem dL_law_292 : decode cL_law 292 = .ok (.invokevirtual 45, 3) := by decide +kernel
theorem dL_law_295 : decode cL_law 295 = .ok (.aload_n 2, 1) := by decide +kernel
theorem dL_law_296 : decode cL_law 296 = .ok (.invokevirtual 48, 3) := by decide +kernel
theorem dL_law_299 : decode cL_law 299 = .ok (.if_icmp .eq 119, 3) := by decide +kernel
theorem dL_law_302 : decode cL_law 302 = .ok (.iconst 0, 1) := by decide +kernel
theorem dL_law_303 : decode cL_law 303 = .ok (.ireturn, 1) := by decide +kernel
theorem dL_law_304 : decode cL_law 304 = .ok (.aload_n 1, 1) := by decide +kernel
theorem dL_law_305 : decode cL_law 305 = .ok (.invokevirtual 49, 3) := by decide +kernel
theorem dL_law_308 : decode cL_law 308 = .ok (.aload_n 2, 1) := by decide +kernel
theorem dL_law_309 : decode cL_law 309 = .ok (.invokevirtual 52, 3) := by decide +kernel
theorem dL_law_312 : decode cL_law 312 = .ok (.if_icmp .eq 106, 3) := by decide +kernel
theorem dL_law_315 : decode cL_law 315 = .ok (.iconst 0, 1) := by decide +kernel
theorem dL_law_316 : decode cL_law 316 = .ok (.ireturn, 1) := by decide +kernel
theorem dL_law_317 : decode cL_law 317 = .ok (.aload_n 1, 1) := by decide +kernel
theorem dL_law_318 : decode cL_law 318 = .ok (.invokevirtual 53, 3) := by decide +kernel
theorem dL_law_321 : decode cL_law 321 = .ok (.aload_n 2, 1) := by decide +kernel
theorem dL_law_322 : decode cL_law 322 = .ok (.invokevirtual 56, 3) := by decide +kernel
theorem dL_law_325 : decode cL_law 325 = .ok (.if_icmp .eq 93, 3) := by decide +kernel
theorem dL_law_328 : decode cL_law 328 = .ok (.iconst 0, 1) := by decide +kernel
theorem dL_law_329 : decode cL_law 329 = .ok (.ireturn, 1) := by decide +kernel
theorem dL_law_330 : decode cL_law 330 = .ok (.aload_n 1, 1) := by decide +kernel
theorem dL_law_331 : decode cL_law 331 = .ok (.invokevirtual 57, 3) := by decide +kernel
theorem dL_law_334 : decode cL_law 334 = .ok (.aload_n 2, 1) := by decide +kernel
theorem dL_law_335 : decode cL_law 335 = .ok (.invokevirtual 60, 3) := by decide +kernel
theorem dL_law_338 : decode cL_law 338 = .ok (.if_icmp .eq 80, 3) := by decide +kernel
theorem dL_law_341 : decode cL_law 341 = .ok (.iconst 0, 1) := by decide +kernel
theorem dL_law_342 : decode cL_law 342 = .ok (.ireturn, 1) := by decide +kernel
theorem dL_law_343 : decode cL_law 343 = .ok (.aload_n 1, 1) := by decide +kernel
theorem dL_law_344 : decode cL_law 344 = .ok (.invokevirtual 61, 3) := by decide +kernel
theorem dL_law_347 : decode cL_law 347 = .ok (.aload_n 2, 1) := by decide +kernel
theorem dL_law_348 : decode cL_law 348 = .ok (.invokevirtual 64, 3) := by decide +kernel
theorem dL_law_351 : decode cL_law 351 = .ok (.if_icmp .eq 67, 3) := by decide +kernel
theorem dL_law_354 : decode cL_law 354 = .ok (.iconst 0, 1) := by decide +kernel
theorem dL_law_355 : decode cL_law 355 = .ok (.ireturn, 1) := by decide +kernel
theorem dL_law_356 : decode cL_law 356 = .ok (.aload_n 1, 1) := by decide +kernel
theorem dL_law_357 : decode cL_law 357 = .ok (.invokevirtual 65, 3) := by decide +kernel
theorem dL_law_360 : decode cL_law 360 = .ok (.aload_n 2, 1) := by decide +kernel
theorem dL_law_361 : decode cL_law 361 = .ok (.invokevirtual 68, 3) := by decide +kernel
theorem dL_law_364 : decode cL_law 364 = .ok (.if_icmp .eq 54, 3) := by decide +kernel
theorem dL_law_367 : decode cL_law 367 = .ok (.iconst 0, 1) := by decide +kernel
theorem dL_law_368 : decode cL_law 368 = .ok (.ireturn, 1) := by decide +kernel
theorem dL_law_369 : decode cL_law 369 = .ok (.aload_n 1, 1) := by decide +kernel
theorem dL_law_370 : decode cL_law 370 = .ok (.invokevirtual 69, 3) := by decide +kernel
theorem dL_law_373 : decode cL_law 373 = .ok (.aload_n 2, 1) := by decide +kernel
theorem dL_law_374 : decode cL_law 374 = .ok (.invokevirtual 72, 3) := by decide +kernel
theorem dL_law_377 : decode cL_law 377 = .ok (.if_icmp .eq 41, 3) := by decide +kernel
theorem dL_law_380 : decode cL_law 380 = .ok (.iconst 0, 1) := by decide +kernel
theorem dL_law_381 : decode cL_law 381 = .ok (.ireturn, 1) := by decide +kernel
theorem dL_law_382 : decode cL_law 382 = .ok (.aload_n 1, 1) := by decide +kernel
theorem dL_law_383 : decode cL_law 383 = .ok (.aload_n 0, 1) := by decide +kernel
theorem dL_law_384 : decode cL_law 384 = .ok (.iload_n 3, 1) := by decide +kernel
theorem dL_law_385 : decode cL_law 385 = .ok (.iconst 1, 1) := by decide +kernel
theorem dL_law_386 : decode cL_law 386 = .ok (.iadd, 1) := by decide +kernel
theorem dL_law_387 : decode cL_law 387 = .ok (.iaload, 1) := by decide +kernel
theorem dL_law_388 : decode cL_law 388 = .ok (.invokevirtual 73, 3) := by decide +kernel
theorem dL_law_391 : decode cL_law 391 = .ok (.aload_n 2, 1) := by decide +kernel
theorem dL_law_392 : decode cL_law 392 = .ok (.aload_n 0, 1) := by decide +kernel
theorem dL_law_393 : decode cL_law 393 = .ok (.iload_n 3, 1) := by decide +kernel
theorem dL_law_394 : decode cL_law 394 = .ok (.iconst 1, 1) := by decide +kernel
theorem dL_law_395 : decode cL_law 395 = .ok (.iadd, 1) := by decide +kernel
theorem dL_law_396 : decode cL_law 396 = .ok (.iaload, 1) := by decide +kernel
theorem dL_law_397 : decode cL_law 397 = .ok (.invokevirtual 76, 3) := by decide +kernel
theorem dL_law_400 : decode cL_law 400 = .ok (.if_icmp .eq 18, 3) := by decide +kernel
theorem dL_law_403 : decode cL_law 403 = .ok (.iconst 0, 1) := by decide +kernel
theorem dL_law_404 : decode cL_law 404 = .ok (.ireturn, 1) := by decide +kernel
theorem dL_law_405 : decode cL_law 405 = .ok (.aload_n 1, 1) := by decide +kernel
theorem dL_law_406 : decode cL_law 406 = .ok (.invokevirtual 77, 3) := by decide +kernel
theorem dL_law_409 : decode cL_law 409 = .ok (.aload_n 2, 1) := by decide +kernel
theorem dL_law_410 : decode cL_law 410 = .ok (.invokevirtual 80, 3) := by decide +kernel
theorem dL_law_413 : decode cL_law 413 = .ok (.if_icmp .eq 5, 3) := by decide +kernel
theorem dL_law_416 : decode cL_law 416 = .ok (.iconst 0, 1) := by decide +kernel
theorem dL_law_417 : decode cL_law 417 = .ok (.ireturn, 1) := by decide +kernel
theorem dL_law_418 : decode cL_law 418 = .ok (.iinc 3 4, 3) := by decide +kernel
theorem dL_law_421 : decode cL_law 421 = .ok (.goto (-403), 3) := by decide +kernel
theorem dL_law_424 : decode cL_law 424 = .ok (.iconst 1, 1) := by decide +kernel
theorem dL_law_425 : decode cL_law 425 = .ok (.ireturn, 1) := by decide +kernel
end
section
set_option maxRecDepth 100000
abbrev gCl : List vw_C := [(RX0, TX0, 18), (RX1, TX1, 13)]
abbrev vF : Type := Nat → Int32
abbrev rmG (n : Nat) : Room := { frames := n, cells := 0, slots := 0, locals := 30 * n }
def wX (h : Nat) (r : Nat → Nat) (d : ClassId) (sz : Nat) (op : vF) (nu : vF) (va : vF) (ga : Nat) (pl : Nat) (le : vF) (pr : vF) (ne : vF) (ri : vF) (nx : Nat) (en : Nat) (dn : Nat) (tk : Nat) (hg : Nat) (pi : vF) (ke : vF) (kp : vF) : va_W := [(h, .inr (0, [.int (nI sz), .ref (r 1), .ref (r 2), .ref (r 3), .int (nI ga), .int (nI pl), .ref (r 6), .ref (r 7), .ref (r 8), .ref (r 9), .int (nI nx), .int (nI en), .int (nI dn), .int (nI tk), .int (nI hg), .ref (r 15), .ref (r 16), .ref (r 17)])), (r 1, .inl (d, 20, .inl op)), (r 2, .inl (d, 20, .inl nu)), (r 3, .inl (d, 4, .inl va)), (r 6, .inl (d, 21, .inl le)), (r 7, .inl (d, 21, .inl pr)), (r 8, .inl (d, 21, .inl ne)), (r 9, .inl (d, 21, .inl ri)), (r 15, .inl (d, 8, .inl pi)), (r 16, .inl (d, 4, .inl ke)), (r 17, .inl (d, 8, .inl kp))]
def wM (h : Nat) (r : Nat → Nat) (d : ClassId) (op : vF) (nu : vF) (sz : Nat) (va : vF) (pi : vF) (hg : Nat) (ga : Nat) (en : Nat) (nx : Nat) (dn : Nat) (sp : Nat) (kv : vF) (kp : vF) : va_W := [(h, .inr (1, [.ref (r 0), .ref (r 1), .int (nI sz), .ref (r 3), .ref (r 4), .int (nI hg), .int (nI ga), .int (nI en), .int (nI nx), .int (nI dn), .int (nI sp), .ref (r 11), .ref (r 12)])), (r 0, .inl (d, 20, .inl op)), (r 1, .inl (d, 20, .inl nu)), (r 3, .inl (d, 4, .inl va)), (r 4, .inl (d, 8, .inl pi)), (r 11, .inl (d, 4, .inl kv)), (r 12, .inl (d, 8, .inl kp))]
/-- what stands fast through a method's walk -/
def Cx (own : String) (p : Program) (c : Code) (m : MethodId) (meth : Method) (s : State) (args : Array Value) (cc : ByteArray) (nL : Nat) (ret : Option FieldType) (D : va_G) (d : ClassId) (A : Nat → Prop) : Prop :=
  p.tables.exec = Jvm.exec ∧ c.code = cc ∧ (∀ w ∈ lw_all, w.before args s = true) ∧ s.vm.findClass own = some m.cls ∧ va_K D gCl [(d, .int)] s ∧ c.maxLocals = nL ∧ meth.locks = false ∧ meth.sig.returnType = ret ∧ (∀ q : Nat, s.heap.size ≤ q → A q)
/-- a method's contract, with an int or a boolean for an answer: from the world ws0 to the world wu u, with post -/
def MetI {S : Type} (l : Launch) (y : MethodName) (cc : ByteArray) (maxL : Nat) (rt : FieldType) (D : va_G) (d : ClassId) (av : List Value) (ws0 : va_W) (rm : Room) (post : Int32 → S → Prop) (wu : S → va_W) : Prop :=
  ∀ sz : Nat, Met l y (ws_ y cc maxL (some rt)) rm (va_Pc av (fun U => U.heap.size = sz ∧ va_P D gCl ws0 U.heap ∧ va_K D gCl [(d, .int)] U ∧ va_D (fun _ => True) ws0))
    (va_Qi post (fun (u : S) (t : State) => va_P D gCl (wu u) t.heap ∧ va_K D gCl [(d, .int)] t ∧ va_D (va_A ws0 sz) (wu u)) (va_A ws0 sz)) 0 0 (va_A ws0 sz)
/-- the same without an answer -/
def MetV {S : Type} (l : Launch) (y : MethodName) (cc : ByteArray) (maxL : Nat) (D : va_G) (d : ClassId) (av : List Value) (ws0 : va_W) (rm : Room) (post : S → Prop) (wu : S → va_W) : Prop :=
  ∀ sz : Nat, Met l y (ws_ y cc maxL none) rm (va_Pc av (fun U => U.heap.size = sz ∧ va_P D gCl ws0 U.heap ∧ va_K D gCl [(d, .int)] U ∧ va_D (fun _ => True) ws0))
    (va_Qv post (fun (u : S) (t : State) => va_P D gCl (wu u) t.heap ∧ va_K D gCl [(d, .int)] t ∧ va_D (va_A ws0 sz) (wu u)) (va_A ws0 sz)) 0 0 (va_A ws0 sz)
theorem gm_startI {S : Type} {l : Launch} {y : MethodName} {cc : ByteArray} {maxL : Nat} {rt : FieldType} {own : String} {D : va_G} {d : ClassId} {av : List Value} {ws0 : va_W} {rm : Room} {post : Int32 → S → Prop} {wu : S → va_W} (hy : plainName y.cls = true) (ho : y.cls = own) (hlen : (lg_sl av).length ≤ maxL)
    (body : ∀ (p : Program) (e : Env) (s : State) (m : MethodId) (below : List Frame) (meth : Method) (c : Code) (A : Nat → Prop) (H : Heap) (locs : List Loc) (Q : State → Prop) (ls : Array Slot),
      Cx own p c m meth s av.toArray cc maxL (some rt) D d A → lv_has ls maxL (lv_args 0 av) → va_P D gCl ws0 H → va_D A ws0 → va_S A s.heap H locs →
      (∀ (H : Heap) (locs : List Loc) (r : Int32) (u : S) (pc : Nat) (ls : Array Slot), decode cc pc = .ok (.ireturn, 1) → narrow rt (.int r) = .int r → post r u → va_P D gCl (wu u) H → va_D A (wu u) → va_S A s.heap H locs → W p l e rm s m av.toArray below meth c H locs 0 0 Q (F0 m pc ls [.int r])) →
      W p l e rm s m av.toArray below meth c H locs 0 0 Q (F0 m 0 ls [])) : MetI l y cc maxL rt D d av ws0 rm post wu := by
  intro sz
  refine Met.ofW (cc := cc) (maxL := maxL) (ret := some rt) hy rfl ?_
  intro p e s m args below meth c s₁ B hml hv
  obtain ⟨rfl, hsz, hP, hK, hD0⟩ := hv
  have hts := atoms_spec (ws := ws_ y cc maxL (some rt)) B.pre
  have hts : ∀ w ∈ lw_all, w.before _ s = true := fun w h => hts w (List.mem_cons_of_mem _ h)
  have hown : s.vm.findClass own = some m.cls := by rw [← ho]; exact findClass_of_methodNamed B.named
  have hr := B.returns
  have hlocks := B.notSynchronized
  subst hsz
  have hl := lv_entry av (n := maxL) hlen
  rw [lg_entry_eq]
  exact body p e s m below meth c (va_A ws0 s.heap.size) s.heap [] _ _ ⟨B.exec, B.bytes, hts, hown, hK, hml, hlocks, hr, fun q h => Or.inr h⟩ hl hP hD0.self va_S.rf (fun H locs r u pc ls hdg hn hp hP hD hS => W.zret B.exec B.bytes hr hn (fun t ht hW => ⟨⟨r, u, rfl, hp, by rw [ht]; exact hP, va_K.moved hW.alike hK, hD⟩, hS.F ht⟩) hS.2.2 hdg)
theorem gm_startV {S : Type} {l : Launch} {y : MethodName} {cc : ByteArray} {maxL : Nat} {own : String} {D : va_G} {d : ClassId} {av : List Value} {ws0 : va_W} {rm : Room} {post : S → Prop} {wu : S → va_W} (hy : plainName y.cls = true) (ho : y.cls = own) (hlen : (lg_sl av).length ≤ maxL)
    (body : ∀ (p : Program) (e : Env) (s : State) (m : MethodId) (below : List Frame) (meth : Method) (c : Code) (A : Nat → Prop) (H : Heap) (locs : List Loc) (Q : State → Prop) (ls : Array Slot),
      Cx own p c m meth s av.toArray cc maxL none D d A → lv_has ls maxL (lv_args 0 av) → va_P D gCl ws0 H → va_D A ws0 → va_S A s.heap H locs →
      (∀ (H : Heap) (locs : List Loc) (u : S) (pc : Nat) (ls : Array Slot), decode cc pc = .ok (.return_, 1) → post u → va_P D gCl (wu u) H → va_D A (wu u) → va_S A s.heap H locs → W p l e rm s m av.toArray below meth c H locs 0 0 Q (F0 m pc ls [])) →
      W p l e rm s m av.toArray below meth c H locs 0 0 Q (F0 m 0 ls [])) : MetV l y cc maxL D d av ws0 rm post wu := by
  intro sz
  refine Met.ofW (cc := cc) (maxL := maxL) (ret := none) hy rfl ?_
  intro p e s m args below meth c s₁ B hml hv
  obtain ⟨rfl, hsz, hP, hK, hD0⟩ := hv
  have hts := atoms_spec (ws := ws_ y cc maxL none) B.pre
  have hts : ∀ w ∈ lw_all, w.before _ s = true := fun w h => hts w (List.mem_cons_of_mem _ h)
  have hown : s.vm.findClass own = some m.cls := by rw [← ho]; exact findClass_of_methodNamed B.named
  have hr := B.returns
  have hlocks := B.notSynchronized
  subst hsz
  have hl := lv_entry av (n := maxL) hlen
  rw [lg_entry_eq]
  exact body p e s m below meth c (va_A ws0 s.heap.size) s.heap [] _ _ ⟨B.exec, B.bytes, hts, hown, hK, hml, hlocks, hr, fun q h => Or.inr h⟩ hl hP hD0.self va_S.rf (fun H locs u pc ls hdg hp hP hD hS => W.vret B.exec B.bytes hr (fun t ht hW => ⟨⟨u, rfl, hp, by rw [ht]; exact hP, va_K.moved hW.alike hK, hD⟩, hS.F ht⟩) hS.2.2 hdg)
section GR
variable {p : Program} {l : Launch} {e : Env} {R : Room} {s : State} {m : MethodId} {args : Array Value} {below : List Frame} {meth : Method} {c : Code} {H : Heap} {locs : List Loc} {cells slots : Nat} {Q : State → Prop} {cc : ByteArray} {pc : Nat} {ls : Array Slot} {rest : List Value} {D : va_G} {d : ClassId} {A : Nat → Prop} {nL : Nat} {ret : Option FieldType}
theorem gm_calli {S : Type} {y : MethodName} {bytes : ByteArray} {maxL idx n : Nat} {rt : FieldType} {own C : String} {b : Nat} {As rest st : List Value} {ws : va_W} {rm : Room} {post : Int32 → S → Prop} {wu : S → va_W} {lv : List (Nat × Value)} (K : Cx own p c m meth s args cc nL ret D d A) (hM : MetI l y bytes maxL rt D d (.ref b :: As) ws rm post wu)
    (hg : GoodIn lw_all (wsV own idx C y (ws_ y bytes maxL (some rt)))) (hd : y.cls = C ∧ y.cls ≠ "java/lang/invoke/MethodHandle" ∧ y.cls ≠ "java/lang/invoke/VarHandle" ∧ (parseMethodDescriptor y.desc).map (fun d => d.parameters.length) = some n)
    (hR : rm.frames + 1 ≤ R.frames ∧ 8 + (maxL + 11) + rm.locals ≤ R.locals) (hrc : rm.cells = 0 ∧ rm.slots = 0) (hn : As.length = n) (ci : Nat) {q1 : vw_C} {fs : List Value} (hc : gCl[ci]? = some q1) (hC : q1.1 = C) (he : ws[0]? = some (b, .inr (ci, fs)))
    (hP : va_P D gCl ws H) (hD : va_D A ws) (hS : va_S A s.heap H locs) (hl : lv_has ls nL lv) (hst : st = As.reverse ++ .ref b :: rest) (hrm : (rest.map fun v => v.category).sum ≤ 8) (hdg : decode cc pc = .ok (.invokevirtual idx, 3)) (hf : cells ≤ R.cells ∧ slots ≤ R.slots)
    (kk : ∀ (r : Int32) (u : S) (H1 : Heap) (locs1 : List Loc), post r u → va_P D gCl (wu u) H1 → va_D A (wu u) → va_S A s.heap H1 locs1 → W p l e R s m args below meth c H1 locs1 cells slots Q (F0 m (pc + 3) ls (.int r :: rest))) : W p l e R s m args below meth c H locs cells slots Q (F0 m pc ls st) := by
  subst hst
  subst hC
  obtain ⟨hx, hb, hts, hown, hK, hml, -, -, hA⟩ := K
  have hFc : ∀ q, va_A ws H.size q → A q := by
    intro q hq
    rcases hq with ⟨k, e, hk⟩ | hq
    · exact hD.2 k _ hk
    · exact hA q (Nat.le_trans hS.1 hq)
  refine va_calli (va_runV (As := As) (rest := rest) ⟨hx, hb, hml, hown, hts⟩ (hM H.size) (cwV n hts hg rfl hrc.1 hrc.2 hd hR) ⟨fun a U g mk q => by obtain ⟨q0, q1, qP, qK, qD⟩ := q; exact ⟨q0, q1, qP, va_K.moved (u := U) (U := U.calling g mk a) (Vm.Alike.refl U.vm) qK, qD⟩, va_recv hK hP hc he, fun U hU hW => ⟨rfl, by rw [hU], by rw [hU]; exact hP, va_K.moved hW.alike hK, hD.weaken (fun _ _ _ _ => trivial)⟩⟩ rfl hn hl.1 rfl (lv_room hrm) hdg hf) hS (fun q _ h => hFc q h) hFc (fun r u t H1 locs1 ht hvm hp hB hz hk hS => ?_)
  obtain ⟨hP1, hK1, hD1⟩ := hB
  rw [ht] at hP1
  exact kk r u H1 locs1 hp hP1 (hD1.weaken fun _ q _ h => hFc q.1 h) hS
theorem gm_callv {S : Type} {y : MethodName} {bytes : ByteArray} {maxL idx n : Nat}  {own C : String} {b : Nat} {As rest st : List Value} {ws : va_W} {rm : Room} {post : S → Prop} {wu : S → va_W} {lv : List (Nat × Value)} (K : Cx own p c m meth s args cc nL ret D d A) (hM : MetV l y bytes maxL D d (.ref b :: As) ws rm post wu)
    (hg : GoodIn lw_all (wsV own idx C y (ws_ y bytes maxL none))) (hd : y.cls = C ∧ y.cls ≠ "java/lang/invoke/MethodHandle" ∧ y.cls ≠ "java/lang/invoke/VarHandle" ∧ (parseMethodDescriptor y.desc).map (fun d => d.parameters.length) = some n)
    (hR : rm.frames + 1 ≤ R.frames ∧ 8 + (maxL + 11) + rm.locals ≤ R.locals) (hrc : rm.cells = 0 ∧ rm.slots = 0) (hn : As.length = n) (ci : Nat) {q1 : vw_C} {fs : List Value} (hc : gCl[ci]? = some q1) (hC : q1.1 = C) (he : ws[0]? = some (b, .inr (ci, fs)))
    (hP : va_P D gCl ws H) (hD : va_D A ws) (hS : va_S A s.heap H locs) (hl : lv_has ls nL lv) (hst : st = As.reverse ++ .ref b :: rest) (hrm : (rest.map fun v => v.category).sum ≤ 8) (hdg : decode cc pc = .ok (.invokevirtual idx, 3)) (hf : cells ≤ R.cells ∧ slots ≤ R.slots)
    (kk : ∀ (u : S) (H1 : Heap) (locs1 : List Loc), post u → va_P D gCl (wu u) H1 → va_D A (wu u) → va_S A s.heap H1 locs1 → W p l e R s m args below meth c H1 locs1 cells slots Q (F0 m (pc + 3) ls (rest))) : W p l e R s m args below meth c H locs cells slots Q (F0 m pc ls st) := by
  subst hst
  subst hC
  obtain ⟨hx, hb, hts, hown, hK, hml, -, -, hA⟩ := K
  have hFc : ∀ q, va_A ws H.size q → A q := by
    intro q hq
    rcases hq with ⟨k, e, hk⟩ | hq
    · exact hD.2 k _ hk
    · exact hA q (Nat.le_trans hS.1 hq)
  refine va_callv (va_runV (As := As) (rest := rest) ⟨hx, hb, hml, hown, hts⟩ (hM H.size) (cwV n hts hg rfl hrc.1 hrc.2 hd hR) ⟨fun a U g mk q => by obtain ⟨q0, q1, qP, qK, qD⟩ := q; exact ⟨q0, q1, qP, va_K.moved (u := U) (U := U.calling g mk a) (Vm.Alike.refl U.vm) qK, qD⟩, va_recv hK hP hc he, fun U hU hW => ⟨rfl, by rw [hU], by rw [hU]; exact hP, va_K.moved hW.alike hK, hD.weaken (fun _ _ _ _ => trivial)⟩⟩ rfl hn hl.1 rfl (lv_room hrm) hdg hf) hS (fun q _ h => hFc q h) hFc (fun u t H1 locs1 ht hvm hp hB hz hk hS => ?_)
  obtain ⟨hP1, hK1, hD1⟩ := hB
  rw [ht] at hP1
  exact kk u H1 locs1 hp hP1 (hD1.weaken fun _ q _ h => hFc q.1 h) hS
theorem gi_tp {x y : Int32} (h : x = y) (k : W p l e R s m args below meth c H locs cells slots Q (F0 m pc ls (.int y :: rest))) : W p l e R s m args below meth c H locs cells slots Q (F0 m pc ls (.int x :: rest)) := by subst h; exact k
theorem gi_add (hx : p.tables.exec = Jvm.exec) (hb : c.code = cc) {a b : Nat} (hdg : decode cc pc = .ok (.iadd, 1)) (k : W p l e R s m args below meth c H locs cells slots Q (F0 m (pc + 1) ls (.int (nI (a + b)) :: rest))) : W p l e R s m args below meth c H locs cells slots Q (F0 m pc ls (.int (nI b) :: .int (nI a) :: rest)) := lv_iadd hx hb hdg (by rw [nI_add]; exact k)
theorem gi_sub (hx : p.tables.exec = Jvm.exec) (hb : c.code = cc) {a b : Nat} (h : b ≤ a) (hdg : decode cc pc = .ok (.isub, 1)) (k : W p l e R s m args below meth c H locs cells slots Q (F0 m (pc + 1) ls (.int (nI (a - b)) :: rest))) : W p l e R s m args below meth c H locs cells slots Q (F0 m pc ls (.int (nI b) :: .int (nI a) :: rest)) := lv_isub hx hb hdg (by rw [pk_sub h]; exact k)
theorem gb_lt (hx : p.tables.exec = Jvm.exec) (hb : c.code = cc) {a b : Nat} {off : Int} {tgt : Nat} (hdg : decode cc pc = .ok (.if_icmp .lt off, 3)) (ht : (pc : Int) + off = (tgt : Int)) (ha : a < 2 ^ 31) (hc : b < 2 ^ 31) (kt : a < b → W p l e R s m args below meth c H locs cells slots Q (F0 m tgt ls rest)) (kf : ¬ a < b → W p l e R s m args below meth c H locs cells slots Q (F0 m (pc + 3) ls rest)) : W p l e R s m args below meth c H locs cells slots Q (F0 m pc ls (.int (nI b) :: .int (nI a) :: rest)) := lv_icmp_lt hx hb hdg ht (fun q => kt ((nI_ltI ha hc).mp q)) (fun q => kf (fun z => q ((nI_ltI ha hc).mpr z)))
theorem gb_ge (hx : p.tables.exec = Jvm.exec) (hb : c.code = cc) {a b : Nat} {off : Int} {tgt : Nat} (hdg : decode cc pc = .ok (.if_icmp .ge off, 3)) (ht : (pc : Int) + off = (tgt : Int)) (ha : a < 2 ^ 31) (hc : b < 2 ^ 31) (kt : b ≤ a → W p l e R s m args below meth c H locs cells slots Q (F0 m tgt ls rest)) (kf : ¬ b ≤ a → W p l e R s m args below meth c H locs cells slots Q (F0 m (pc + 3) ls rest)) : W p l e R s m args below meth c H locs cells slots Q (F0 m pc ls (.int (nI b) :: .int (nI a) :: rest)) := lv_icmp_ge hx hb hdg ht (fun q => kt ((nI_leI hc ha).mp q)) (fun q => kf (fun z => q ((nI_leI hc ha).mpr z)))
theorem gb_gt (hx : p.tables.exec = Jvm.exec) (hb : c.code = cc) {a b : Nat} {off : Int} {tgt : Nat} (hdg : decode cc pc = .ok (.if_icmp .gt off, 3)) (ht : (pc : Int) + off = (tgt : Int)) (ha : a < 2 ^ 31) (hc : b < 2 ^ 31) (kt : b < a → W p l e R s m args below meth c H locs cells slots Q (F0 m tgt ls rest)) (kf : ¬ b < a → W p l e R s m args below meth c H locs cells slots Q (F0 m (pc + 3) ls rest)) : W p l e R s m args below meth c H locs cells slots Q (F0 m pc ls (.int (nI b) :: .int (nI a) :: rest)) := lv_icmp_gt hx hb hdg ht (fun q => kt ((nI_ltI hc ha).mp q)) (fun q => kf (fun z => q ((nI_ltI hc ha).mpr z)))
theorem gb_le (hx : p.tables.exec = Jvm.exec) (hb : c.code = cc) {a b : Nat} {off : Int} {tgt : Nat} (hdg : decode cc pc = .ok (.if_icmp .le off, 3)) (ht : (pc : Int) + off = (tgt : Int)) (ha : a < 2 ^ 31) (hc : b < 2 ^ 31) (kt : a ≤ b → W p l e R s m args below meth c H locs cells slots Q (F0 m tgt ls rest)) (kf : ¬ a ≤ b → W p l e R s m args below meth c H locs cells slots Q (F0 m (pc + 3) ls rest)) : W p l e R s m args below meth c H locs cells slots Q (F0 m pc ls (.int (nI b) :: .int (nI a) :: rest)) := lv_icmp_le hx hb hdg ht (fun q => kt ((nI_leI ha hc).mp q)) (fun q => kf (fun z => q ((nI_leI ha hc).mpr z)))
theorem gb_eq (hx : p.tables.exec = Jvm.exec) (hb : c.code = cc) {a b : Nat} {off : Int} {tgt : Nat} (hdg : decode cc pc = .ok (.if_icmp .eq off, 3)) (ht : (pc : Int) + off = (tgt : Int)) (ha : a < 2 ^ 31) (hc : b < 2 ^ 31) (kt : a = b → W p l e R s m args below meth c H locs cells slots Q (F0 m tgt ls rest)) (kf : ¬ a = b → W p l e R s m args below meth c H locs cells slots Q (F0 m (pc + 3) ls rest)) : W p l e R s m args below meth c H locs cells slots Q (F0 m pc ls (.int (nI b) :: .int (nI a) :: rest)) := lv_icmp_eq hx hb hdg ht (fun q => kt ((nI_eq ha hc).mp q)) (fun q => kf (fun z => q ((nI_eq ha hc).mpr z)))
theorem gb_ne (hx : p.tables.exec = Jvm.exec) (hb : c.code = cc) {a b : Nat} {off : Int} {tgt : Nat} (hdg : decode cc pc = .ok (.if_icmp .ne off, 3)) (ht : (pc : Int) + off = (tgt : Int)) (ha : a < 2 ^ 31) (hc : b < 2 ^ 31) (kt : ¬ a = b → W p l e R s m args below meth c H locs cells slots Q (F0 m tgt ls rest)) (kf : a = b → W p l e R s m args below meth c H locs cells slots Q (F0 m (pc + 3) ls rest)) : W p l e R s m args below meth c H locs cells slots Q (F0 m pc ls (.int (nI b) :: .int (nI a) :: rest)) := lv_icmp_ne hx hb hdg ht (fun q => kt (fun z => q ((nI_eq ha hc).mpr z))) (fun q => kf ((nI_eq ha hc).mp q))
theorem gz_eq (hx : p.tables.exec = Jvm.exec) (hb : c.code = cc) {a : Nat} {off : Int} {tgt : Nat} (hdg : decode cc pc = .ok (.ifCond .eq off, 3)) (ht : (pc : Int) + off = (tgt : Int)) (ha : a < 2 ^ 31) (kt : a = 0 → W p l e R s m args below meth c H locs cells slots Q (F0 m tgt ls rest)) (kf : ¬ a = 0 → W p l e R s m args below meth c H locs cells slots Q (F0 m (pc + 3) ls rest)) : W p l e R s m args below meth c H locs cells slots Q (F0 m pc ls (.int (nI a) :: rest)) := lv_if_eq hx hb hdg ht (fun q => kt ((nI_eq ha (by decide)).mp (by rw [nI_0]; exact q))) (fun q => kf (fun z => q (by rw [z]; exact nI_0)))
theorem gz_ne (hx : p.tables.exec = Jvm.exec) (hb : c.code = cc) {a : Nat} {off : Int} {tgt : Nat} (hdg : decode cc pc = .ok (.ifCond .ne off, 3)) (ht : (pc : Int) + off = (tgt : Int)) (ha : a < 2 ^ 31) (kt : ¬ a = 0 → W p l e R s m args below meth c H locs cells slots Q (F0 m tgt ls rest)) (kf : a = 0 → W p l e R s m args below meth c H locs cells slots Q (F0 m (pc + 3) ls rest)) : W p l e R s m args below meth c H locs cells slots Q (F0 m pc ls (.int (nI a) :: rest)) := lv_if_ne hx hb hdg ht (fun q => kt (fun z => q (by rw [z]; exact nI_0))) (fun q => kf ((nI_eq ha (by decide)).mp (by rw [nI_0]; exact q)))
theorem gz_ltN (hx : p.tables.exec = Jvm.exec) (hb : c.code = cc) {a : Nat} {off : Int} (hdg : decode cc pc = .ok (.ifCond .lt off, 3)) {tgt : Nat} (ht : (pc : Int) + off = (tgt : Int)) (ha : a < 2 ^ 31) (kf : W p l e R s m args below meth c H locs cells slots Q (F0 m (pc + 3) ls rest)) : W p l e R s m args below meth c H locs cells slots Q (F0 m pc ls (.int (nI a) :: rest)) := lv_if_lt hx hb hdg ht (fun q => absurd q (nI_pos ha)) (fun _ => kf)
theorem gz_le (hx : p.tables.exec = Jvm.exec) (hb : c.code = cc) {a : Nat} {off : Int} {tgt : Nat} (hdg : decode cc pc = .ok (.ifCond .le off, 3)) (ht : (pc : Int) + off = (tgt : Int)) (ha : a < 2 ^ 31) (kt : a = 0 → W p l e R s m args below meth c H locs cells slots Q (F0 m tgt ls rest)) (kf : ¬ a = 0 → W p l e R s m args below meth c H locs cells slots Q (F0 m (pc + 3) ls rest)) : W p l e R s m args below meth c H locs cells slots Q (F0 m pc ls (.int (nI a) :: rest)) := lv_if_le hx hb hdg ht (fun q => kt (by rcases Nat.eq_zero_or_pos a with z | z; exact z; exact absurd q (nI_nle z ha))) (fun q => kf (fun z => q (by rw [z, nI_0]; exact Int32.le_refl 0)))
section
variable {h : Nat} {r : Nat → Nat} {sz : Nat} {op : vF} {nu : vF} {va : vF} {ga : Nat} {pl : Nat} {le : vF} {pr : vF} {ne : vF} {ri : vF} {nx : Nat} {en : Nat} {dn : Nat} {tk : Nat} {hg : Nat} {pi : vF} {ke : vF} {kp : vF}
theorem xg_sz (K : Cx RX0 p c m meth s args cc nL ret D d A) (hP : va_P D gCl (wX h r d sz op nu va ga pl le pr ne ri nx en dn tk hg pi ke kp) H) (hdg : decode cc pc = .ok (.getfield 44, 3)) (kk : W p l e R s m args below meth c H locs cells slots Q (F0 m (pc + 3) ls (.int (nI sz) :: rest))) : W p l e R s m args below meth c H locs cells slots Q (F0 m pc ls (.ref h :: rest)) :=
  va_get (D := D) (ci := 0) (v := .int (nI sz)) (C := RX0) (T := TX0) (N := 18) K.1 K.2.1 K.2.2.1 in_X0 K.2.2.2.1 K.2.2.2.2.1 hP 0 rfl rfl 0 (by decide) (K.2.2.1 _ q37) (fun _ h9 => h9) rfl hdg kk
theorem xp_sz {v : Nat} (K : Cx RX0 p c m meth s args cc nL ret D d A) (hP : va_P D gCl (wX h r d sz op nu va ga pl le pr ne ri nx en dn tk hg pi ke kp) H) (hD : va_D A (wX h r d sz op nu va ga pl le pr ne ri nx en dn tk hg pi ke kp)) (hS : va_S A s.heap H locs) (hdg : decode cc pc = .ok (.putfield 44, 3)) (kk : ∀ (H1 : Heap) (locs1 : List Loc), va_P D gCl (wX h r d v op nu va ga pl le pr ne ri nx en dn tk hg pi ke kp) H1 → va_D A (wX h r d v op nu va ga pl le pr ne ri nx en dn tk hg pi ke kp) → va_S A s.heap H1 locs1 → W p l e R s m args below meth c H1 locs1 cells slots Q (F0 m (pc + 3) ls rest)) : W p l e R s m args below meth c H locs cells slots Q (F0 m pc ls (.int (nI v) :: .ref h :: rest)) :=
  va_put (D := D) (ci := 0) (v := .int (nI v)) (ty := .int) (C := RX0) (T := TX0) (N := 18) K.1 K.2.1 K.2.2.1 in_X0 tyX0 tyX0_ok nmX0 K.2.2.2.1 K.2.2.2.2.1 hP hD hS 0 rfl rfl 0 (by decide) (K.2.2.1 _ q37) (fun _ h9 => h9) rfl (by decide +kernel) rfl rfl (Nat.le_of_ble_eq_true rfl) hdg kk
theorem xg_op (K : Cx RX0 p c m meth s args cc nL ret D d A) (hP : va_P D gCl (wX h r d sz op nu va ga pl le pr ne ri nx en dn tk hg pi ke kp) H) (hdg : decode cc pc = .ok (.getfield 7, 3)) (kk : W p l e R s m args below meth c H locs cells slots Q (F0 m (pc + 3) ls (.ref (r 1) :: rest))) : W p l e R s m args below meth c H locs cells slots Q (F0 m pc ls (.ref h :: rest)) :=
  va_get (D := D) (ci := 0) (v := .ref (r 1)) (C := RX0) (T := TX0) (N := 18) K.1 K.2.1 K.2.2.1 in_X0 K.2.2.2.1 K.2.2.2.2.1 hP 0 rfl rfl 1 (by decide) (K.2.2.1 _ q38) (fun _ h9 => h9) rfl hdg kk
theorem xg_nu (K : Cx RX0 p c m meth s args cc nL ret D d A) (hP : va_P D gCl (wX h r d sz op nu va ga pl le pr ne ri nx en dn tk hg pi ke kp) H) (hdg : decode cc pc = .ok (.getfield 13, 3)) (kk : W p l e R s m args below meth c H locs cells slots Q (F0 m (pc + 3) ls (.ref (r 2) :: rest))) : W p l e R s m args below meth c H locs cells slots Q (F0 m pc ls (.ref h :: rest)) :=
  va_get (D := D) (ci := 0) (v := .ref (r 2)) (C := RX0) (T := TX0) (N := 18) K.1 K.2.1 K.2.2.1 in_X0 K.2.2.2.1 K.2.2.2.2.1 hP 0 rfl rfl 2 (by decide) (K.2.2.1 _ q39) (fun _ h9 => h9) rfl hdg kk
theorem xg_va (K : Cx RX0 p c m meth s args cc nL ret D d A) (hP : va_P D gCl (wX h r d sz op nu va ga pl le pr ne ri nx en dn tk hg pi ke kp) H) (hdg : decode cc pc = .ok (.getfield 16, 3)) (kk : W p l e R s m args below meth c H locs cells slots Q (F0 m (pc + 3) ls (.ref (r 3) :: rest))) : W p l e R s m args below meth c H locs cells slots Q (F0 m pc ls (.ref h :: rest)) :=
  va_get (D := D) (ci := 0) (v := .ref (r 3)) (C := RX0) (T := TX0) (N := 18) K.1 K.2.1 K.2.2.1 in_X0 K.2.2.2.1 K.2.2.2.2.1 hP 0 rfl rfl 3 (by decide) (K.2.2.1 _ q40) (fun _ h9 => h9) rfl hdg kk
theorem xg_ga (K : Cx RX0 p c m meth s args cc nL ret D d A) (hP : va_P D gCl (wX h r d sz op nu va ga pl le pr ne ri nx en dn tk hg pi ke kp) H) (hdg : decode cc pc = .ok (.getfield 52, 3)) (kk : W p l e R s m args below meth c H locs cells slots Q (F0 m (pc + 3) ls (.int (nI ga) :: rest))) : W p l e R s m args below meth c H locs cells slots Q (F0 m pc ls (.ref h :: rest)) :=
  va_get (D := D) (ci := 0) (v := .int (nI ga)) (C := RX0) (T := TX0) (N := 18) K.1 K.2.1 K.2.2.1 in_X0 K.2.2.2.1 K.2.2.2.2.1 hP 0 rfl rfl 4 (by decide) (K.2.2.1 _ q41) (fun _ h9 => h9) rfl hdg kk
theorem xp_ga {v : Nat} (K : Cx RX0 p c m meth s args cc nL ret D d A) (hP : va_P D gCl (wX h r d sz op nu va ga pl le pr ne ri nx en dn tk hg pi ke kp) H) (hD : va_D A (wX h r d sz op nu va ga pl le pr ne ri nx en dn tk hg pi ke kp)) (hS : va_S A s.heap H locs) (hdg : decode cc pc = .ok (.putfield 52, 3)) (kk : ∀ (H1 : Heap) (locs1 : List Loc), va_P D gCl (wX h r d sz op nu va v pl le pr ne ri nx en dn tk hg pi ke kp) H1 → va_D A (wX h r d sz op nu va v pl le pr ne ri nx en dn tk hg pi ke kp) → va_S A s.heap H1 locs1 → W p l e R s m args below meth c H1 locs1 cells slots Q (F0 m (pc + 3) ls rest)) : W p l e R s m args below meth c H locs cells slots Q (F0 m pc ls (.int (nI v) :: .ref h :: rest)) :=
  va_put (D := D) (ci := 0) (v := .int (nI v)) (ty := .int) (C := RX0) (T := TX0) (N := 18) K.1 K.2.1 K.2.2.1 in_X0 tyX0 tyX0_ok nmX0 K.2.2.2.1 K.2.2.2.2.1 hP hD hS 0 rfl rfl 4 (by decide) (K.2.2.1 _ q41) (fun _ h9 => h9) rfl (by decide +kernel) rfl rfl (Nat.le_of_ble_eq_true rfl) hdg kk
theorem xg_pl (K : Cx RX0 p c m meth s args cc nL ret D d A) (hP : va_P D gCl (wX h r d sz op nu va ga pl le pr ne ri nx en dn tk hg pi ke kp) H) (hdg : decode cc pc = .ok (.getfield 48, 3)) (kk : W p l e R s m args below meth c H locs cells slots Q (F0 m (pc + 3) ls (.int (nI pl) :: rest))) : W p l e R s m args below meth c H locs cells slots Q (F0 m pc ls (.ref h :: rest)) :=
  va_get (D := D) (ci := 0) (v := .int (nI pl)) (C := RX0) (T := TX0) (N := 18) K.1 K.2.1 K.2.2.1 in_X0 K.2.2.2.1 K.2.2.2.2.1 hP 0 rfl rfl 5 (by decide) (K.2.2.1 _ q42) (fun _ h9 => h9) rfl hdg kk
theorem xp_pl {v : Nat} (hv : v < 2) (K : Cx RX0 p c m meth s args cc nL ret D d A) (hP : va_P D gCl (wX h r d sz op nu va ga pl le pr ne ri nx en dn tk hg pi ke kp) H) (hD : va_D A (wX h r d sz op nu va ga pl le pr ne ri nx en dn tk hg pi ke kp)) (hS : va_S A s.heap H locs) (hdg : decode cc pc = .ok (.putfield 48, 3)) (kk : ∀ (H1 : Heap) (locs1 : List Loc), va_P D gCl (wX h r d sz op nu va ga v le pr ne ri nx en dn tk hg pi ke kp) H1 → va_D A (wX h r d sz op nu va ga v le pr ne ri nx en dn tk hg pi ke kp) → va_S A s.heap H1 locs1 → W p l e R s m args below meth c H1 locs1 cells slots Q (F0 m (pc + 3) ls rest)) : W p l e R s m args below meth c H locs cells slots Q (F0 m pc ls (.int (nI v) :: .ref h :: rest)) :=
  va_put (D := D) (ci := 0) (v := .int (nI v)) (ty := .boolean) (C := RX0) (T := TX0) (N := 18) K.1 K.2.1 K.2.2.1 in_X0 tyX0 tyX0_ok nmX0 K.2.2.2.1 K.2.2.2.2.1 hP hD hS 0 rfl rfl 5 (by decide) (K.2.2.1 _ q42) (fun _ h9 => h9) rfl (by decide +kernel) (by rcases (show v = 0 ∨ v = 1 by omega) with rfl | rfl <;> rfl) (by rcases (show v = 0 ∨ v = 1 by omega) with rfl | rfl <;> rfl) (Nat.le_of_ble_eq_true rfl) hdg kk
theorem xg_le (K : Cx RX0 p c m meth s args cc nL ret D d A) (hP : va_P D gCl (wX h r d sz op nu va ga pl le pr ne ri nx en dn tk hg pi ke kp) H) (hdg : decode cc pc = .ok (.getfield 19, 3)) (kk : W p l e R s m args below meth c H locs cells slots Q (F0 m (pc + 3) ls (.ref (r 6) :: rest))) : W p l e R s m args below meth c H locs cells slots Q (F0 m pc ls (.ref h :: rest)) :=
  va_get (D := D) (ci := 0) (v := .ref (r 6)) (C := RX0) (T := TX0) (N := 18) K.1 K.2.1 K.2.2.1 in_X0 K.2.2.2.1 K.2.2.2.2.1 hP 0 rfl rfl 6 (by decide) (K.2.2.1 _ q43) (fun _ h9 => h9) rfl hdg kk
theorem xg_pr (K : Cx RX0 p c m meth s args cc nL ret D d A) (hP : va_P D gCl (wX h r d sz op nu va ga pl le pr ne ri nx en dn tk hg pi ke kp) H) (hdg : decode cc pc = .ok (.getfield 22, 3)) (kk : W p l e R s m args below meth c H locs cells slots Q (F0 m (pc + 3) ls (.ref (r 7) :: rest))) : W p l e R s m args below meth c H locs cells slots Q (F0 m pc ls (.ref h :: rest)) :=
  va_get (D := D) (ci := 0) (v := .ref (r 7)) (C := RX0) (T := TX0) (N := 18) K.1 K.2.1 K.2.2.1 in_X0 K.2.2.2.1 K.2.2.2.2.1 hP 0 rfl rfl 7 (by decide) (K.2.2.1 _ q44) (fun _ h9 => h9) rfl hdg kk
theorem xg_ne (K : Cx RX0 p c m meth s args cc nL ret D d A) (hP : va_P D gCl (wX h r d sz op nu va ga pl le pr ne ri nx en dn tk hg pi ke kp) H) (hdg : decode cc pc = .ok (.getfield 25, 3)) (kk : W p l e R s m args below meth c H locs cells slots Q (F0 m (pc + 3) ls (.ref (r 8) :: rest))) : W p l e R s m args below meth c H locs cells slots Q (F0 m pc ls (.ref h :: rest)) :=
  va_get (D := D) (ci := 0) (v := .ref (r 8)) (C := RX0) (T := TX0) (N := 18) K.1 K.2.1 K.2.2.1 in_X0 K.2.2.2.1 K.2.2.2.2.1 hP 0 rfl rfl 8 (by decide) (K.2.2.1 _ q45) (fun _ h9 => h9) rfl hdg kk
theorem xg_ri (K : Cx RX0 p c m meth s args cc nL ret D d A) (hP : va_P D gCl (wX h r d sz op nu va ga pl le pr ne ri nx en dn tk hg pi ke kp) H) (hdg : decode cc pc = .ok (.getfield 28, 3)) (kk : W p l e R s m args below meth c H locs cells slots Q (F0 m (pc + 3) ls (.ref (r 9) :: rest))) : W p l e R s m args below meth c H locs cells slots Q (F0 m pc ls (.ref h :: rest)) :=
  va_get (D := D) (ci := 0) (v := .ref (r 9)) (C := RX0) (T := TX0) (N := 18) K.1 K.2.1 K.2.2.1 in_X0 K.2.2.2.1 K.2.2.2.2.1 hP 0 rfl rfl 9 (by decide) (K.2.2.1 _ q46) (fun _ h9 => h9) rfl hdg kk
theorem xg_nx (K : Cx RX0 p c m meth s args cc nL ret D d A) (hP : va_P D gCl (wX h r d sz op nu va ga pl le pr ne ri nx en dn tk hg pi ke kp) H) (hdg : decode cc pc = .ok (.getfield 84, 3)) (kk : W p l e R s m args below meth c H locs cells slots Q (F0 m (pc + 3) ls (.int (nI nx) :: rest))) : W p l e R s m args below meth c H locs cells slots Q (F0 m pc ls (.ref h :: rest)) :=
  va_get (D := D) (ci := 0) (v := .int (nI nx)) (C := RX0) (T := TX0) (N := 18) K.1 K.2.1 K.2.2.1 in_X0 K.2.2.2.1 K.2.2.2.2.1 hP 0 rfl rfl 10 (by decide) (K.2.2.1 _ q47) (fun _ h9 => h9) rfl hdg kk
theorem xp_nx {v : Nat} (K : Cx RX0 p c m meth s args cc nL ret D d A) (hP : va_P D gCl (wX h r d sz op nu va ga pl le pr ne ri nx en dn tk hg pi ke kp) H) (hD : va_D A (wX h r d sz op nu va ga pl le pr ne ri nx en dn tk hg pi ke kp)) (hS : va_S A s.heap H locs) (hdg : decode cc pc = .ok (.putfield 84, 3)) (kk : ∀ (H1 : Heap) (locs1 : List Loc), va_P D gCl (wX h r d sz op nu va ga pl le pr ne ri v en dn tk hg pi ke kp) H1 → va_D A (wX h r d sz op nu va ga pl le pr ne ri v en dn tk hg pi ke kp) → va_S A s.heap H1 locs1 → W p l e R s m args below meth c H1 locs1 cells slots Q (F0 m (pc + 3) ls rest)) : W p l e R s m args below meth c H locs cells slots Q (F0 m pc ls (.int (nI v) :: .ref h :: rest)) :=
  va_put (D := D) (ci := 0) (v := .int (nI v)) (ty := .int) (C := RX0) (T := TX0) (N := 18) K.1 K.2.1 K.2.2.1 in_X0 tyX0 tyX0_ok nmX0 K.2.2.2.1 K.2.2.2.2.1 hP hD hS 0 rfl rfl 10 (by decide) (K.2.2.1 _ q47) (fun _ h9 => h9) rfl (by decide +kernel) rfl rfl (Nat.le_of_ble_eq_true rfl) hdg kk
theorem xg_en (K : Cx RX0 p c m meth s args cc nL ret D d A) (hP : va_P D gCl (wX h r d sz op nu va ga pl le pr ne ri nx en dn tk hg pi ke kp) H) (hdg : decode cc pc = .ok (.getfield 87, 3)) (kk : W p l e R s m args below meth c H locs cells slots Q (F0 m (pc + 3) ls (.int (nI en) :: rest))) : W p l e R s m args below meth c H locs cells slots Q (F0 m pc ls (.ref h :: rest)) :=
  va_get (D := D) (ci := 0) (v := .int (nI en)) (C := RX0) (T := TX0) (N := 18) K.1 K.2.1 K.2.2.1 in_X0 K.2.2.2.1 K.2.2.2.2.1 hP 0 rfl rfl 11 (by decide) (K.2.2.1 _ q48) (fun _ h9 => h9) rfl hdg kk
theorem xp_en {v : Nat} (K : Cx RX0 p c m meth s args cc nL ret D d A) (hP : va_P D gCl (wX h r d sz op nu va ga pl le pr ne ri nx en dn tk hg pi ke kp) H) (hD : va_D A (wX h r d sz op nu va ga pl le pr ne ri nx en dn tk hg pi ke kp)) (hS : va_S A s.heap H locs) (hdg : decode cc pc = .ok (.putfield 87, 3)) (kk : ∀ (H1 : Heap) (locs1 : List Loc), va_P D gCl (wX h r d sz op nu va ga pl le pr ne ri nx v dn tk hg pi ke kp) H1 → va_D A (wX h r d sz op nu va ga pl le pr ne ri nx v dn tk hg pi ke kp) → va_S A s.heap H1 locs1 → W p l e R s m args below meth c H1 locs1 cells slots Q (F0 m (pc + 3) ls rest)) : W p l e R s m args below meth c H locs cells slots Q (F0 m pc ls (.int (nI v) :: .ref h :: rest)) :=
  va_put (D := D) (ci := 0) (v := .int (nI v)) (ty := .int) (C := RX0) (T := TX0) (N := 18) K.1 K.2.1 K.2.2.1 in_X0 tyX0 tyX0_ok nmX0 K.2.2.2.1 K.2.2.2.2.1 hP hD hS 0 rfl rfl 11 (by decide) (K.2.2.1 _ q48) (fun _ h9 => h9) rfl (by decide +kernel) rfl rfl (Nat.le_of_ble_eq_true rfl) hdg kk
theorem xg_dn (K : Cx RX0 p c m meth s args cc nL ret D d A) (hP : va_P D gCl (wX h r d sz op nu va ga pl le pr ne ri nx en dn tk hg pi ke kp) H) (hdg : decode cc pc = .ok (.getfield 90, 3)) (kk : W p l e R s m args below meth c H locs cells slots Q (F0 m (pc + 3) ls (.int (nI dn) :: rest))) : W p l e R s m args below meth c H locs cells slots Q (F0 m pc ls (.ref h :: rest)) :=
  va_get (D := D) (ci := 0) (v := .int (nI dn)) (C := RX0) (T := TX0) (N := 18) K.1 K.2.1 K.2.2.1 in_X0 K.2.2.2.1 K.2.2.2.2.1 hP 0 rfl rfl 12 (by decide) (K.2.2.1 _ q49) (fun _ h9 => h9) rfl hdg kk
theorem xp_dn {v : Nat} (K : Cx RX0 p c m meth s args cc nL ret D d A) (hP : va_P D gCl (wX h r d sz op nu va ga pl le pr ne ri nx en dn tk hg pi ke kp) H) (hD : va_D A (wX h r d sz op nu va ga pl le pr ne ri nx en dn tk hg pi ke kp)) (hS : va_S A s.heap H locs) (hdg : decode cc pc = .ok (.putfield 90, 3)) (kk : ∀ (H1 : Heap) (locs1 : List Loc), va_P D gCl (wX h r d sz op nu va ga pl le pr ne ri nx en v tk hg pi ke kp) H1 → va_D A (wX h r d sz op nu va ga pl le pr ne ri nx en v tk hg pi ke kp) → va_S A s.heap H1 locs1 → W p l e R s m args below meth c H1 locs1 cells slots Q (F0 m (pc + 3) ls rest)) : W p l e R s m args below meth c H locs cells slots Q (F0 m pc ls (.int (nI v) :: .ref h :: rest)) :=
  va_put (D := D) (ci := 0) (v := .int (nI v)) (ty := .int) (C := RX0) (T := TX0) (N := 18) K.1 K.2.1 K.2.2.1 in_X0 tyX0 tyX0_ok nmX0 K.2.2.2.1 K.2.2.2.2.1 hP hD hS 0 rfl rfl 12 (by decide) (K.2.2.1 _ q49) (fun _ h9 => h9) rfl (by decide +kernel) rfl rfl (Nat.le_of_ble_eq_true rfl) hdg kk
theorem xg_tk (K : Cx RX0 p c m meth s args cc nL ret D d A) (hP : va_P D gCl (wX h r d sz op nu va ga pl le pr ne ri nx en dn tk hg pi ke kp) H) (hdg : decode cc pc = .ok (.getfield 115, 3)) (kk : W p l e R s m args below meth c H locs cells slots Q (F0 m (pc + 3) ls (.int (nI tk) :: rest))) : W p l e R s m args below meth c H locs cells slots Q (F0 m pc ls (.ref h :: rest)) :=
  va_get (D := D) (ci := 0) (v := .int (nI tk)) (C := RX0) (T := TX0) (N := 18) K.1 K.2.1 K.2.2.1 in_X0 K.2.2.2.1 K.2.2.2.2.1 hP 0 rfl rfl 13 (by decide) (K.2.2.1 _ q50) (fun _ h9 => h9) rfl hdg kk
theorem xp_tk {v : Nat} (K : Cx RX0 p c m meth s args cc nL ret D d A) (hP : va_P D gCl (wX h r d sz op nu va ga pl le pr ne ri nx en dn tk hg pi ke kp) H) (hD : va_D A (wX h r d sz op nu va ga pl le pr ne ri nx en dn tk hg pi ke kp)) (hS : va_S A s.heap H locs) (hdg : decode cc pc = .ok (.putfield 115, 3)) (kk : ∀ (H1 : Heap) (locs1 : List Loc), va_P D gCl (wX h r d sz op nu va ga pl le pr ne ri nx en dn v hg pi ke kp) H1 → va_D A (wX h r d sz op nu va ga pl le pr ne ri nx en dn v hg pi ke kp) → va_S A s.heap H1 locs1 → W p l e R s m args below meth c H1 locs1 cells slots Q (F0 m (pc + 3) ls rest)) : W p l e R s m args below meth c H locs cells slots Q (F0 m pc ls (.int (nI v) :: .ref h :: rest)) :=
  va_put (D := D) (ci := 0) (v := .int (nI v)) (ty := .int) (C := RX0) (T := TX0) (N := 18) K.1 K.2.1 K.2.2.1 in_X0 tyX0 tyX0_ok nmX0 K.2.2.2.1 K.2.2.2.2.1 hP hD hS 0 rfl rfl 13 (by decide) (K.2.2.1 _ q50) (fun _ h9 => h9) rfl (by decide +kernel) rfl rfl (Nat.le_of_ble_eq_true rfl) hdg kk
theorem xg_hg (K : Cx RX0 p c m meth s args cc nL ret D d A) (hP : va_P D gCl (wX h r d sz op nu va ga pl le pr ne ri nx en dn tk hg pi ke kp) H) (hdg : decode cc pc = .ok (.getfield 74, 3)) (kk : W p l e R s m args below meth c H locs cells slots Q (F0 m (pc + 3) ls (.int (nI hg) :: rest))) : W p l e R s m args below meth c H locs cells slots Q (F0 m pc ls (.ref h :: rest)) :=
  va_get (D := D) (ci := 0) (v := .int (nI hg)) (C := RX0) (T := TX0) (N := 18) K.1 K.2.1 K.2.2.1 in_X0 K.2.2.2.1 K.2.2.2.2.1 hP 0 rfl rfl 14 (by decide) (K.2.2.1 _ q51) (fun _ h9 => h9) rfl hdg kk
theorem xp_hg {v : Nat} (K : Cx RX0 p c m meth s args cc nL ret D d A) (hP : va_P D gCl (wX h r d sz op nu va ga pl le pr ne ri nx en dn tk hg pi ke kp) H) (hD : va_D A (wX h r d sz op nu va ga pl le pr ne ri nx en dn tk hg pi ke kp)) (hS : va_S A s.heap H locs) (hdg : decode cc pc = .ok (.putfield 74, 3)) (kk : ∀ (H1 : Heap) (locs1 : List Loc), va_P D gCl (wX h r d sz op nu va ga pl le pr ne ri nx en dn tk v pi ke kp) H1 → va_D A (wX h r d sz op nu va ga pl le pr ne ri nx en dn tk v pi ke kp) → va_S A s.heap H1 locs1 → W p l e R s m args below meth c H1 locs1 cells slots Q (F0 m (pc + 3) ls rest)) : W p l e R s m args below meth c H locs cells slots Q (F0 m pc ls (.int (nI v) :: .ref h :: rest)) :=
  va_put (D := D) (ci := 0) (v := .int (nI v)) (ty := .int) (C := RX0) (T := TX0) (N := 18) K.1 K.2.1 K.2.2.1 in_X0 tyX0 tyX0_ok nmX0 K.2.2.2.1 K.2.2.2.2.1 hP hD hS 0 rfl rfl 14 (by decide) (K.2.2.1 _ q51) (fun _ h9 => h9) rfl (by decide +kernel) rfl rfl (Nat.le_of_ble_eq_true rfl) hdg kk
theorem xg_pi (K : Cx RX0 p c m meth s args cc nL ret D d A) (hP : va_P D gCl (wX h r d sz op nu va ga pl le pr ne ri nx en dn tk hg pi ke kp) H) (hdg : decode cc pc = .ok (.getfield 31, 3)) (kk : W p l e R s m args below meth c H locs cells slots Q (F0 m (pc + 3) ls (.ref (r 15) :: rest))) : W p l e R s m args below meth c H locs cells slots Q (F0 m pc ls (.ref h :: rest)) :=
  va_get (D := D) (ci := 0) (v := .ref (r 15)) (C := RX0) (T := TX0) (N := 18) K.1 K.2.1 K.2.2.1 in_X0 K.2.2.2.1 K.2.2.2.2.1 hP 0 rfl rfl 15 (by decide) (K.2.2.1 _ q52) (fun _ h9 => h9) rfl hdg kk
theorem xg_ke (K : Cx RX0 p c m meth s args cc nL ret D d A) (hP : va_P D gCl (wX h r d sz op nu va ga pl le pr ne ri nx en dn tk hg pi ke kp) H) (hdg : decode cc pc = .ok (.getfield 34, 3)) (kk : W p l e R s m args below meth c H locs cells slots Q (F0 m (pc + 3) ls (.ref (r 16) :: rest))) : W p l e R s m args below meth c H locs cells slots Q (F0 m pc ls (.ref h :: rest)) :=
  va_get (D := D) (ci := 0) (v := .ref (r 16)) (C := RX0) (T := TX0) (N := 18) K.1 K.2.1 K.2.2.1 in_X0 K.2.2.2.1 K.2.2.2.2.1 hP 0 rfl rfl 16 (by decide) (K.2.2.1 _ q53) (fun _ h9 => h9) rfl hdg kk
theorem xg_kp (K : Cx RX0 p c m meth s args cc nL ret D d A) (hP : va_P D gCl (wX h r d sz op nu va ga pl le pr ne ri nx en dn tk hg pi ke kp) H) (hdg : decode cc pc = .ok (.getfield 37, 3)) (kk : W p l e R s m args below meth c H locs cells slots Q (F0 m (pc + 3) ls (.ref (r 17) :: rest))) : W p l e R s m args below meth c H locs cells slots Q (F0 m pc ls (.ref h :: rest)) :=
  va_get (D := D) (ci := 0) (v := .ref (r 17)) (C := RX0) (T := TX0) (N := 18) K.1 K.2.1 K.2.2.1 in_X0 K.2.2.2.1 K.2.2.2.2.1 hP 0 rfl rfl 17 (by decide) (K.2.2.1 _ q54) (fun _ h9 => h9) rfl hdg kk
theorem xl_op {n : Nat} (K : Cx RX0 p c m meth s args cc nL ret D d A) (hP : va_P D gCl (wX h r d sz op nu va ga pl le pr ne ri nx en dn tk hg pi ke kp) H) (hn : n < 20) (hdg : decode cc pc = .ok (.iaload, 1)) (kk : W p l e R s m args below meth c H locs cells slots Q (F0 m (pc + 1) ls (.int (op n) :: rest))) : W p l e R s m args below meth c H locs cells slots Q (F0 m pc ls (.int (nI n) :: .ref (r 1) :: rest)) :=
  va_iald K.1 K.2.1 K.2.2.2.2.1 hP 1 0 rfl rfl (vp_in_nI hn (by decide)) hdg (by rw [nI_clamp (Nat.lt_trans hn (by decide))]; exact kk)
theorem xs_op {n : Nat} {x : Int32} (K : Cx RX0 p c m meth s args cc nL ret D d A) (hP : va_P D gCl (wX h r d sz op nu va ga pl le pr ne ri nx en dn tk hg pi ke kp) H) (hD : va_D A (wX h r d sz op nu va ga pl le pr ne ri nx en dn tk hg pi ke kp)) (hS : va_S A s.heap H locs) (hn : n < 20) (hdg : decode cc pc = .ok (.iastore, 1)) (kk : ∀ (H1 : Heap) (locs1 : List Loc), va_P D gCl (wX h r d sz (upd op n x) nu va ga pl le pr ne ri nx en dn tk hg pi ke kp) H1 → va_D A (wX h r d sz (upd op n x) nu va ga pl le pr ne ri nx en dn tk hg pi ke kp) → va_S A s.heap H1 locs1 → W p l e R s m args below meth c H1 locs1 cells slots Q (F0 m (pc + 1) ls rest)) : W p l e R s m args below meth c H locs cells slots Q (F0 m pc ls (.int x :: .int (nI n) :: .ref (r 1) :: rest)) :=
  va_iast K.1 K.2.1 K.2.2.2.2.1 hP hD hS 1 0 rfl rfl (vp_in_nI hn (by decide)) hdg (fun H1 l1 a b z => by rw [nI_clamp (Nat.lt_trans hn (by decide))] at a b; exact kk H1 l1 a b z)
theorem xl_nu {n : Nat} (K : Cx RX0 p c m meth s args cc nL ret D d A) (hP : va_P D gCl (wX h r d sz op nu va ga pl le pr ne ri nx en dn tk hg pi ke kp) H) (hn : n < 20) (hdg : decode cc pc = .ok (.iaload, 1)) (kk : W p l e R s m args below meth c H locs cells slots Q (F0 m (pc + 1) ls (.int (nu n) :: rest))) : W p l e R s m args below meth c H locs cells slots Q (F0 m pc ls (.int (nI n) :: .ref (r 2) :: rest)) :=
  va_iald K.1 K.2.1 K.2.2.2.2.1 hP 2 0 rfl rfl (vp_in_nI hn (by decide)) hdg (by rw [nI_clamp (Nat.lt_trans hn (by decide))]; exact kk)
theorem xs_nu {n : Nat} {x : Int32} (K : Cx RX0 p c m meth s args cc nL ret D d A) (hP : va_P D gCl (wX h r d sz op nu va ga pl le pr ne ri nx en dn tk hg pi ke kp) H) (hD : va_D A (wX h r d sz op nu va ga pl le pr ne ri nx en dn tk hg pi ke kp)) (hS : va_S A s.heap H locs) (hn : n < 20) (hdg : decode cc pc = .ok (.iastore, 1)) (kk : ∀ (H1 : Heap) (locs1 : List Loc), va_P D gCl (wX h r d sz op (upd nu n x) va ga pl le pr ne ri nx en dn tk hg pi ke kp) H1 → va_D A (wX h r d sz op (upd nu n x) va ga pl le pr ne ri nx en dn tk hg pi ke kp) → va_S A s.heap H1 locs1 → W p l e R s m args below meth c H1 locs1 cells slots Q (F0 m (pc + 1) ls rest)) : W p l e R s m args below meth c H locs cells slots Q (F0 m pc ls (.int x :: .int (nI n) :: .ref (r 2) :: rest)) :=
  va_iast K.1 K.2.1 K.2.2.2.2.1 hP hD hS 2 0 rfl rfl (vp_in_nI hn (by decide)) hdg (fun H1 l1 a b z => by rw [nI_clamp (Nat.lt_trans hn (by decide))] at a b; exact kk H1 l1 a b z)
theorem xl_va {n : Nat} (K : Cx RX0 p c m meth s args cc nL ret D d A) (hP : va_P D gCl (wX h r d sz op nu va ga pl le pr ne ri nx en dn tk hg pi ke kp) H) (hn : n < 4) (hdg : decode cc pc = .ok (.iaload, 1)) (kk : W p l e R s m args below meth c H locs cells slots Q (F0 m (pc + 1) ls (.int (va n) :: rest))) : W p l e R s m args below meth c H locs cells slots Q (F0 m pc ls (.int (nI n) :: .ref (r 3) :: rest)) :=
  va_iald K.1 K.2.1 K.2.2.2.2.1 hP 3 0 rfl rfl (vp_in_nI hn (by decide)) hdg (by rw [nI_clamp (Nat.lt_trans hn (by decide))]; exact kk)
theorem xs_va {n : Nat} {x : Int32} (K : Cx RX0 p c m meth s args cc nL ret D d A) (hP : va_P D gCl (wX h r d sz op nu va ga pl le pr ne ri nx en dn tk hg pi ke kp) H) (hD : va_D A (wX h r d sz op nu va ga pl le pr ne ri nx en dn tk hg pi ke kp)) (hS : va_S A s.heap H locs) (hn : n < 4) (hdg : decode cc pc = .ok (.iastore, 1)) (kk : ∀ (H1 : Heap) (locs1 : List Loc), va_P D gCl (wX h r d sz op nu (upd va n x) ga pl le pr ne ri nx en dn tk hg pi ke kp) H1 → va_D A (wX h r d sz op nu (upd va n x) ga pl le pr ne ri nx en dn tk hg pi ke kp) → va_S A s.heap H1 locs1 → W p l e R s m args below meth c H1 locs1 cells slots Q (F0 m (pc + 1) ls rest)) : W p l e R s m args below meth c H locs cells slots Q (F0 m pc ls (.int x :: .int (nI n) :: .ref (r 3) :: rest)) :=
  va_iast K.1 K.2.1 K.2.2.2.2.1 hP hD hS 3 0 rfl rfl (vp_in_nI hn (by decide)) hdg (fun H1 l1 a b z => by rw [nI_clamp (Nat.lt_trans hn (by decide))] at a b; exact kk H1 l1 a b z)
theorem xl_le {n : Nat} (K : Cx RX0 p c m meth s args cc nL ret D d A) (hP : va_P D gCl (wX h r d sz op nu va ga pl le pr ne ri nx en dn tk hg pi ke kp) H) (hn : n < 21) (hdg : decode cc pc = .ok (.iaload, 1)) (kk : W p l e R s m args below meth c H locs cells slots Q (F0 m (pc + 1) ls (.int (le n) :: rest))) : W p l e R s m args below meth c H locs cells slots Q (F0 m pc ls (.int (nI n) :: .ref (r 6) :: rest)) :=
  va_iald K.1 K.2.1 K.2.2.2.2.1 hP 4 0 rfl rfl (vp_in_nI hn (by decide)) hdg (by rw [nI_clamp (Nat.lt_trans hn (by decide))]; exact kk)
theorem xs_le {n : Nat} {x : Int32} (K : Cx RX0 p c m meth s args cc nL ret D d A) (hP : va_P D gCl (wX h r d sz op nu va ga pl le pr ne ri nx en dn tk hg pi ke kp) H) (hD : va_D A (wX h r d sz op nu va ga pl le pr ne ri nx en dn tk hg pi ke kp)) (hS : va_S A s.heap H locs) (hn : n < 21) (hdg : decode cc pc = .ok (.iastore, 1)) (kk : ∀ (H1 : Heap) (locs1 : List Loc), va_P D gCl (wX h r d sz op nu va ga pl (upd le n x) pr ne ri nx en dn tk hg pi ke kp) H1 → va_D A (wX h r d sz op nu va ga pl (upd le n x) pr ne ri nx en dn tk hg pi ke kp) → va_S A s.heap H1 locs1 → W p l e R s m args below meth c H1 locs1 cells slots Q (F0 m (pc + 1) ls rest)) : W p l e R s m args below meth c H locs cells slots Q (F0 m pc ls (.int x :: .int (nI n) :: .ref (r 6) :: rest)) :=
  va_iast K.1 K.2.1 K.2.2.2.2.1 hP hD hS 4 0 rfl rfl (vp_in_nI hn (by decide)) hdg (fun H1 l1 a b z => by rw [nI_clamp (Nat.lt_trans hn (by decide))] at a b; exact kk H1 l1 a b z)
theorem xl_pr {n : Nat} (K : Cx RX0 p c m meth s args cc nL ret D d A) (hP : va_P D gCl (wX h r d sz op nu va ga pl le pr ne ri nx en dn tk hg pi ke kp) H) (hn : n < 21) (hdg : decode cc pc = .ok (.iaload, 1)) (kk : W p l e R s m args below meth c H locs cells slots Q (F0 m (pc + 1) ls (.int (pr n) :: rest))) : W p l e R s m args below meth c H locs cells slots Q (F0 m pc ls (.int (nI n) :: .ref (r 7) :: rest)) :=
  va_iald K.1 K.2.1 K.2.2.2.2.1 hP 5 0 rfl rfl (vp_in_nI hn (by decide)) hdg (by rw [nI_clamp (Nat.lt_trans hn (by decide))]; exact kk)
theorem xs_pr {n : Nat} {x : Int32} (K : Cx RX0 p c m meth s args cc nL ret D d A) (hP : va_P D gCl (wX h r d sz op nu va ga pl le pr ne ri nx en dn tk hg pi ke kp) H) (hD : va_D A (wX h r d sz op nu va ga pl le pr ne ri nx en dn tk hg pi ke kp)) (hS : va_S A s.heap H locs) (hn : n < 21) (hdg : decode cc pc = .ok (.iastore, 1)) (kk : ∀ (H1 : Heap) (locs1 : List Loc), va_P D gCl (wX h r d sz op nu va ga pl le (upd pr n x) ne ri nx en dn tk hg pi ke kp) H1 → va_D A (wX h r d sz op nu va ga pl le (upd pr n x) ne ri nx en dn tk hg pi ke kp) → va_S A s.heap H1 locs1 → W p l e R s m args below meth c H1 locs1 cells slots Q (F0 m (pc + 1) ls rest)) : W p l e R s m args below meth c H locs cells slots Q (F0 m pc ls (.int x :: .int (nI n) :: .ref (r 7) :: rest)) :=
  va_iast K.1 K.2.1 K.2.2.2.2.1 hP hD hS 5 0 rfl rfl (vp_in_nI hn (by decide)) hdg (fun H1 l1 a b z => by rw [nI_clamp (Nat.lt_trans hn (by decide))] at a b; exact kk H1 l1 a b z)
theorem xl_ne {n : Nat} (K : Cx RX0 p c m meth s args cc nL ret D d A) (hP : va_P D gCl (wX h r d sz op nu va ga pl le pr ne ri nx en dn tk hg pi ke kp) H) (hn : n < 21) (hdg : decode cc pc = .ok (.iaload, 1)) (kk : W p l e R s m args below meth c H locs cells slots Q (F0 m (pc + 1) ls (.int (ne n) :: rest))) : W p l e R s m args below meth c H locs cells slots Q (F0 m pc ls (.int (nI n) :: .ref (r 8) :: rest)) :=
  va_iald K.1 K.2.1 K.2.2.2.2.1 hP 6 0 rfl rfl (vp_in_nI hn (by decide)) hdg (by rw [nI_clamp (Nat.lt_trans hn (by decide))]; exact kk)
theorem xs_ne {n : Nat} {x : Int32} (K : Cx RX0 p c m meth s args cc nL ret D d A) (hP : va_P D gCl (wX h r d sz op nu va ga pl le pr ne ri nx en dn tk hg pi ke kp) H) (hD : va_D A (wX h r d sz op nu va ga pl le pr ne ri nx en dn tk hg pi ke kp)) (hS : va_S A s.heap H locs) (hn : n < 21) (hdg : decode cc pc = .ok (.iastore, 1)) (kk : ∀ (H1 : Heap) (locs1 : List Loc), va_P D gCl (wX h r d sz op nu va ga pl le pr (upd ne n x) ri nx en dn tk hg pi ke kp) H1 → va_D A (wX h r d sz op nu va ga pl le pr (upd ne n x) ri nx en dn tk hg pi ke kp) → va_S A s.heap H1 locs1 → W p l e R s m args below meth c H1 locs1 cells slots Q (F0 m (pc + 1) ls rest)) : W p l e R s m args below meth c H locs cells slots Q (F0 m pc ls (.int x :: .int (nI n) :: .ref (r 8) :: rest)) :=
  va_iast K.1 K.2.1 K.2.2.2.2.1 hP hD hS 6 0 rfl rfl (vp_in_nI hn (by decide)) hdg (fun H1 l1 a b z => by rw [nI_clamp (Nat.lt_trans hn (by decide))] at a b; exact kk H1 l1 a b z)
theorem xl_ri {n : Nat} (K : Cx RX0 p c m meth s args cc nL ret D d A) (hP : va_P D gCl (wX h r d sz op nu va ga pl le pr ne ri nx en dn tk hg pi ke kp) H) (hn : n < 21) (hdg : decode cc pc = .ok (.iaload, 1)) (kk : W p l e R s m args below meth c H locs cells slots Q (F0 m (pc + 1) ls (.int (ri n) :: rest))) : W p l e R s m args below meth c H locs cells slots Q (F0 m pc ls (.int (nI n) :: .ref (r 9) :: rest)) :=
  va_iald K.1 K.2.1 K.2.2.2.2.1 hP 7 0 rfl rfl (vp_in_nI hn (by decide)) hdg (by rw [nI_clamp (Nat.lt_trans hn (by decide))]; exact kk)
theorem xs_ri {n : Nat} {x : Int32} (K : Cx RX0 p c m meth s args cc nL ret D d A) (hP : va_P D gCl (wX h r d sz op nu va ga pl le pr ne ri nx en dn tk hg pi ke kp) H) (hD : va_D A (wX h r d sz op nu va ga pl le pr ne ri nx en dn tk hg pi ke kp)) (hS : va_S A s.heap H locs) (hn : n < 21) (hdg : decode cc pc = .ok (.iastore, 1)) (kk : ∀ (H1 : Heap) (locs1 : List Loc), va_P D gCl (wX h r d sz op nu va ga pl le pr ne (upd ri n x) nx en dn tk hg pi ke kp) H1 → va_D A (wX h r d sz op nu va ga pl le pr ne (upd ri n x) nx en dn tk hg pi ke kp) → va_S A s.heap H1 locs1 → W p l e R s m args below meth c H1 locs1 cells slots Q (F0 m (pc + 1) ls rest)) : W p l e R s m args below meth c H locs cells slots Q (F0 m pc ls (.int x :: .int (nI n) :: .ref (r 9) :: rest)) :=
  va_iast K.1 K.2.1 K.2.2.2.2.1 hP hD hS 7 0 rfl rfl (vp_in_nI hn (by decide)) hdg (fun H1 l1 a b z => by rw [nI_clamp (Nat.lt_trans hn (by decide))] at a b; exact kk H1 l1 a b z)
theorem xl_pi {n : Nat} (K : Cx RX0 p c m meth s args cc nL ret D d A) (hP : va_P D gCl (wX h r d sz op nu va ga pl le pr ne ri nx en dn tk hg pi ke kp) H) (hn : n < 8) (hdg : decode cc pc = .ok (.iaload, 1)) (kk : W p l e R s m args below meth c H locs cells slots Q (F0 m (pc + 1) ls (.int (pi n) :: rest))) : W p l e R s m args below meth c H locs cells slots Q (F0 m pc ls (.int (nI n) :: .ref (r 15) :: rest)) :=
  va_iald K.1 K.2.1 K.2.2.2.2.1 hP 8 0 rfl rfl (vp_in_nI hn (by decide)) hdg (by rw [nI_clamp (Nat.lt_trans hn (by decide))]; exact kk)
theorem xs_pi {n : Nat} {x : Int32} (K : Cx RX0 p c m meth s args cc nL ret D d A) (hP : va_P D gCl (wX h r d sz op nu va ga pl le pr ne ri nx en dn tk hg pi ke kp) H) (hD : va_D A (wX h r d sz op nu va ga pl le pr ne ri nx en dn tk hg pi ke kp)) (hS : va_S A s.heap H locs) (hn : n < 8) (hdg : decode cc pc = .ok (.iastore, 1)) (kk : ∀ (H1 : Heap) (locs1 : List Loc), va_P D gCl (wX h r d sz op nu va ga pl le pr ne ri nx en dn tk hg (upd pi n x) ke kp) H1 → va_D A (wX h r d sz op nu va ga pl le pr ne ri nx en dn tk hg (upd pi n x) ke kp) → va_S A s.heap H1 locs1 → W p l e R s m args below meth c H1 locs1 cells slots Q (F0 m (pc + 1) ls rest)) : W p l e R s m args below meth c H locs cells slots Q (F0 m pc ls (.int x :: .int (nI n) :: .ref (r 15) :: rest)) :=
  va_iast K.1 K.2.1 K.2.2.2.2.1 hP hD hS 8 0 rfl rfl (vp_in_nI hn (by decide)) hdg (fun H1 l1 a b z => by rw [nI_clamp (Nat.lt_trans hn (by decide))] at a b; exact kk H1 l1 a b z)
theorem xl_ke {n : Nat} (K : Cx RX0 p c m meth s args cc nL ret D d A) (hP : va_P D gCl (wX h r d sz op nu va ga pl le pr ne ri nx en dn tk hg pi ke kp) H) (hn : n < 4) (hdg : decode cc pc = .ok (.iaload, 1)) (kk : W p l e R s m args below meth c H locs cells slots Q (F0 m (pc + 1) ls (.int (ke n) :: rest))) : W p l e R s m args below meth c H locs cells slots Q (F0 m pc ls (.int (nI n) :: .ref (r 16) :: rest)) :=
  va_iald K.1 K.2.1 K.2.2.2.2.1 hP 9 0 rfl rfl (vp_in_nI hn (by decide)) hdg (by rw [nI_clamp (Nat.lt_trans hn (by decide))]; exact kk)
theorem xs_ke {n : Nat} {x : Int32} (K : Cx RX0 p c m meth s args cc nL ret D d A) (hP : va_P D gCl (wX h r d sz op nu va ga pl le pr ne ri nx en dn tk hg pi ke kp) H) (hD : va_D A (wX h r d sz op nu va ga pl le pr ne ri nx en dn tk hg pi ke kp)) (hS : va_S A s.heap H locs) (hn : n < 4) (hdg : decode cc pc = .ok (.iastore, 1)) (kk : ∀ (H1 : Heap) (locs1 : List Loc), va_P D gCl (wX h r d sz op nu va ga pl le pr ne ri nx en dn tk hg pi (upd ke n x) kp) H1 → va_D A (wX h r d sz op nu va ga pl le pr ne ri nx en dn tk hg pi (upd ke n x) kp) → va_S A s.heap H1 locs1 → W p l e R s m args below meth c H1 locs1 cells slots Q (F0 m (pc + 1) ls rest)) : W p l e R s m args below meth c H locs cells slots Q (F0 m pc ls (.int x :: .int (nI n) :: .ref (r 16) :: rest)) :=
  va_iast K.1 K.2.1 K.2.2.2.2.1 hP hD hS 9 0 rfl rfl (vp_in_nI hn (by decide)) hdg (fun H1 l1 a b z => by rw [nI_clamp (Nat.lt_trans hn (by decide))] at a b; exact kk H1 l1 a b z)
theorem xl_kp {n : Nat} (K : Cx RX0 p c m meth s args cc nL ret D d A) (hP : va_P D gCl (wX h r d sz op nu va ga pl le pr ne ri nx en dn tk hg pi ke kp) H) (hn : n < 8) (hdg : decode cc pc = .ok (.iaload, 1)) (kk : W p l e R s m args below meth c H locs cells slots Q (F0 m (pc + 1) ls (.int (kp n) :: rest))) : W p l e R s m args below meth c H locs cells slots Q (F0 m pc ls (.int (nI n) :: .ref (r 17) :: rest)) :=
  va_iald K.1 K.2.1 K.2.2.2.2.1 hP 10 0 rfl rfl (vp_in_nI hn (by decide)) hdg (by rw [nI_clamp (Nat.lt_trans hn (by decide))]; exact kk)
theorem xs_kp {n : Nat} {x : Int32} (K : Cx RX0 p c m meth s args cc nL ret D d A) (hP : va_P D gCl (wX h r d sz op nu va ga pl le pr ne ri nx en dn tk hg pi ke kp) H) (hD : va_D A (wX h r d sz op nu va ga pl le pr ne ri nx en dn tk hg pi ke kp)) (hS : va_S A s.heap H locs) (hn : n < 8) (hdg : decode cc pc = .ok (.iastore, 1)) (kk : ∀ (H1 : Heap) (locs1 : List Loc), va_P D gCl (wX h r d sz op nu va ga pl le pr ne ri nx en dn tk hg pi ke (upd kp n x)) H1 → va_D A (wX h r d sz op nu va ga pl le pr ne ri nx en dn tk hg pi ke (upd kp n x)) → va_S A s.heap H1 locs1 → W p l e R s m args below meth c H1 locs1 cells slots Q (F0 m (pc + 1) ls rest)) : W p l e R s m args below meth c H locs cells slots Q (F0 m pc ls (.int x :: .int (nI n) :: .ref (r 17) :: rest)) :=
  va_iast K.1 K.2.1 K.2.2.2.2.1 hP hD hS 10 0 rfl rfl (vp_in_nI hn (by decide)) hdg (fun H1 l1 a b z => by rw [nI_clamp (Nat.lt_trans hn (by decide))] at a b; exact kk H1 l1 a b z)
end
section
variable {h : Nat} {r : Nat → Nat} {op : vF} {nu : vF} {sz : Nat} {va : vF} {pi : vF} {hg : Nat} {ga : Nat} {en : Nat} {nx : Nat} {dn : Nat} {sp : Nat} {kv : vF} {kp : vF}
theorem yg_op (K : Cx RX1 p c m meth s args cc nL ret D d A) (hP : va_P D gCl (wM h r d op nu sz va pi hg ga en nx dn sp kv kp) H) (hdg : decode cc pc = .ok (.getfield 7, 3)) (kk : W p l e R s m args below meth c H locs cells slots Q (F0 m (pc + 3) ls (.ref (r 0) :: rest))) : W p l e R s m args below meth c H locs cells slots Q (F0 m pc ls (.ref h :: rest)) :=
  va_get (D := D) (ci := 1) (v := .ref (r 0)) (C := RX1) (T := TX1) (N := 13) K.1 K.2.1 K.2.2.1 in_X1 K.2.2.2.1 K.2.2.2.2.1 hP 0 rfl rfl 0 (by decide) (K.2.2.1 _ q225) (fun _ h9 => h9) rfl hdg kk
theorem yg_nu (K : Cx RX1 p c m meth s args cc nL ret D d A) (hP : va_P D gCl (wM h r d op nu sz va pi hg ga en nx dn sp kv kp) H) (hdg : decode cc pc = .ok (.getfield 13, 3)) (kk : W p l e R s m args below meth c H locs cells slots Q (F0 m (pc + 3) ls (.ref (r 1) :: rest))) : W p l e R s m args below meth c H locs cells slots Q (F0 m pc ls (.ref h :: rest)) :=
  va_get (D := D) (ci := 1) (v := .ref (r 1)) (C := RX1) (T := TX1) (N := 13) K.1 K.2.1 K.2.2.1 in_X1 K.2.2.2.1 K.2.2.2.2.1 hP 0 rfl rfl 1 (by decide) (K.2.2.1 _ q226) (fun _ h9 => h9) rfl hdg kk
theorem yg_sz (K : Cx RX1 p c m meth s args cc nL ret D d A) (hP : va_P D gCl (wM h r d op nu sz va pi hg ga en nx dn sp kv kp) H) (hdg : decode cc pc = .ok (.getfield 32, 3)) (kk : W p l e R s m args below meth c H locs cells slots Q (F0 m (pc + 3) ls (.int (nI sz) :: rest))) : W p l e R s m args below meth c H locs cells slots Q (F0 m pc ls (.ref h :: rest)) :=
  va_get (D := D) (ci := 1) (v := .int (nI sz)) (C := RX1) (T := TX1) (N := 13) K.1 K.2.1 K.2.2.1 in_X1 K.2.2.2.1 K.2.2.2.2.1 hP 0 rfl rfl 2 (by decide) (K.2.2.1 _ q227) (fun _ h9 => h9) rfl hdg kk
theorem yp_sz {v : Nat} (K : Cx RX1 p c m meth s args cc nL ret D d A) (hP : va_P D gCl (wM h r d op nu sz va pi hg ga en nx dn sp kv kp) H) (hD : va_D A (wM h r d op nu sz va pi hg ga en nx dn sp kv kp)) (hS : va_S A s.heap H locs) (hdg : decode cc pc = .ok (.putfield 32, 3)) (kk : ∀ (H1 : Heap) (locs1 : List Loc), va_P D gCl (wM h r d op nu v va pi hg ga en nx dn sp kv kp) H1 → va_D A (wM h r d op nu v va pi hg ga en nx dn sp kv kp) → va_S A s.heap H1 locs1 → W p l e R s m args below meth c H1 locs1 cells slots Q (F0 m (pc + 3) ls rest)) : W p l e R s m args below meth c H locs cells slots Q (F0 m pc ls (.int (nI v) :: .ref h :: rest)) :=
  va_put (D := D) (ci := 1) (v := .int (nI v)) (ty := .int) (C := RX1) (T := TX1) (N := 13) K.1 K.2.1 K.2.2.1 in_X1 tyX1 tyX1_ok nmX1 K.2.2.2.1 K.2.2.2.2.1 hP hD hS 0 rfl rfl 2 (by decide) (K.2.2.1 _ q227) (fun _ h9 => h9) rfl (by decide +kernel) rfl rfl (Nat.le_of_ble_eq_true rfl) hdg kk
theorem yg_va (K : Cx RX1 p c m meth s args cc nL ret D d A) (hP : va_P D gCl (wM h r d op nu sz va pi hg ga en nx dn sp kv kp) H) (hdg : decode cc pc = .ok (.getfield 16, 3)) (kk : W p l e R s m args below meth c H locs cells slots Q (F0 m (pc + 3) ls (.ref (r 3) :: rest))) : W p l e R s m args below meth c H locs cells slots Q (F0 m pc ls (.ref h :: rest)) :=
  va_get (D := D) (ci := 1) (v := .ref (r 3)) (C := RX1) (T := TX1) (N := 13) K.1 K.2.1 K.2.2.1 in_X1 K.2.2.2.1 K.2.2.2.2.1 hP 0 rfl rfl 3 (by decide) (K.2.2.1 _ q228) (fun _ h9 => h9) rfl hdg kk
theorem yg_pi (K : Cx RX1 p c m meth s args cc nL ret D d A) (hP : va_P D gCl (wM h r d op nu sz va pi hg ga en nx dn sp kv kp) H) (hdg : decode cc pc = .ok (.getfield 19, 3)) (kk : W p l e R s m args below meth c H locs cells slots Q (F0 m (pc + 3) ls (.ref (r 4) :: rest))) : W p l e R s m args below meth c H locs cells slots Q (F0 m pc ls (.ref h :: rest)) :=
  va_get (D := D) (ci := 1) (v := .ref (r 4)) (C := RX1) (T := TX1) (N := 13) K.1 K.2.1 K.2.2.1 in_X1 K.2.2.2.1 K.2.2.2.2.1 hP 0 rfl rfl 4 (by decide) (K.2.2.1 _ q229) (fun _ h9 => h9) rfl hdg kk
theorem yg_hg (K : Cx RX1 p c m meth s args cc nL ret D d A) (hP : va_P D gCl (wM h r d op nu sz va pi hg ga en nx dn sp kv kp) H) (hdg : decode cc pc = .ok (.getfield 40, 3)) (kk : W p l e R s m args below meth c H locs cells slots Q (F0 m (pc + 3) ls (.int (nI hg) :: rest))) : W p l e R s m args below meth c H locs cells slots Q (F0 m pc ls (.ref h :: rest)) :=
  va_get (D := D) (ci := 1) (v := .int (nI hg)) (C := RX1) (T := TX1) (N := 13) K.1 K.2.1 K.2.2.1 in_X1 K.2.2.2.1 K.2.2.2.2.1 hP 0 rfl rfl 5 (by decide) (K.2.2.1 _ q230) (fun _ h9 => h9) rfl hdg kk
theorem yp_hg {v : Nat} (K : Cx RX1 p c m meth s args cc nL ret D d A) (hP : va_P D gCl (wM h r d op nu sz va pi hg ga en nx dn sp kv kp) H) (hD : va_D A (wM h r d op nu sz va pi hg ga en nx dn sp kv kp)) (hS : va_S A s.heap H locs) (hdg : decode cc pc = .ok (.putfield 40, 3)) (kk : ∀ (H1 : Heap) (locs1 : List Loc), va_P D gCl (wM h r d op nu sz va pi v ga en nx dn sp kv kp) H1 → va_D A (wM h r d op nu sz va pi v ga en nx dn sp kv kp) → va_S A s.heap H1 locs1 → W p l e R s m args below meth c H1 locs1 cells slots Q (F0 m (pc + 3) ls rest)) : W p l e R s m args below meth c H locs cells slots Q (F0 m pc ls (.int (nI v) :: .ref h :: rest)) :=
  va_put (D := D) (ci := 1) (v := .int (nI v)) (ty := .int) (C := RX1) (T := TX1) (N := 13) K.1 K.2.1 K.2.2.1 in_X1 tyX1 tyX1_ok nmX1 K.2.2.2.1 K.2.2.2.2.1 hP hD hS 0 rfl rfl 5 (by decide) (K.2.2.1 _ q230) (fun _ h9 => h9) rfl (by decide +kernel) rfl rfl (Nat.le_of_ble_eq_true rfl) hdg kk
theorem yg_ga (K : Cx RX1 p c m meth s args cc nL ret D d A) (hP : va_P D gCl (wM h r d op nu sz va pi hg ga en nx dn sp kv kp) H) (hdg : decode cc pc = .ok (.getfield 36, 3)) (kk : W p l e R s m args below meth c H locs cells slots Q (F0 m (pc + 3) ls (.int (nI ga) :: rest))) : W p l e R s m args below meth c H locs cells slots Q (F0 m pc ls (.ref h :: rest)) :=
  va_get (D := D) (ci := 1) (v := .int (nI ga)) (C := RX1) (T := TX1) (N := 13) K.1 K.2.1 K.2.2.1 in_X1 K.2.2.2.1 K.2.2.2.2.1 hP 0 rfl rfl 6 (by decide) (K.2.2.1 _ q231) (fun _ h9 => h9) rfl hdg kk
theorem yp_ga {v : Nat} (K : Cx RX1 p c m meth s args cc nL ret D d A) (hP : va_P D gCl (wM h r d op nu sz va pi hg ga en nx dn sp kv kp) H) (hD : va_D A (wM h r d op nu sz va pi hg ga en nx dn sp kv kp)) (hS : va_S A s.heap H locs) (hdg : decode cc pc = .ok (.putfield 36, 3)) (kk : ∀ (H1 : Heap) (locs1 : List Loc), va_P D gCl (wM h r d op nu sz va pi hg v en nx dn sp kv kp) H1 → va_D A (wM h r d op nu sz va pi hg v en nx dn sp kv kp) → va_S A s.heap H1 locs1 → W p l e R s m args below meth c H1 locs1 cells slots Q (F0 m (pc + 3) ls rest)) : W p l e R s m args below meth c H locs cells slots Q (F0 m pc ls (.int (nI v) :: .ref h :: rest)) :=
  va_put (D := D) (ci := 1) (v := .int (nI v)) (ty := .int) (C := RX1) (T := TX1) (N := 13) K.1 K.2.1 K.2.2.1 in_X1 tyX1 tyX1_ok nmX1 K.2.2.2.1 K.2.2.2.2.1 hP hD hS 0 rfl rfl 6 (by decide) (K.2.2.1 _ q231) (fun _ h9 => h9) rfl (by decide +kernel) rfl rfl (Nat.le_of_ble_eq_true rfl) hdg kk
theorem yg_en (K : Cx RX1 p c m meth s args cc nL ret D d A) (hP : va_P D gCl (wM h r d op nu sz va pi hg ga en nx dn sp kv kp) H) (hdg : decode cc pc = .ok (.getfield 74, 3)) (kk : W p l e R s m args below meth c H locs cells slots Q (F0 m (pc + 3) ls (.int (nI en) :: rest))) : W p l e R s m args below meth c H locs cells slots Q (F0 m pc ls (.ref h :: rest)) :=
  va_get (D := D) (ci := 1) (v := .int (nI en)) (C := RX1) (T := TX1) (N := 13) K.1 K.2.1 K.2.2.1 in_X1 K.2.2.2.1 K.2.2.2.2.1 hP 0 rfl rfl 7 (by decide) (K.2.2.1 _ q232) (fun _ h9 => h9) rfl hdg kk
theorem yp_en {v : Nat} (K : Cx RX1 p c m meth s args cc nL ret D d A) (hP : va_P D gCl (wM h r d op nu sz va pi hg ga en nx dn sp kv kp) H) (hD : va_D A (wM h r d op nu sz va pi hg ga en nx dn sp kv kp)) (hS : va_S A s.heap H locs) (hdg : decode cc pc = .ok (.putfield 74, 3)) (kk : ∀ (H1 : Heap) (locs1 : List Loc), va_P D gCl (wM h r d op nu sz va pi hg ga v nx dn sp kv kp) H1 → va_D A (wM h r d op nu sz va pi hg ga v nx dn sp kv kp) → va_S A s.heap H1 locs1 → W p l e R s m args below meth c H1 locs1 cells slots Q (F0 m (pc + 3) ls rest)) : W p l e R s m args below meth c H locs cells slots Q (F0 m pc ls (.int (nI v) :: .ref h :: rest)) :=
  va_put (D := D) (ci := 1) (v := .int (nI v)) (ty := .int) (C := RX1) (T := TX1) (N := 13) K.1 K.2.1 K.2.2.1 in_X1 tyX1 tyX1_ok nmX1 K.2.2.2.1 K.2.2.2.2.1 hP hD hS 0 rfl rfl 7 (by decide) (K.2.2.1 _ q232) (fun _ h9 => h9) rfl (by decide +kernel) rfl rfl (Nat.le_of_ble_eq_true rfl) hdg kk
theorem yg_nx (K : Cx RX1 p c m meth s args cc nL ret D d A) (hP : va_P D gCl (wM h r d op nu sz va pi hg ga en nx dn sp kv kp) H) (hdg : decode cc pc = .ok (.getfield 68, 3)) (kk : W p l e R s m args below meth c H locs cells slots Q (F0 m (pc + 3) ls (.int (nI nx) :: rest))) : W p l e R s m args below meth c H locs cells slots Q (F0 m pc ls (.ref h :: rest)) :=
  va_get (D := D) (ci := 1) (v := .int (nI nx)) (C := RX1) (T := TX1) (N := 13) K.1 K.2.1 K.2.2.1 in_X1 K.2.2.2.1 K.2.2.2.2.1 hP 0 rfl rfl 8 (by decide) (K.2.2.1 _ q233) (fun _ h9 => h9) rfl hdg kk
theorem yp_nx {v : Nat} (K : Cx RX1 p c m meth s args cc nL ret D d A) (hP : va_P D gCl (wM h r d op nu sz va pi hg ga en nx dn sp kv kp) H) (hD : va_D A (wM h r d op nu sz va pi hg ga en nx dn sp kv kp)) (hS : va_S A s.heap H locs) (hdg : decode cc pc = .ok (.putfield 68, 3)) (kk : ∀ (H1 : Heap) (locs1 : List Loc), va_P D gCl (wM h r d op nu sz va pi hg ga en v dn sp kv kp) H1 → va_D A (wM h r d op nu sz va pi hg ga en v dn sp kv kp) → va_S A s.heap H1 locs1 → W p l e R s m args below meth c H1 locs1 cells slots Q (F0 m (pc + 3) ls rest)) : W p l e R s m args below meth c H locs cells slots Q (F0 m pc ls (.int (nI v) :: .ref h :: rest)) :=
  va_put (D := D) (ci := 1) (v := .int (nI v)) (ty := .int) (C := RX1) (T := TX1) (N := 13) K.1 K.2.1 K.2.2.1 in_X1 tyX1 tyX1_ok nmX1 K.2.2.2.1 K.2.2.2.2.1 hP hD hS 0 rfl rfl 8 (by decide) (K.2.2.1 _ q233) (fun _ h9 => h9) rfl (by decide +kernel) rfl rfl (Nat.le_of_ble_eq_true rfl) hdg kk
theorem yg_dn (K : Cx RX1 p c m meth s args cc nL ret D d A) (hP : va_P D gCl (wM h r d op nu sz va pi hg ga en nx dn sp kv kp) H) (hdg : decode cc pc = .ok (.getfield 54, 3)) (kk : W p l e R s m args below meth c H locs cells slots Q (F0 m (pc + 3) ls (.int (nI dn) :: rest))) : W p l e R s m args below meth c H locs cells slots Q (F0 m pc ls (.ref h :: rest)) :=
  va_get (D := D) (ci := 1) (v := .int (nI dn)) (C := RX1) (T := TX1) (N := 13) K.1 K.2.1 K.2.2.1 in_X1 K.2.2.2.1 K.2.2.2.2.1 hP 0 rfl rfl 9 (by decide) (K.2.2.1 _ q234) (fun _ h9 => h9) rfl hdg kk
theorem yp_dn {v : Nat} (K : Cx RX1 p c m meth s args cc nL ret D d A) (hP : va_P D gCl (wM h r d op nu sz va pi hg ga en nx dn sp kv kp) H) (hD : va_D A (wM h r d op nu sz va pi hg ga en nx dn sp kv kp)) (hS : va_S A s.heap H locs) (hdg : decode cc pc = .ok (.putfield 54, 3)) (kk : ∀ (H1 : Heap) (locs1 : List Loc), va_P D gCl (wM h r d op nu sz va pi hg ga en nx v sp kv kp) H1 → va_D A (wM h r d op nu sz va pi hg ga en nx v sp kv kp) → va_S A s.heap H1 locs1 → W p l e R s m args below meth c H1 locs1 cells slots Q (F0 m (pc + 3) ls rest)) : W p l e R s m args below meth c H locs cells slots Q (F0 m pc ls (.int (nI v) :: .ref h :: rest)) :=
  va_put (D := D) (ci := 1) (v := .int (nI v)) (ty := .int) (C := RX1) (T := TX1) (N := 13) K.1 K.2.1 K.2.2.1 in_X1 tyX1 tyX1_ok nmX1 K.2.2.2.1 K.2.2.2.2.1 hP hD hS 0 rfl rfl 9 (by decide) (K.2.2.1 _ q234) (fun _ h9 => h9) rfl (by decide +kernel) rfl rfl (Nat.le_of_ble_eq_true rfl) hdg kk
theorem yg_sp (K : Cx RX1 p c m meth s args cc nL ret D d A) (hP : va_P D gCl (wM h r d op nu sz va pi hg ga en nx dn sp kv kp) H) (hdg : decode cc pc = .ok (.getfield 65, 3)) (kk : W p l e R s m args below meth c H locs cells slots Q (F0 m (pc + 3) ls (.int (nI sp) :: rest))) : W p l e R s m args below meth c H locs cells slots Q (F0 m pc ls (.ref h :: rest)) :=
  va_get (D := D) (ci := 1) (v := .int (nI sp)) (C := RX1) (T := TX1) (N := 13) K.1 K.2.1 K.2.2.1 in_X1 K.2.2.2.1 K.2.2.2.2.1 hP 0 rfl rfl 10 (by decide) (K.2.2.1 _ q235) (fun _ h9 => h9) rfl hdg kk
theorem yp_sp {v : Nat} (K : Cx RX1 p c m meth s args cc nL ret D d A) (hP : va_P D gCl (wM h r d op nu sz va pi hg ga en nx dn sp kv kp) H) (hD : va_D A (wM h r d op nu sz va pi hg ga en nx dn sp kv kp)) (hS : va_S A s.heap H locs) (hdg : decode cc pc = .ok (.putfield 65, 3)) (kk : ∀ (H1 : Heap) (locs1 : List Loc), va_P D gCl (wM h r d op nu sz va pi hg ga en nx dn v kv kp) H1 → va_D A (wM h r d op nu sz va pi hg ga en nx dn v kv kp) → va_S A s.heap H1 locs1 → W p l e R s m args below meth c H1 locs1 cells slots Q (F0 m (pc + 3) ls rest)) : W p l e R s m args below meth c H locs cells slots Q (F0 m pc ls (.int (nI v) :: .ref h :: rest)) :=
  va_put (D := D) (ci := 1) (v := .int (nI v)) (ty := .int) (C := RX1) (T := TX1) (N := 13) K.1 K.2.1 K.2.2.1 in_X1 tyX1 tyX1_ok nmX1 K.2.2.2.1 K.2.2.2.2.1 hP hD hS 0 rfl rfl 10 (by decide) (K.2.2.1 _ q235) (fun _ h9 => h9) rfl (by decide +kernel) rfl rfl (Nat.le_of_ble_eq_true rfl) hdg kk
theorem yg_kv (K : Cx RX1 p c m meth s args cc nL ret D d A) (hP : va_P D gCl (wM h r d op nu sz va pi hg ga en nx dn sp kv kp) H) (hdg : decode cc pc = .ok (.getfield 22, 3)) (kk : W p l e R s m args below meth c H locs cells slots Q (F0 m (pc + 3) ls (.ref (r 11) :: rest))) : W p l e R s m args below meth c H locs cells slots Q (F0 m pc ls (.ref h :: rest)) :=
  va_get (D := D) (ci := 1) (v := .ref (r 11)) (C := RX1) (T := TX1) (N := 13) K.1 K.2.1 K.2.2.1 in_X1 K.2.2.2.1 K.2.2.2.2.1 hP 0 rfl rfl 11 (by decide) (K.2.2.1 _ q236) (fun _ h9 => h9) rfl hdg kk
theorem yg_kp (K : Cx RX1 p c m meth s args cc nL ret D d A) (hP : va_P D gCl (wM h r d op nu sz va pi hg ga en nx dn sp kv kp) H) (hdg : decode cc pc = .ok (.getfield 25, 3)) (kk : W p l e R s m args below meth c H locs cells slots Q (F0 m (pc + 3) ls (.ref (r 12) :: rest))) : W p l e R s m args below meth c H locs cells slots Q (F0 m pc ls (.ref h :: rest)) :=
  va_get (D := D) (ci := 1) (v := .ref (r 12)) (C := RX1) (T := TX1) (N := 13) K.1 K.2.1 K.2.2.1 in_X1 K.2.2.2.1 K.2.2.2.2.1 hP 0 rfl rfl 12 (by decide) (K.2.2.1 _ q237) (fun _ h9 => h9) rfl hdg kk
theorem yl_op {n : Nat} (K : Cx RX1 p c m meth s args cc nL ret D d A) (hP : va_P D gCl (wM h r d op nu sz va pi hg ga en nx dn sp kv kp) H) (hn : n < 20) (hdg : decode cc pc = .ok (.iaload, 1)) (kk : W p l e R s m args below meth c H locs cells slots Q (F0 m (pc + 1) ls (.int (op n) :: rest))) : W p l e R s m args below meth c H locs cells slots Q (F0 m pc ls (.int (nI n) :: .ref (r 0) :: rest)) :=
  va_iald K.1 K.2.1 K.2.2.2.2.1 hP 1 0 rfl rfl (vp_in_nI hn (by decide)) hdg (by rw [nI_clamp (Nat.lt_trans hn (by decide))]; exact kk)
theorem ys_op {n : Nat} {x : Int32} (K : Cx RX1 p c m meth s args cc nL ret D d A) (hP : va_P D gCl (wM h r d op nu sz va pi hg ga en nx dn sp kv kp) H) (hD : va_D A (wM h r d op nu sz va pi hg ga en nx dn sp kv kp)) (hS : va_S A s.heap H locs) (hn : n < 20) (hdg : decode cc pc = .ok (.iastore, 1)) (kk : ∀ (H1 : Heap) (locs1 : List Loc), va_P D gCl (wM h r d (upd op n x) nu sz va pi hg ga en nx dn sp kv kp) H1 → va_D A (wM h r d (upd op n x) nu sz va pi hg ga en nx dn sp kv kp) → va_S A s.heap H1 locs1 → W p l e R s m args below meth c H1 locs1 cells slots Q (F0 m (pc + 1) ls rest)) : W p l e R s m args below meth c H locs cells slots Q (F0 m pc ls (.int x :: .int (nI n) :: .ref (r 0) :: rest)) :=
  va_iast K.1 K.2.1 K.2.2.2.2.1 hP hD hS 1 0 rfl rfl (vp_in_nI hn (by decide)) hdg (fun H1 l1 a b z => by rw [nI_clamp (Nat.lt_trans hn (by decide))] at a b; exact kk H1 l1 a b z)
theorem yl_nu {n : Nat} (K : Cx RX1 p c m meth s args cc nL ret D d A) (hP : va_P D gCl (wM h r d op nu sz va pi hg ga en nx dn sp kv kp) H) (hn : n < 20) (hdg : decode cc pc = .ok (.iaload, 1)) (kk : W p l e R s m args below meth c H locs cells slots Q (F0 m (pc + 1) ls (.int (nu n) :: rest))) : W p l e R s m args below meth c H locs cells slots Q (F0 m pc ls (.int (nI n) :: .ref (r 1) :: rest)) :=
  va_iald K.1 K.2.1 K.2.2.2.2.1 hP 2 0 rfl rfl (vp_in_nI hn (by decide)) hdg (by rw [nI_clamp (Nat.lt_trans hn (by decide))]; exact kk)
theorem ys_nu {n : Nat} {x : Int32} (K : Cx RX1 p c m meth s args cc nL ret D d A) (hP : va_P D gCl (wM h r d op nu sz va pi hg ga en nx dn sp kv kp) H) (hD : va_D A (wM h r d op nu sz va pi hg ga en nx dn sp kv kp)) (hS : va_S A s.heap H locs) (hn : n < 20) (hdg : decode cc pc = .ok (.iastore, 1)) (kk : ∀ (H1 : Heap) (locs1 : List Loc), va_P D gCl (wM h r d op (upd nu n x) sz va pi hg ga en nx dn sp kv kp) H1 → va_D A (wM h r d op (upd nu n x) sz va pi hg ga en nx dn sp kv kp) → va_S A s.heap H1 locs1 → W p l e R s m args below meth c H1 locs1 cells slots Q (F0 m (pc + 1) ls rest)) : W p l e R s m args below meth c H locs cells slots Q (F0 m pc ls (.int x :: .int (nI n) :: .ref (r 1) :: rest)) :=
  va_iast K.1 K.2.1 K.2.2.2.2.1 hP hD hS 2 0 rfl rfl (vp_in_nI hn (by decide)) hdg (fun H1 l1 a b z => by rw [nI_clamp (Nat.lt_trans hn (by decide))] at a b; exact kk H1 l1 a b z)
theorem yl_va {n : Nat} (K : Cx RX1 p c m meth s args cc nL ret D d A) (hP : va_P D gCl (wM h r d op nu sz va pi hg ga en nx dn sp kv kp) H) (hn : n < 4) (hdg : decode cc pc = .ok (.iaload, 1)) (kk : W p l e R s m args below meth c H locs cells slots Q (F0 m (pc + 1) ls (.int (va n) :: rest))) : W p l e R s m args below meth c H locs cells slots Q (F0 m pc ls (.int (nI n) :: .ref (r 3) :: rest)) :=
  va_iald K.1 K.2.1 K.2.2.2.2.1 hP 3 0 rfl rfl (vp_in_nI hn (by decide)) hdg (by rw [nI_clamp (Nat.lt_trans hn (by decide))]; exact kk)
theorem ys_va {n : Nat} {x : Int32} (K : Cx RX1 p c m meth s args cc nL ret D d A) (hP : va_P D gCl (wM h r d op nu sz va pi hg ga en nx dn sp kv kp) H) (hD : va_D A (wM h r d op nu sz va pi hg ga en nx dn sp kv kp)) (hS : va_S A s.heap H locs) (hn : n < 4) (hdg : decode cc pc = .ok (.iastore, 1)) (kk : ∀ (H1 : Heap) (locs1 : List Loc), va_P D gCl (wM h r d op nu sz (upd va n x) pi hg ga en nx dn sp kv kp) H1 → va_D A (wM h r d op nu sz (upd va n x) pi hg ga en nx dn sp kv kp) → va_S A s.heap H1 locs1 → W p l e R s m args below meth c H1 locs1 cells slots Q (F0 m (pc + 1) ls rest)) : W p l e R s m args below meth c H locs cells slots Q (F0 m pc ls (.int x :: .int (nI n) :: .ref (r 3) :: rest)) :=
  va_iast K.1 K.2.1 K.2.2.2.2.1 hP hD hS 3 0 rfl rfl (vp_in_nI hn (by decide)) hdg (fun H1 l1 a b z => by rw [nI_clamp (Nat.lt_trans hn (by decide))] at a b; exact kk H1 l1 a b z)
theorem yl_pi {n : Nat} (K : Cx RX1 p c m meth s args cc nL ret D d A) (hP : va_P D gCl (wM h r d op nu sz va pi hg ga en nx dn sp kv kp) H) (hn : n < 8) (hdg : decode cc pc = .ok (.iaload, 1)) (kk : W p l e R s m args below meth c H locs cells slots Q (F0 m (pc + 1) ls (.int (pi n) :: rest))) : W p l e R s m args below meth c H locs cells slots Q (F0 m pc ls (.int (nI n) :: .ref (r 4) :: rest)) :=
  va_iald K.1 K.2.1 K.2.2.2.2.1 hP 4 0 rfl rfl (vp_in_nI hn (by decide)) hdg (by rw [nI_clamp (Nat.lt_trans hn (by decide))]; exact kk)
theorem ys_pi {n : Nat} {x : Int32} (K : Cx RX1 p c m meth s args cc nL ret D d A) (hP : va_P D gCl (wM h r d op nu sz va pi hg ga en nx dn sp kv kp) H) (hD : va_D A (wM h r d op nu sz va pi hg ga en nx dn sp kv kp)) (hS : va_S A s.heap H locs) (hn : n < 8) (hdg : decode cc pc = .ok (.iastore, 1)) (kk : ∀ (H1 : Heap) (locs1 : List Loc), va_P D gCl (wM h r d op nu sz va (upd pi n x) hg ga en nx dn sp kv kp) H1 → va_D A (wM h r d op nu sz va (upd pi n x) hg ga en nx dn sp kv kp) → va_S A s.heap H1 locs1 → W p l e R s m args below meth c H1 locs1 cells slots Q (F0 m (pc + 1) ls rest)) : W p l e R s m args below meth c H locs cells slots Q (F0 m pc ls (.int x :: .int (nI n) :: .ref (r 4) :: rest)) :=
  va_iast K.1 K.2.1 K.2.2.2.2.1 hP hD hS 4 0 rfl rfl (vp_in_nI hn (by decide)) hdg (fun H1 l1 a b z => by rw [nI_clamp (Nat.lt_trans hn (by decide))] at a b; exact kk H1 l1 a b z)
theorem yl_kv {n : Nat} (K : Cx RX1 p c m meth s args cc nL ret D d A) (hP : va_P D gCl (wM h r d op nu sz va pi hg ga en nx dn sp kv kp) H) (hn : n < 4) (hdg : decode cc pc = .ok (.iaload, 1)) (kk : W p l e R s m args below meth c H locs cells slots Q (F0 m (pc + 1) ls (.int (kv n) :: rest))) : W p l e R s m args below meth c H locs cells slots Q (F0 m pc ls (.int (nI n) :: .ref (r 11) :: rest)) :=
  va_iald K.1 K.2.1 K.2.2.2.2.1 hP 5 0 rfl rfl (vp_in_nI hn (by decide)) hdg (by rw [nI_clamp (Nat.lt_trans hn (by decide))]; exact kk)
theorem ys_kv {n : Nat} {x : Int32} (K : Cx RX1 p c m meth s args cc nL ret D d A) (hP : va_P D gCl (wM h r d op nu sz va pi hg ga en nx dn sp kv kp) H) (hD : va_D A (wM h r d op nu sz va pi hg ga en nx dn sp kv kp)) (hS : va_S A s.heap H locs) (hn : n < 4) (hdg : decode cc pc = .ok (.iastore, 1)) (kk : ∀ (H1 : Heap) (locs1 : List Loc), va_P D gCl (wM h r d op nu sz va pi hg ga en nx dn sp (upd kv n x) kp) H1 → va_D A (wM h r d op nu sz va pi hg ga en nx dn sp (upd kv n x) kp) → va_S A s.heap H1 locs1 → W p l e R s m args below meth c H1 locs1 cells slots Q (F0 m (pc + 1) ls rest)) : W p l e R s m args below meth c H locs cells slots Q (F0 m pc ls (.int x :: .int (nI n) :: .ref (r 11) :: rest)) :=
  va_iast K.1 K.2.1 K.2.2.2.2.1 hP hD hS 5 0 rfl rfl (vp_in_nI hn (by decide)) hdg (fun H1 l1 a b z => by rw [nI_clamp (Nat.lt_trans hn (by decide))] at a b; exact kk H1 l1 a b z)
theorem yl_kp {n : Nat} (K : Cx RX1 p c m meth s args cc nL ret D d A) (hP : va_P D gCl (wM h r d op nu sz va pi hg ga en nx dn sp kv kp) H) (hn : n < 8) (hdg : decode cc pc = .ok (.iaload, 1)) (kk : W p l e R s m args below meth c H locs cells slots Q (F0 m (pc + 1) ls (.int (kp n) :: rest))) : W p l e R s m args below meth c H locs cells slots Q (F0 m pc ls (.int (nI n) :: .ref (r 12) :: rest)) :=
  va_iald K.1 K.2.1 K.2.2.2.2.1 hP 6 0 rfl rfl (vp_in_nI hn (by decide)) hdg (by rw [nI_clamp (Nat.lt_trans hn (by decide))]; exact kk)
theorem ys_kp {n : Nat} {x : Int32} (K : Cx RX1 p c m meth s args cc nL ret D d A) (hP : va_P D gCl (wM h r d op nu sz va pi hg ga en nx dn sp kv kp) H) (hD : va_D A (wM h r d op nu sz va pi hg ga en nx dn sp kv kp)) (hS : va_S A s.heap H locs) (hn : n < 8) (hdg : decode cc pc = .ok (.iastore, 1)) (kk : ∀ (H1 : Heap) (locs1 : List Loc), va_P D gCl (wM h r d op nu sz va pi hg ga en nx dn sp kv (upd kp n x)) H1 → va_D A (wM h r d op nu sz va pi hg ga en nx dn sp kv (upd kp n x)) → va_S A s.heap H1 locs1 → W p l e R s m args below meth c H1 locs1 cells slots Q (F0 m (pc + 1) ls rest)) : W p l e R s m args below meth c H locs cells slots Q (F0 m pc ls (.int x :: .int (nI n) :: .ref (r 12) :: rest)) :=
  va_iast K.1 K.2.1 K.2.2.2.2.1 hP hD hS 6 0 rfl rfl (vp_in_nI hn (by decide)) hdg (fun H1 l1 a b z => by rw [nI_clamp (Nat.lt_trans hn (by decide))] at a b; exact kk H1 l1 a b z)
end
end GR
end
section
/-! the meter's instructions as plain numbers and functions: no program in sight -/
def cd (o : Int32) : Nat := o.toNatClampNeg
theorem cd_nI {k : Nat} (h : k < 2147483648) : cd (nI k) = k := nI_clamp h
def tkN (k : Nat) : Nat := if (1 ≤ k ∧ k ≤ 4) ∨ k = 6 then 2 else if k = 5 ∨ k = 7 ∨ k = 9 ∨ k = 11 ∨ k = 12 then 1 else 0
def ptN (k : Nat) : Nat := if k = 5 ∨ k = 6 then 2 else if k ≤ 4 ∨ k = 8 ∨ k = 13 then 1 else 0
def prN (k : Nat) : Nat := if k = 3 ∨ k = 11 then 5 else if k = 9 ∨ k = 10 then 4 else if k = 7 ∨ k = 12 then 1 else if k = 14 then 0 else if k = 0 ∨ k = 5 ∨ k = 6 ∨ k = 13 then 2 else 3
theorem tkN_le (k : Nat) : tkN k ≤ 2 := by unfold tkN; split <;> (try split) <;> omega
theorem ptN_le (k : Nat) : ptN k ≤ 2 := by unfold ptN; split <;> (try split) <;> omega
theorem prN_le (k : Nat) : prN k ≤ 5 := by unfold prN; grind
theorem ptN_tk (k : Nat) : ptN k ≤ tkN k + 1 := by unfold ptN tkN; grind
def spN (x : Int32) : Nat := x.toBitVec.toNat % 16
theorem spN_and (x : Int32) : x &&& nI 15 = nI (spN x) := pk_and x (m := nI 15) 4 (by decide)
theorem spN_lt (x : Int32) : spN x < 16 := Nat.mod_lt _ (by decide)
def coN (k : Nat) (x : Int32) : Nat := if k = 12 then 1 + spN x else prN k
theorem coN_le (k : Nat) (x : Int32) : coN k x ≤ 20 := by
  unfold coN
  have := spN_lt x
  have := prN_le k
  split <;> omega
def cbI (k : Nat) (x y : Int32) : Int32 := if k = 1 then x + y else if k = 2 then x - y else if k = 3 then x * y else if x < y then nI 1 else nI 0
def wkH (k h : Nat) : Nat := h - tkN k + ptN k
def wkP (k : Nat) (a : Int32) (h : Nat) (p v : vF) : vF :=
  if k = 0 then upd p h a else if k ≤ 4 then upd p (h - 2) (cbI k (p (h - 2)) (p (h - 1))) else if k = 5 then upd p h (p (h - 1))
  else if k = 6 then upd (upd p (h - 1) (p (h - 2))) (h - 2) (p (h - 1)) else if k = 8 then upd p h (v (cd a)) else p
def wkV (k : Nat) (a : Int32) (h : Nat) (p v : vF) : vF := if k = 9 then upd v (cd a) (p (h - 1)) else v
def nxN (k : Nat) (a : Int32) (nx hg : Nat) (pi : vF) : Nat := if k = 10 then cd a else if k = 11 then (if pi (hg - 1) = 0 then nx + 1 else cd a) else if k = 14 then nx else nx + 1
def piN (k : Nat) (a : Int32) (ga hg : Nat) (pi va : vF) : vF := if k = 13 then upd pi hg (nI ga) else wkP k a hg pi va
/-- a run's state: how it ended (0: not yet), gas, steps done, the next place, the pile's height, the pile, the variables -/
abbrev R7 : Type := Nat × Nat × Nat × Nat × Nat × vF × vF
abbrev qE (s : R7) : Nat := s.1
abbrev qG (s : R7) : Nat := s.2.1
abbrev qD (s : R7) : Nat := s.2.2.1
abbrev qN (s : R7) : Nat := s.2.2.2.1
abbrev qH (s : R7) : Nat := s.2.2.2.2.1
abbrev qP (s : R7) : vF := s.2.2.2.2.2.1
abbrev qV (s : R7) : vF := s.2.2.2.2.2.2
/-- how a run ends at its next place without working it off, or 0 -/
def endN (n : Nat) (op : vF) (ga dn nx hg : Nat) (pi : vF) : Nat :=
  if n ≤ nx then 1 else if dn = 300 then 2 else if hg < tkN (cd (op nx)) ∨ 8 < hg - tkN (cd (op nx)) + ptN (cd (op nx)) then 3 else if ga < coN (cd (op nx)) (pi (hg - 1)) then 4 else 0
theorem endN_le (n : Nat) (op : vF) (ga dn nx hg : Nat) (pi : vF) : endN n op ga dn nx hg pi ≤ 4 := by unfold endN; grind
/-- one instruction of code k, number a, paid and worked off -/
def goN (k : Nat) (a : Int32) (ga dn nx hg : Nat) (pi va : vF) : R7 :=
  (if k = 14 then 1 else 0, ga - coN k (pi (hg - 1)), dn + 1, nxN k a nx hg pi, wkH k hg, piN k a (ga - coN k (pi (hg - 1))) hg pi va, wkV k a hg pi va)
def stN (n : Nat) (op nu : vF) (s : R7) : R7 :=
  if endN n op (qG s) (qD s) (qN s) (qH s) (qP s) = 0 then goN (cd (op (qN s))) (nu (qN s)) (qG s) (qD s) (qN s) (qH s) (qP s) (qV s)
  else (endN n op (qG s) (qD s) (qN s) (qH s) (qP s), s.2)
def rnN (n : Nat) (op nu : vF) : Nat → R7 → R7
  | 0, s => s
  | f + 1, s => if qE s = 0 then rnN n op nu f (stN n op nu s) else s
theorem rnN_end {n : Nat} {op nu : vF} {s : R7} (f : Nat) (h : ¬ qE s = 0) : rnN n op nu f s = s := by
  cases f with
  | zero => rfl
  | succ f => unfold rnN; rw [if_neg h]
theorem rnN_go {n : Nat} {op nu : vF} {s : R7} (f : Nat) (h : qE s = 0) : rnN n op nu (f + 1) s = rnN n op nu f (stN n op nu s) := by
  rw [rnN, if_pos h]
/-- an instruction that may stand in a program -/
def okI (o a : Int32) : Prop := ∃ k : Nat, k ≤ 14 ∧ o = nI k ∧ (k = 8 ∨ k = 9 → ∃ b : Nat, b < 4 ∧ a = nI b) ∧ (k = 10 ∨ k = 11 → ∃ b : Nat, b ≤ 20 ∧ a = nI b)
def okP (n : Nat) (op nu : vF) : Prop := n ≤ 20 ∧ ∀ i, i < n → okI (op i) (nu i)
theorem okI.cd {o a : Int32} (h : okI o a) : cd o ≤ 14 ∧ o = nI (cd o) ∧ (cd o = 8 ∨ cd o = 9 → cd a < 4 ∧ a = nI (cd a)) ∧ (cd o = 10 ∨ cd o = 11 → cd a ≤ 20 ∧ a = nI (cd a)) := by
  obtain ⟨k, h1, rfl, h2, h3⟩ := h
  rw [cd_nI (by omega)]
  refine ⟨h1, rfl, fun q => ?_, fun q => ?_⟩
  · obtain ⟨b, hb, rfl⟩ := h2 q
    rw [cd_nI (by omega)]
    exact ⟨hb, rfl⟩
  · obtain ⟨b, hb, rfl⟩ := h3 q
    rw [cd_nI (by omega)]
    exact ⟨hb, rfl⟩
/-- a state within its bounds -/
def okS (s : R7) : Prop := qE s ≤ 4 ∧ qG s ≤ 1000000 ∧ qD s ≤ 300 ∧ qN s ≤ 20 ∧ qH s ≤ 8
theorem endN_0 {n : Nat} {op : vF} {ga dn nx hg : Nat} {pi : vF} (h : endN n op ga dn nx hg pi = 0) : nx < n ∧ dn ≠ 300 ∧ tkN (cd (op nx)) ≤ hg ∧ hg - tkN (cd (op nx)) + ptN (cd (op nx)) ≤ 8 ∧ coN (cd (op nx)) (pi (hg - 1)) ≤ ga := by
  unfold endN at h; grind
theorem stN_ok {n : Nat} {op nu : vF} {s : R7} (hp : okP n op nu) (h : okS s) : okS (stN n op nu s) := by
  obtain ⟨h1, h2, h3, h4, h5⟩ := h
  unfold stN
  split
  · rename_i q
    obtain ⟨q1, q2, q3, q4, q5⟩ := endN_0 q
    obtain ⟨e1, e2, e3, e4⟩ := (hp.2 _ q1).cd
    have := hp.1
    refine ⟨?_, ?_, ?_, ?_, ?_⟩
    · show (if _ then 1 else 0) ≤ 4
      split <;> omega
    · show qG s - _ ≤ 1000000
      omega
    · show qD s + 1 ≤ 300
      omega
    · show nxN _ _ _ _ _ ≤ 20
      unfold nxN
      grind
    · exact q4
  · exact ⟨endN_le _ _ _ _ _ _ _, h2, h3, h4, h5⟩
theorem stN_gas {n : Nat} {op nu : vF} (s : R7) : qG (stN n op nu s) ≤ qG s := by
  unfold stN
  split
  · exact Nat.sub_le _ _
  · exact Nat.le_refl _
theorem rnN_gas {n : Nat} {op nu : vF} : ∀ (f : Nat) (s : R7), qG (rnN n op nu f s) ≤ qG s := by
  intro f
  induction f with
  | zero => intro s; exact Nat.le_refl _
  | succ f ih =>
    intro s
    unfold rnN
    split
    · exact Nat.le_trans (ih _) (stN_gas s)
    · exact Nat.le_refl _
theorem rnN_ok {n : Nat} {op nu : vF} (hp : okP n op nu) : ∀ (f : Nat) (s : R7), okS s → okS (rnN n op nu f s) := by
  intro f
  induction f with
  | zero => intro s h; exact h
  | succ f ih =>
    intro s h
    unfold rnN
    split
    · exact ih _ (stN_ok hp h)
    · exact h
/-- a step that goes on has done one more -/
theorem stN_done {n : Nat} {op nu : vF} {s : R7} (h : qE (stN n op nu s) = 0) : qD (stN n op nu s) = qD s + 1 := by
  unfold stN at h ⊢
  split at h
  · rename_i q
    rw [if_pos q]
    rfl
  · rename_i q
    exact absurd h q
/-- stretches: length, price, the height needed, the rise, from place i on, j places before the end -/
def sL (op : vF) : Nat → Nat → Nat
  | 0, _ => 0
  | j + 1, i => if 10 ≤ cd (op i) then 0 else sL op j (i + 1) + 1
def sC (op : vF) : Nat → Nat → Nat
  | 0, _ => 0
  | j + 1, i => if 10 ≤ cd (op i) then 0 else sC op j (i + 1) + prN (cd (op i))
def sN (op : vF) : Nat → Nat → Nat
  | 0, _ => 0
  | j + 1, i => if 10 ≤ cd (op i) then 0 else max (sN op j (i + 1) + tkN (cd (op i)) - ptN (cd (op i))) (tkN (cd (op i)))
def sR (op : vF) : Nat → Nat → Nat
  | 0, _ => 0
  | j + 1, i => if 10 ≤ cd (op i) then 0 else max (sR op j (i + 1) + ptN (cd (op i)) - tkN (cd (op i))) (ptN (cd (op i)) - tkN (cd (op i)))
theorem sL_le (op : vF) : ∀ j i, sL op j i ≤ j := by
  intro j
  induction j with
  | zero => intro i; exact Nat.le_refl _
  | succ j ih =>
    intro i
    unfold sL
    have := ih (i + 1)
    split <;> omega
theorem sC_le (op : vF) : ∀ j i, sC op j i ≤ 5 * j := by
  intro j
  induction j with
  | zero => intro i; exact Nat.le_refl _
  | succ j ih =>
    intro i
    unfold sC
    have := ih (i + 1)
    have := prN_le (cd (op i))
    split <;> omega
theorem sN_le (op : vF) : ∀ j i, sN op j i ≤ 2 * j + 2 := by
  intro j
  induction j with
  | zero => intro i; exact Nat.zero_le _
  | succ j ih =>
    intro i
    unfold sN
    have := ih (i + 1)
    have := tkN_le (cd (op i))
    split <;> omega
theorem sR_le (op : vF) : ∀ j i, sR op j i ≤ j := by
  intro j
  induction j with
  | zero => intro i; exact Nat.le_refl _
  | succ j ih =>
    intro i
    unfold sR
    have := ih (i + 1)
    have := ptN_tk (cd (op i))
    split <;> omega
/-- the data (height, pile, variables) through m places from i on, none of which ends a stretch -/
def wks (op nu : vF) : Nat → Nat → Nat × vF × vF → Nat × vF × vF
  | 0, _, x => x
  | m + 1, i, x => wks op nu m (i + 1) (wkH (cd (op i)) x.1, wkP (cd (op i)) (nu i) x.1 x.2.1 x.2.2, wkV (cd (op i)) (nu i) x.1 x.2.1 x.2.2)
theorem goN_low {k : Nat} {a : Int32} {ga dn nx hg : Nat} {pi va : vF} (h : k < 10) : goN k a ga dn nx hg pi va = (0, ga - prN k, dn + 1, nx + 1, wkH k hg, wkP k a hg pi va, wkV k a hg pi va) := by
  unfold goN coN nxN piN
  rw [if_neg (by omega), if_neg (by omega), if_neg (by omega), if_neg (by omega), if_neg (by omega), if_neg (by omega)]
/-- a stretch that is sure to run through is so many single steps -/
theorem stretch {n : Nat} {op nu : vF} : ∀ (j i f ga dn hg : Nat) (pi va : vF), i + j = n → sN op j i ≤ hg → hg + sR op j i ≤ 8 → sC op j i ≤ ga → dn + sL op j i ≤ 300 →
    rnN n op nu (f + sL op j i) (0, ga, dn, i, hg, pi, va) = rnN n op nu f (0, ga - sC op j i, dn + sL op j i, i + sL op j i, wks op nu (sL op j i) i (hg, pi, va)) := by
  intro j
  induction j with
  | zero => intro i f ga dn hg pi va _ _ _ _ _; rfl
  | succ j ih =>
    intro i f ga dn hg pi va hij h1 h2 h3 h4
    by_cases hk : 10 ≤ cd (op i)
    · have e1 : sL op (j + 1) i = 0 := by unfold sL; rw [if_pos hk]
      have e2 : sC op (j + 1) i = 0 := by unfold sC; rw [if_pos hk]
      rw [e1, e2]
      rfl
    · have e1 : sL op (j + 1) i = sL op j (i + 1) + 1 := by rw [sL, if_neg hk]
      have e2 : sC op (j + 1) i = sC op j (i + 1) + prN (cd (op i)) := by rw [sC, if_neg hk]
      have e3 : sN op (j + 1) i = max (sN op j (i + 1) + tkN (cd (op i)) - ptN (cd (op i))) (tkN (cd (op i))) := by rw [sN, if_neg hk]
      have e4 : sR op (j + 1) i = max (sR op j (i + 1) + ptN (cd (op i)) - tkN (cd (op i))) (ptN (cd (op i)) - tkN (cd (op i))) := by rw [sR, if_neg hk]
      rw [e1] at h4
      rw [e2] at h3
      rw [e3] at h1
      rw [e4] at h2
      have hc : coN (cd (op i)) (pi (hg - 1)) = prN (cd (op i)) := by unfold coN; rw [if_neg (by omega)]
      have he : endN n op ga dn i hg pi = 0 := by
        unfold endN
        rw [hc, if_neg (by omega), if_neg (by omega), if_neg (by omega), if_neg (by omega)]
      have hs : stN n op nu (0, ga, dn, i, hg, pi, va) = (0, ga - prN (cd (op i)), dn + 1, i + 1, wkH (cd (op i)) hg, wkP (cd (op i)) (nu i) hg pi va, wkV (cd (op i)) (nu i) hg pi va) := by
        unfold stN
        show (if endN n op ga dn i hg pi = 0 then _ else _) = _
        rw [if_pos he]
        exact goN_low (k := cd (op i)) (by omega)
      rw [e1, e2]
      show rnN n op nu ((f + sL op j (i + 1)) + 1) _ = _
      rw [rnN_go _ rfl, hs, ih (i + 1) f _ _ _ _ _ (by omega) (by unfold wkH; omega) (by unfold wkH; omega) (by omega) (by omega)]
      show rnN n op nu f (0, ga - prN (cd (op i)) - sC op j (i + 1), dn + 1 + sL op j (i + 1), i + 1 + sL op j (i + 1), wks op nu (sL op j (i + 1)) (i + 1) (wkH (cd (op i)) hg, wkP (cd (op i)) (nu i) hg pi va, wkV (cd (op i)) (nu i) hg pi va)) = rnN n op nu f (0, ga - (sC op j (i + 1) + prN (cd (op i))), dn + (sL op j (i + 1) + 1), i + (sL op j (i + 1) + 1), wks op nu (sL op j (i + 1)) (i + 1) (wkH (cd (op i)) hg, wkP (cd (op i)) (nu i) hg pi va, wkV (cd (op i)) (nu i) hg pi va))
      rw [show ga - prN (cd (op i)) - sC op j (i + 1) = ga - (sC op j (i + 1) + prN (cd (op i))) by omega, show dn + 1 + sL op j (i + 1) = dn + (sL op j (i + 1) + 1) by omega, show i + 1 + sL op j (i + 1) = i + (sL op j (i + 1) + 1) by omega]
/-- the plan: what the four arrays hold, for the places from i0 on -/
def okQ (i0 n : Nat) (op le pr ne ri : vF) : Prop := ∀ i j : Nat, i0 ≤ i → i + j = n → le i = nI (sL op j i) ∧ pr i = nI (sC op j i) ∧ ne i = nI (sN op j i) ∧ ri i = nI (sR op j i)
end
section
set_option maxRecDepth 100000
/-! what a program may hold, and small answers -/
def badN (o b : Int32) : Nat := if o < 0 ∨ ¬ o ≤ nI 14 ∨ (o = 0 ∧ (b < -100 ∨ ¬ b ≤ nI 100)) ∨ ((o = nI 8 ∨ o = nI 9) ∧ (b < 0 ∨ ¬ b ≤ nI 3)) ∨ ((o = nI 10 ∨ o = nI 11) ∧ (b < 0 ∨ ¬ b ≤ nI 20)) then 1 else 0
theorem badN_lt (o b : Int32) : badN o b < 2 ^ 31 := by unfold badN; split <;> decide
def brN (k : Nat) : Nat := if 10 ≤ k then 1 else 0
theorem brN_lt (k : Nat) : brN k < 2 ^ 31 := by unfold brN; split <;> decide
theorem nI_lits : nI 8 ≠ nI 10 ∧ nI 8 ≠ nI 11 ∧ nI 9 ≠ nI 10 ∧ nI 9 ≠ nI 11 ∧ nI 8 ≠ 0 ∧ nI 9 ≠ 0 ∧ nI 10 ≠ 0 ∧ nI 11 ≠ 0 := by decide
theorem nI_between {v : Int32} {n q : Nat} (h : v ≤ nI n) (h2 : nI q ≤ v) (hq : n < q) (hl : q < 2 ^ 31) : False := by
  have := Int32.le_trans h2 h
  exact nI_ge hq hl this
set_option maxHeartbeats 4000000 in
set_option maxRecDepth 100000 in
theorem metX_bad (l : Launch) (D : va_G) (d : ClassId) (h : Nat) (r : Nat → Nat) (sz : Nat) (op : vF) (nu : vF) (va : vF) (ga : Nat) (pl : Nat) (le : vF) (pr : vF) (ne : vF) (ri : vF) (nx : Nat) (en : Nat) (dn : Nat) (tk : Nat) (hg : Nat) (pi : vF) (ke : vF) (kp : vF) (o : Int32) (b : Int32) : MetI l yX0_bad cX0_bad 3 .boolean D d [.ref h, .int o, .int b] (wX h r d sz op nu va ga pl le pr ne ri nx en dn tk hg pi ke kp) (rmG 0) (fun (a : Int32) (_ : Unit) => a = nI (badN o b)) (fun _ : Unit => wX h r d sz op nu va ga pl le pr ne ri nx en dn tk hg pi ke kp) := by
  refine gm_startI (own := RX0) (by decide +kernel) rfl (Nat.le_of_ble_eq_true rfl) ?_
  intro p e s m below meth c A H locs Q ls K hl hP hD hS ret
  have hx := K.1
  have hb := K.2.1
  have hl : lv_has ls 3 [(0, .ref h), (1, .int o), (2, .int b)] := hl
  have hlit := nI_lits
  refine lv_iload_n hx hb dX0_bad_0 rfl (lv_at hl 1 rfl) ?_
  refine lv_if_lt (tgt := 10) hx hb dX0_bad_1 (by decide) (fun c_1 => ?_) (fun c_1 => ?_)
  · refine lv_iconst (v := nI 1) hx hb dX0_bad_10 (by decide) ?_
    exact ret _ _ (nI 1) () _ _ dX0_bad_11 rfl (by grind [badN, Int32.not_le, Int32.not_lt, nI_0]) hP hD hS
  · refine lv_iload_n hx hb dX0_bad_4 rfl (lv_at hl 1 rfl) ?_
    refine lv_bipush (v := nI 14) hx hb dX0_bad_5 (by decide) ?_
    refine lv_icmp_le (tgt := 12) hx hb dX0_bad_7 (by decide) (fun c_7 => ?_) (fun c_7 => ?_)
    · refine lv_iload_n hx hb dX0_bad_12 rfl (lv_at hl 1 rfl) ?_
      refine lv_if_ne (tgt := 34) hx hb dX0_bad_13 (by decide) (fun c_13 => ?_) (fun c_13 => ?_)
      · refine lv_iload_n hx hb dX0_bad_34 rfl (lv_at hl 1 rfl) ?_
        refine lv_bipush (v := nI 8) hx hb dX0_bad_35 (by decide) ?_
        refine lv_icmp_eq (tgt := 46) hx hb dX0_bad_37 (by decide) (fun c_37 => ?_) (fun c_37 => ?_)
        · refine lv_iload_n hx hb dX0_bad_46 rfl (lv_at hl 2 rfl) ?_
          refine lv_if_lt (tgt := 55) hx hb dX0_bad_47 (by decide) (fun c_47 => ?_) (fun c_47 => ?_)
          · refine lv_iconst (v := nI 1) hx hb dX0_bad_55 (by decide) ?_
            refine lv_goto (tgt := 60) hx hb dX0_bad_56 (by decide) ?_
            exact ret _ _ (nI 1) () _ _ dX0_bad_60 rfl (by grind [badN, Int32.not_le, Int32.not_lt, nI_0]) hP hD hS
          · refine lv_iload_n hx hb dX0_bad_50 rfl (lv_at hl 2 rfl) ?_
            refine lv_iconst (v := nI 3) hx hb dX0_bad_51 (by decide) ?_
            refine lv_icmp_le (tgt := 59) hx hb dX0_bad_52 (by decide) (fun c_52 => ?_) (fun c_52 => ?_)
            · refine lv_iconst (v := nI 0) hx hb dX0_bad_59 (by decide) ?_
              exact ret _ _ (nI 0) () _ _ dX0_bad_60 rfl (by grind [badN, Int32.not_le, Int32.not_lt, nI_0]) hP hD hS
            · refine lv_iconst (v := nI 1) hx hb dX0_bad_55 (by decide) ?_
              refine lv_goto (tgt := 60) hx hb dX0_bad_56 (by decide) ?_
              exact ret _ _ (nI 1) () _ _ dX0_bad_60 rfl (by grind [badN, Int32.not_le, Int32.not_lt, nI_0]) hP hD hS
        · refine lv_iload_n hx hb dX0_bad_40 rfl (lv_at hl 1 rfl) ?_
          refine lv_bipush (v := nI 9) hx hb dX0_bad_41 (by decide) ?_
          refine lv_icmp_ne (tgt := 61) hx hb dX0_bad_43 (by decide) (fun c_43 => ?_) (fun c_43 => ?_)
          · refine lv_iload_n hx hb dX0_bad_61 rfl (lv_at hl 1 rfl) ?_
            refine lv_bipush (v := nI 10) hx hb dX0_bad_62 (by decide) ?_
            refine lv_icmp_eq (tgt := 73) hx hb dX0_bad_64 (by decide) (fun c_64 => ?_) (fun c_64 => ?_)
            · refine lv_iload_n hx hb dX0_bad_73 rfl (lv_at hl 2 rfl) ?_
              refine lv_if_lt (tgt := 83) hx hb dX0_bad_74 (by decide) (fun c_74 => ?_) (fun c_74 => ?_)
              · refine lv_iconst (v := nI 1) hx hb dX0_bad_83 (by decide) ?_
                refine lv_goto (tgt := 88) hx hb dX0_bad_84 (by decide) ?_
                exact ret _ _ (nI 1) () _ _ dX0_bad_88 rfl (by grind [badN, Int32.not_le, Int32.not_lt, nI_0]) hP hD hS
              · refine lv_iload_n hx hb dX0_bad_77 rfl (lv_at hl 2 rfl) ?_
                refine lv_bipush (v := nI 20) hx hb dX0_bad_78 (by decide) ?_
                refine lv_icmp_le (tgt := 87) hx hb dX0_bad_80 (by decide) (fun c_80 => ?_) (fun c_80 => ?_)
                · refine lv_iconst (v := nI 0) hx hb dX0_bad_87 (by decide) ?_
                  exact ret _ _ (nI 0) () _ _ dX0_bad_88 rfl (by grind [badN, Int32.not_le, Int32.not_lt, nI_0]) hP hD hS
                · refine lv_iconst (v := nI 1) hx hb dX0_bad_83 (by decide) ?_
                  refine lv_goto (tgt := 88) hx hb dX0_bad_84 (by decide) ?_
                  exact ret _ _ (nI 1) () _ _ dX0_bad_88 rfl (by grind [badN, Int32.not_le, Int32.not_lt, nI_0]) hP hD hS
            · refine lv_iload_n hx hb dX0_bad_67 rfl (lv_at hl 1 rfl) ?_
              refine lv_bipush (v := nI 11) hx hb dX0_bad_68 (by decide) ?_
              refine lv_icmp_ne (tgt := 87) hx hb dX0_bad_70 (by decide) (fun c_70 => ?_) (fun c_70 => ?_)
              · refine lv_iconst (v := nI 0) hx hb dX0_bad_87 (by decide) ?_
                exact ret _ _ (nI 0) () _ _ dX0_bad_88 rfl (by grind [badN, Int32.not_le, Int32.not_lt, nI_0]) hP hD hS
              · refine lv_iload_n hx hb dX0_bad_73 rfl (lv_at hl 2 rfl) ?_
                refine lv_if_lt (tgt := 83) hx hb dX0_bad_74 (by decide) (fun c_74 => ?_) (fun c_74 => ?_)
                · refine lv_iconst (v := nI 1) hx hb dX0_bad_83 (by decide) ?_
                  refine lv_goto (tgt := 88) hx hb dX0_bad_84 (by decide) ?_
                  exact ret _ _ (nI 1) () _ _ dX0_bad_88 rfl (by grind [badN, Int32.not_le, Int32.not_lt, nI_0]) hP hD hS
                · refine lv_iload_n hx hb dX0_bad_77 rfl (lv_at hl 2 rfl) ?_
                  refine lv_bipush (v := nI 20) hx hb dX0_bad_78 (by decide) ?_
                  refine lv_icmp_le (tgt := 87) hx hb dX0_bad_80 (by decide) (fun c_80 => ?_) (fun c_80 => ?_)
                  · refine lv_iconst (v := nI 0) hx hb dX0_bad_87 (by decide) ?_
                    exact ret _ _ (nI 0) () _ _ dX0_bad_88 rfl (by grind [badN, Int32.not_le, Int32.not_lt, nI_0]) hP hD hS
                  · refine lv_iconst (v := nI 1) hx hb dX0_bad_83 (by decide) ?_
                    refine lv_goto (tgt := 88) hx hb dX0_bad_84 (by decide) ?_
                    exact ret _ _ (nI 1) () _ _ dX0_bad_88 rfl (by grind [badN, Int32.not_le, Int32.not_lt, nI_0]) hP hD hS
          · refine lv_iload_n hx hb dX0_bad_46 rfl (lv_at hl 2 rfl) ?_
            refine lv_if_lt (tgt := 55) hx hb dX0_bad_47 (by decide) (fun c_47 => ?_) (fun c_47 => ?_)
            · refine lv_iconst (v := nI 1) hx hb dX0_bad_55 (by decide) ?_
              refine lv_goto (tgt := 60) hx hb dX0_bad_56 (by decide) ?_
              exact ret _ _ (nI 1) () _ _ dX0_bad_60 rfl (by grind [badN, Int32.not_le, Int32.not_lt, nI_0]) hP hD hS
            · refine lv_iload_n hx hb dX0_bad_50 rfl (lv_at hl 2 rfl) ?_
              refine lv_iconst (v := nI 3) hx hb dX0_bad_51 (by decide) ?_
              refine lv_icmp_le (tgt := 59) hx hb dX0_bad_52 (by decide) (fun c_52 => ?_) (fun c_52 => ?_)
              · refine lv_iconst (v := nI 0) hx hb dX0_bad_59 (by decide) ?_
                exact ret _ _ (nI 0) () _ _ dX0_bad_60 rfl (by grind [badN, Int32.not_le, Int32.not_lt, nI_0]) hP hD hS
              · refine lv_iconst (v := nI 1) hx hb dX0_bad_55 (by decide) ?_
                refine lv_goto (tgt := 60) hx hb dX0_bad_56 (by decide) ?_
                exact ret _ _ (nI 1) () _ _ dX0_bad_60 rfl (by grind [badN, Int32.not_le, Int32.not_lt, nI_0]) hP hD hS
      · refine lv_iload_n hx hb dX0_bad_16 rfl (lv_at hl 2 rfl) ?_
        refine lv_bipush (v := (-100)) hx hb dX0_bad_17 (by decide) ?_
        refine lv_icmp_lt (tgt := 28) hx hb dX0_bad_19 (by decide) (fun c_19 => ?_) (fun c_19 => ?_)
        · refine lv_iconst (v := nI 1) hx hb dX0_bad_28 (by decide) ?_
          refine lv_goto (tgt := 33) hx hb dX0_bad_29 (by decide) ?_
          exact ret _ _ (nI 1) () _ _ dX0_bad_33 rfl (by grind [badN, Int32.not_le, Int32.not_lt, nI_0]) hP hD hS
        · refine lv_iload_n hx hb dX0_bad_22 rfl (lv_at hl 2 rfl) ?_
          refine lv_bipush (v := nI 100) hx hb dX0_bad_23 (by decide) ?_
          refine lv_icmp_le (tgt := 32) hx hb dX0_bad_25 (by decide) (fun c_25 => ?_) (fun c_25 => ?_)
          · refine lv_iconst (v := nI 0) hx hb dX0_bad_32 (by decide) ?_
            exact ret _ _ (nI 0) () _ _ dX0_bad_33 rfl (by grind [badN, Int32.not_le, Int32.not_lt, nI_0]) hP hD hS
          · refine lv_iconst (v := nI 1) hx hb dX0_bad_28 (by decide) ?_
            refine lv_goto (tgt := 33) hx hb dX0_bad_29 (by decide) ?_
            exact ret _ _ (nI 1) () _ _ dX0_bad_33 rfl (by grind [badN, Int32.not_le, Int32.not_lt, nI_0]) hP hD hS
    · refine lv_iconst (v := nI 1) hx hb dX0_bad_10 (by decide) ?_
      exact ret _ _ (nI 1) () _ _ dX0_bad_11 rfl (by grind [badN, Int32.not_le, Int32.not_lt, nI_0]) hP hD hS
set_option maxHeartbeats 4000000 in
set_option maxRecDepth 100000 in
theorem metX_priceOf (l : Launch) (D : va_G) (d : ClassId) (h : Nat) (r : Nat → Nat) (sz : Nat) (op : vF) (nu : vF) (va : vF) (ga : Nat) (pl : Nat) (le : vF) (pr : vF) (ne : vF) (ri : vF) (nx : Nat) (en : Nat) (dn : Nat) (tk : Nat) (hg : Nat) (pi : vF) (ke : vF) (kp : vF) (k : Nat) (hk : k ≤ 14) : MetI l yX0_priceOf cX0_priceOf 2 .int D d [.ref h, .int (nI k)] (wX h r d sz op nu va ga pl le pr ne ri nx en dn tk hg pi ke kp) (rmG 0) (fun (a : Int32) (_ : Unit) => a = nI (prN k)) (fun _ : Unit => wX h r d sz op nu va ga pl le pr ne ri nx en dn tk hg pi ke kp) := by
  refine gm_startI (own := RX0) (by decide +kernel) rfl (Nat.le_of_ble_eq_true rfl) ?_
  intro p e s m below meth c A H locs Q ls K hl hP hD hS ret
  have hx := K.1
  have hb := K.2.1
  have hl : lv_has ls 2 [(0, .ref h), (1, .int (nI k))] := hl
  refine lv_iload_n hx hb dX0_priceOf_0 rfl (lv_at hl 1 rfl) ?_
  refine lv_iconst (v := nI 3) hx hb dX0_priceOf_1 (by decide) ?_
  refine gb_eq (tgt := 11) hx hb dX0_priceOf_2 (by decide) (by omega) (by omega) (fun c_2 => ?_) (fun c_2 => ?_)
  · refine lv_iconst (v := nI 5) hx hb dX0_priceOf_11 (by decide) ?_
    exact ret _ _ (nI 5) () _ _ dX0_priceOf_12 rfl (by unfold prN; grind) hP hD hS
  · refine lv_iload_n hx hb dX0_priceOf_5 rfl (lv_at hl 1 rfl) ?_
    refine lv_bipush (v := nI 11) hx hb dX0_priceOf_6 (by decide) ?_
    refine gb_ne (tgt := 13) hx hb dX0_priceOf_8 (by decide) (by omega) (by omega) (fun c_8 => ?_) (fun c_8 => ?_)
    · refine lv_iload_n hx hb dX0_priceOf_13 rfl (lv_at hl 1 rfl) ?_
      refine lv_bipush (v := nI 9) hx hb dX0_priceOf_14 (by decide) ?_
      refine gb_eq (tgt := 25) hx hb dX0_priceOf_16 (by decide) (by omega) (by omega) (fun c_16 => ?_) (fun c_16 => ?_)
      · refine lv_iconst (v := nI 4) hx hb dX0_priceOf_25 (by decide) ?_
        exact ret _ _ (nI 4) () _ _ dX0_priceOf_26 rfl (by unfold prN; grind) hP hD hS
      · refine lv_iload_n hx hb dX0_priceOf_19 rfl (lv_at hl 1 rfl) ?_
        refine lv_bipush (v := nI 10) hx hb dX0_priceOf_20 (by decide) ?_
        refine gb_ne (tgt := 27) hx hb dX0_priceOf_22 (by decide) (by omega) (by omega) (fun c_22 => ?_) (fun c_22 => ?_)
        · refine lv_iload_n hx hb dX0_priceOf_27 rfl (lv_at hl 1 rfl) ?_
          refine lv_bipush (v := nI 7) hx hb dX0_priceOf_28 (by decide) ?_
          refine gb_eq (tgt := 39) hx hb dX0_priceOf_30 (by decide) (by omega) (by omega) (fun c_30 => ?_) (fun c_30 => ?_)
          · refine lv_iconst (v := nI 1) hx hb dX0_priceOf_39 (by decide) ?_
            exact ret _ _ (nI 1) () _ _ dX0_priceOf_40 rfl (by unfold prN; grind) hP hD hS
          · refine lv_iload_n hx hb dX0_priceOf_33 rfl (lv_at hl 1 rfl) ?_
            refine lv_bipush (v := nI 12) hx hb dX0_priceOf_34 (by decide) ?_
            refine gb_ne (tgt := 41) hx hb dX0_priceOf_36 (by decide) (by omega) (by omega) (fun c_36 => ?_) (fun c_36 => ?_)
            · refine lv_iload_n hx hb dX0_priceOf_41 rfl (lv_at hl 1 rfl) ?_
              refine lv_bipush (v := nI 14) hx hb dX0_priceOf_42 (by decide) ?_
              refine gb_ne (tgt := 49) hx hb dX0_priceOf_44 (by decide) (by omega) (by omega) (fun c_44 => ?_) (fun c_44 => ?_)
              · refine lv_iload_n hx hb dX0_priceOf_49 rfl (lv_at hl 1 rfl) ?_
                refine gz_eq (tgt := 70) hx hb dX0_priceOf_50 (by decide) (by omega) (fun c_50 => ?_) (fun c_50 => ?_)
                · refine lv_iconst (v := nI 2) hx hb dX0_priceOf_70 (by decide) ?_
                  refine lv_goto (tgt := 75) hx hb dX0_priceOf_71 (by decide) ?_
                  exact ret _ _ (nI 2) () _ _ dX0_priceOf_75 rfl (by unfold prN; grind) hP hD hS
                · refine lv_iload_n hx hb dX0_priceOf_53 rfl (lv_at hl 1 rfl) ?_
                  refine lv_iconst (v := nI 5) hx hb dX0_priceOf_54 (by decide) ?_
                  refine gb_eq (tgt := 70) hx hb dX0_priceOf_55 (by decide) (by omega) (by omega) (fun c_55 => ?_) (fun c_55 => ?_)
                  · refine lv_iconst (v := nI 2) hx hb dX0_priceOf_70 (by decide) ?_
                    refine lv_goto (tgt := 75) hx hb dX0_priceOf_71 (by decide) ?_
                    exact ret _ _ (nI 2) () _ _ dX0_priceOf_75 rfl (by unfold prN; grind) hP hD hS
                  · refine lv_iload_n hx hb dX0_priceOf_58 rfl (lv_at hl 1 rfl) ?_
                    refine lv_bipush (v := nI 6) hx hb dX0_priceOf_59 (by decide) ?_
                    refine gb_eq (tgt := 70) hx hb dX0_priceOf_61 (by decide) (by omega) (by omega) (fun c_61 => ?_) (fun c_61 => ?_)
                    · refine lv_iconst (v := nI 2) hx hb dX0_priceOf_70 (by decide) ?_
                      refine lv_goto (tgt := 75) hx hb dX0_priceOf_71 (by decide) ?_
                      exact ret _ _ (nI 2) () _ _ dX0_priceOf_75 rfl (by unfold prN; grind) hP hD hS
                    · refine lv_iload_n hx hb dX0_priceOf_64 rfl (lv_at hl 1 rfl) ?_
                      refine lv_bipush (v := nI 13) hx hb dX0_priceOf_65 (by decide) ?_
                      refine gb_ne (tgt := 74) hx hb dX0_priceOf_67 (by decide) (by omega) (by omega) (fun c_67 => ?_) (fun c_67 => ?_)
                      · refine lv_iconst (v := nI 3) hx hb dX0_priceOf_74 (by decide) ?_
                        exact ret _ _ (nI 3) () _ _ dX0_priceOf_75 rfl (by unfold prN; grind) hP hD hS
                      · refine lv_iconst (v := nI 2) hx hb dX0_priceOf_70 (by decide) ?_
                        refine lv_goto (tgt := 75) hx hb dX0_priceOf_71 (by decide) ?_
                        exact ret _ _ (nI 2) () _ _ dX0_priceOf_75 rfl (by unfold prN; grind) hP hD hS
              · refine lv_iconst (v := nI 0) hx hb dX0_priceOf_47 (by decide) ?_
                exact ret _ _ (nI 0) () _ _ dX0_priceOf_48 rfl (by unfold prN; grind) hP hD hS
            · refine lv_iconst (v := nI 1) hx hb dX0_priceOf_39 (by decide) ?_
              exact ret _ _ (nI 1) () _ _ dX0_priceOf_40 rfl (by unfold prN; grind) hP hD hS
        · refine lv_iconst (v := nI 4) hx hb dX0_priceOf_25 (by decide) ?_
          exact ret _ _ (nI 4) () _ _ dX0_priceOf_26 rfl (by unfold prN; grind) hP hD hS
    · refine lv_iconst (v := nI 5) hx hb dX0_priceOf_11 (by decide) ?_
      exact ret _ _ (nI 5) () _ _ dX0_priceOf_12 rfl (by unfold prN; grind) hP hD hS
set_option maxHeartbeats 4000000 in
set_option maxRecDepth 100000 in
theorem metX_takes (l : Launch) (D : va_G) (d : ClassId) (h : Nat) (r : Nat → Nat) (sz : Nat) (op : vF) (nu : vF) (va : vF) (ga : Nat) (pl : Nat) (le : vF) (pr : vF) (ne : vF) (ri : vF) (nx : Nat) (en : Nat) (dn : Nat) (tk : Nat) (hg : Nat) (pi : vF) (ke : vF) (kp : vF) (k : Nat) (hk : k ≤ 14) : MetI l yX0_takes cX0_takes 2 .int D d [.ref h, .int (nI k)] (wX h r d sz op nu va ga pl le pr ne ri nx en dn tk hg pi ke kp) (rmG 0) (fun (a : Int32) (_ : Unit) => a = nI (tkN k)) (fun _ : Unit => wX h r d sz op nu va ga pl le pr ne ri nx en dn tk hg pi ke kp) := by
  refine gm_startI (own := RX0) (by decide +kernel) rfl (Nat.le_of_ble_eq_true rfl) ?_
  intro p e s m below meth c A H locs Q ls K hl hP hD hS ret
  have hx := K.1
  have hb := K.2.1
  have hl : lv_has ls 2 [(0, .ref h), (1, .int (nI k))] := hl
  refine lv_iload_n hx hb dX0_takes_0 rfl (lv_at hl 1 rfl) ?_
  refine lv_iconst (v := nI 1) hx hb dX0_takes_1 (by decide) ?_
  refine gb_lt (tgt := 10) hx hb dX0_takes_2 (by decide) (by omega) (by omega) (fun c_2 => ?_) (fun c_2 => ?_)
  · refine lv_iload_n hx hb dX0_takes_10 rfl (lv_at hl 1 rfl) ?_
    refine lv_bipush (v := nI 6) hx hb dX0_takes_11 (by decide) ?_
    refine gb_ne (tgt := 18) hx hb dX0_takes_13 (by decide) (by omega) (by omega) (fun c_13 => ?_) (fun c_13 => ?_)
    · refine lv_iload_n hx hb dX0_takes_18 rfl (lv_at hl 1 rfl) ?_
      refine lv_iconst (v := nI 5) hx hb dX0_takes_19 (by decide) ?_
      refine gb_eq (tgt := 47) hx hb dX0_takes_20 (by decide) (by omega) (by omega) (fun c_20 => ?_) (fun c_20 => ?_)
      · refine lv_iconst (v := nI 1) hx hb dX0_takes_47 (by decide) ?_
        refine lv_goto (tgt := 52) hx hb dX0_takes_48 (by decide) ?_
        exact ret _ _ (nI 1) () _ _ dX0_takes_52 rfl (by unfold tkN; grind) hP hD hS
      · refine lv_iload_n hx hb dX0_takes_23 rfl (lv_at hl 1 rfl) ?_
        refine lv_bipush (v := nI 7) hx hb dX0_takes_24 (by decide) ?_
        refine gb_eq (tgt := 47) hx hb dX0_takes_26 (by decide) (by omega) (by omega) (fun c_26 => ?_) (fun c_26 => ?_)
        · refine lv_iconst (v := nI 1) hx hb dX0_takes_47 (by decide) ?_
          refine lv_goto (tgt := 52) hx hb dX0_takes_48 (by decide) ?_
          exact ret _ _ (nI 1) () _ _ dX0_takes_52 rfl (by unfold tkN; grind) hP hD hS
        · refine lv_iload_n hx hb dX0_takes_29 rfl (lv_at hl 1 rfl) ?_
          refine lv_bipush (v := nI 9) hx hb dX0_takes_30 (by decide) ?_
          refine gb_eq (tgt := 47) hx hb dX0_takes_32 (by decide) (by omega) (by omega) (fun c_32 => ?_) (fun c_32 => ?_)
          · refine lv_iconst (v := nI 1) hx hb dX0_takes_47 (by decide) ?_
            refine lv_goto (tgt := 52) hx hb dX0_takes_48 (by decide) ?_
            exact ret _ _ (nI 1) () _ _ dX0_takes_52 rfl (by unfold tkN; grind) hP hD hS
          · refine lv_iload_n hx hb dX0_takes_35 rfl (lv_at hl 1 rfl) ?_
            refine lv_bipush (v := nI 11) hx hb dX0_takes_36 (by decide) ?_
            refine gb_eq (tgt := 47) hx hb dX0_takes_38 (by decide) (by omega) (by omega) (fun c_38 => ?_) (fun c_38 => ?_)
            · refine lv_iconst (v := nI 1) hx hb dX0_takes_47 (by decide) ?_
              refine lv_goto (tgt := 52) hx hb dX0_takes_48 (by decide) ?_
              exact ret _ _ (nI 1) () _ _ dX0_takes_52 rfl (by unfold tkN; grind) hP hD hS
            · refine lv_iload_n hx hb dX0_takes_41 rfl (lv_at hl 1 rfl) ?_
              refine lv_bipush (v := nI 12) hx hb dX0_takes_42 (by decide) ?_
              refine gb_ne (tgt := 51) hx hb dX0_takes_44 (by decide) (by omega) (by omega) (fun c_44 => ?_) (fun c_44 => ?_)
              · refine lv_iconst (v := nI 0) hx hb dX0_takes_51 (by decide) ?_
                exact ret _ _ (nI 0) () _ _ dX0_takes_52 rfl (by unfold tkN; grind) hP hD hS
              · refine lv_iconst (v := nI 1) hx hb dX0_takes_47 (by decide) ?_
                refine lv_goto (tgt := 52) hx hb dX0_takes_48 (by decide) ?_
                exact ret _ _ (nI 1) () _ _ dX0_takes_52 rfl (by unfold tkN; grind) hP hD hS
    · refine lv_iconst (v := nI 2) hx hb dX0_takes_16 (by decide) ?_
      exact ret _ _ (nI 2) () _ _ dX0_takes_17 rfl (by unfold tkN; grind) hP hD hS
  · refine lv_iload_n hx hb dX0_takes_5 rfl (lv_at hl 1 rfl) ?_
    refine lv_iconst (v := nI 4) hx hb dX0_takes_6 (by decide) ?_
    refine gb_le (tgt := 16) hx hb dX0_takes_7 (by decide) (by omega) (by omega) (fun c_7 => ?_) (fun c_7 => ?_)
    · refine lv_iconst (v := nI 2) hx hb dX0_takes_16 (by decide) ?_
      exact ret _ _ (nI 2) () _ _ dX0_takes_17 rfl (by unfold tkN; grind) hP hD hS
    · refine lv_iload_n hx hb dX0_takes_10 rfl (lv_at hl 1 rfl) ?_
      refine lv_bipush (v := nI 6) hx hb dX0_takes_11 (by decide) ?_
      refine gb_ne (tgt := 18) hx hb dX0_takes_13 (by decide) (by omega) (by omega) (fun c_13 => ?_) (fun c_13 => ?_)
      · refine lv_iload_n hx hb dX0_takes_18 rfl (lv_at hl 1 rfl) ?_
        refine lv_iconst (v := nI 5) hx hb dX0_takes_19 (by decide) ?_
        refine gb_eq (tgt := 47) hx hb dX0_takes_20 (by decide) (by omega) (by omega) (fun c_20 => ?_) (fun c_20 => ?_)
        · refine lv_iconst (v := nI 1) hx hb dX0_takes_47 (by decide) ?_
          refine lv_goto (tgt := 52) hx hb dX0_takes_48 (by decide) ?_
          exact ret _ _ (nI 1) () _ _ dX0_takes_52 rfl (by unfold tkN; grind) hP hD hS
        · refine lv_iload_n hx hb dX0_takes_23 rfl (lv_at hl 1 rfl) ?_
          refine lv_bipush (v := nI 7) hx hb dX0_takes_24 (by decide) ?_
          refine gb_eq (tgt := 47) hx hb dX0_takes_26 (by decide) (by omega) (by omega) (fun c_26 => ?_) (fun c_26 => ?_)
          · refine lv_iconst (v := nI 1) hx hb dX0_takes_47 (by decide) ?_
            refine lv_goto (tgt := 52) hx hb dX0_takes_48 (by decide) ?_
            exact ret _ _ (nI 1) () _ _ dX0_takes_52 rfl (by unfold tkN; grind) hP hD hS
          · refine lv_iload_n hx hb dX0_takes_29 rfl (lv_at hl 1 rfl) ?_
            refine lv_bipush (v := nI 9) hx hb dX0_takes_30 (by decide) ?_
            refine gb_eq (tgt := 47) hx hb dX0_takes_32 (by decide) (by omega) (by omega) (fun c_32 => ?_) (fun c_32 => ?_)
            · refine lv_iconst (v := nI 1) hx hb dX0_takes_47 (by decide) ?_
              refine lv_goto (tgt := 52) hx hb dX0_takes_48 (by decide) ?_
              exact ret _ _ (nI 1) () _ _ dX0_takes_52 rfl (by unfold tkN; grind) hP hD hS
            · refine lv_iload_n hx hb dX0_takes_35 rfl (lv_at hl 1 rfl) ?_
              refine lv_bipush (v := nI 11) hx hb dX0_takes_36 (by decide) ?_
              refine gb_eq (tgt := 47) hx hb dX0_takes_38 (by decide) (by omega) (by omega) (fun c_38 => ?_) (fun c_38 => ?_)
              · refine lv_iconst (v := nI 1) hx hb dX0_takes_47 (by decide) ?_
                refine lv_goto (tgt := 52) hx hb dX0_takes_48 (by decide) ?_
                exact ret _ _ (nI 1) () _ _ dX0_takes_52 rfl (by unfold tkN; grind) hP hD hS
              · refine lv_iload_n hx hb dX0_takes_41 rfl (lv_at hl 1 rfl) ?_
                refine lv_bipush (v := nI 12) hx hb dX0_takes_42 (by decide) ?_
                refine gb_ne (tgt := 51) hx hb dX0_takes_44 (by decide) (by omega) (by omega) (fun c_44 => ?_) (fun c_44 => ?_)
                · refine lv_iconst (v := nI 0) hx hb dX0_takes_51 (by decide) ?_
                  exact ret _ _ (nI 0) () _ _ dX0_takes_52 rfl (by unfold tkN; grind) hP hD hS
                · refine lv_iconst (v := nI 1) hx hb dX0_takes_47 (by decide) ?_
                  refine lv_goto (tgt := 52) hx hb dX0_takes_48 (by decide) ?_
                  exact ret _ _ (nI 1) () _ _ dX0_takes_52 rfl (by unfold tkN; grind) hP hD hS
      · refine lv_iconst (v := nI 2) hx hb dX0_takes_16 (by decide) ?_
        exact ret _ _ (nI 2) () _ _ dX0_takes_17 rfl (by unfold tkN; grind) hP hD hS
set_option maxHeartbeats 4000000 in
set_option maxRecDepth 100000 in
theorem metX_puts (l : Launch) (D : va_G) (d : ClassId) (h : Nat) (r : Nat → Nat) (sz : Nat) (op : vF) (nu : vF) (va : vF) (ga : Nat) (pl : Nat) (le : vF) (pr : vF) (ne : vF) (ri : vF) (nx : Nat) (en : Nat) (dn : Nat) (tk : Nat) (hg : Nat) (pi : vF) (ke : vF) (kp : vF) (k : Nat) (hk : k ≤ 14) : MetI l yX0_puts cX0_puts 2 .int D d [.ref h, .int (nI k)] (wX h r d sz op nu va ga pl le pr ne ri nx en dn tk hg pi ke kp) (rmG 0) (fun (a : Int32) (_ : Unit) => a = nI (ptN k)) (fun _ : Unit => wX h r d sz op nu va ga pl le pr ne ri nx en dn tk hg pi ke kp) := by
  refine gm_startI (own := RX0) (by decide +kernel) rfl (Nat.le_of_ble_eq_true rfl) ?_
  intro p e s m below meth c A H locs Q ls K hl hP hD hS ret
  have hx := K.1
  have hb := K.2.1
  have hl : lv_has ls 2 [(0, .ref h), (1, .int (nI k))] := hl
  refine lv_iload_n hx hb dX0_puts_0 rfl (lv_at hl 1 rfl) ?_
  refine lv_iconst (v := nI 5) hx hb dX0_puts_1 (by decide) ?_
  refine gb_eq (tgt := 11) hx hb dX0_puts_2 (by decide) (by omega) (by omega) (fun c_2 => ?_) (fun c_2 => ?_)
  · refine lv_iconst (v := nI 2) hx hb dX0_puts_11 (by decide) ?_
    exact ret _ _ (nI 2) () _ _ dX0_puts_12 rfl (by unfold ptN; grind) hP hD hS
  · refine lv_iload_n hx hb dX0_puts_5 rfl (lv_at hl 1 rfl) ?_
    refine lv_bipush (v := nI 6) hx hb dX0_puts_6 (by decide) ?_
    refine gb_ne (tgt := 13) hx hb dX0_puts_8 (by decide) (by omega) (by omega) (fun c_8 => ?_) (fun c_8 => ?_)
    · refine lv_iload_n hx hb dX0_puts_13 rfl (lv_at hl 1 rfl) ?_
      refine lv_iconst (v := nI 4) hx hb dX0_puts_14 (by decide) ?_
      refine gb_le (tgt := 30) hx hb dX0_puts_15 (by decide) (by omega) (by omega) (fun c_15 => ?_) (fun c_15 => ?_)
      · refine lv_iconst (v := nI 1) hx hb dX0_puts_30 (by decide) ?_
        refine lv_goto (tgt := 35) hx hb dX0_puts_31 (by decide) ?_
        exact ret _ _ (nI 1) () _ _ dX0_puts_35 rfl (by unfold ptN; grind) hP hD hS
      · refine lv_iload_n hx hb dX0_puts_18 rfl (lv_at hl 1 rfl) ?_
        refine lv_bipush (v := nI 8) hx hb dX0_puts_19 (by decide) ?_
        refine gb_eq (tgt := 30) hx hb dX0_puts_21 (by decide) (by omega) (by omega) (fun c_21 => ?_) (fun c_21 => ?_)
        · refine lv_iconst (v := nI 1) hx hb dX0_puts_30 (by decide) ?_
          refine lv_goto (tgt := 35) hx hb dX0_puts_31 (by decide) ?_
          exact ret _ _ (nI 1) () _ _ dX0_puts_35 rfl (by unfold ptN; grind) hP hD hS
        · refine lv_iload_n hx hb dX0_puts_24 rfl (lv_at hl 1 rfl) ?_
          refine lv_bipush (v := nI 13) hx hb dX0_puts_25 (by decide) ?_
          refine gb_ne (tgt := 34) hx hb dX0_puts_27 (by decide) (by omega) (by omega) (fun c_27 => ?_) (fun c_27 => ?_)
          · refine lv_iconst (v := nI 0) hx hb dX0_puts_34 (by decide) ?_
            exact ret _ _ (nI 0) () _ _ dX0_puts_35 rfl (by unfold ptN; grind) hP hD hS
          · refine lv_iconst (v := nI 1) hx hb dX0_puts_30 (by decide) ?_
            refine lv_goto (tgt := 35) hx hb dX0_puts_31 (by decide) ?_
            exact ret _ _ (nI 1) () _ _ dX0_puts_35 rfl (by unfold ptN; grind) hP hD hS
    · refine lv_iconst (v := nI 2) hx hb dX0_puts_11 (by decide) ?_
      exact ret _ _ (nI 2) () _ _ dX0_puts_12 rfl (by unfold ptN; grind) hP hD hS
set_option maxHeartbeats 4000000 in
set_option maxRecDepth 100000 in
theorem metX_breaks (l : Launch) (D : va_G) (d : ClassId) (h : Nat) (r : Nat → Nat) (sz : Nat) (op : vF) (nu : vF) (va : vF) (ga : Nat) (pl : Nat) (le : vF) (pr : vF) (ne : vF) (ri : vF) (nx : Nat) (en : Nat) (dn : Nat) (tk : Nat) (hg : Nat) (pi : vF) (ke : vF) (kp : vF) (k : Nat) (hk : k ≤ 14) : MetI l yX0_breaks cX0_breaks 2 .boolean D d [.ref h, .int (nI k)] (wX h r d sz op nu va ga pl le pr ne ri nx en dn tk hg pi ke kp) (rmG 0) (fun (a : Int32) (_ : Unit) => a = nI (brN k)) (fun _ : Unit => wX h r d sz op nu va ga pl le pr ne ri nx en dn tk hg pi ke kp) := by
  refine gm_startI (own := RX0) (by decide +kernel) rfl (Nat.le_of_ble_eq_true rfl) ?_
  intro p e s m below meth c A H locs Q ls K hl hP hD hS ret
  have hx := K.1
  have hb := K.2.1
  have hl : lv_has ls 2 [(0, .ref h), (1, .int (nI k))] := hl
  refine lv_iload_n hx hb dX0_breaks_0 rfl (lv_at hl 1 rfl) ?_
  refine lv_bipush (v := nI 10) hx hb dX0_breaks_1 (by decide) ?_
  refine gb_lt (tgt := 10) hx hb dX0_breaks_3 (by decide) (by omega) (by omega) (fun c_3 => ?_) (fun c_3 => ?_)
  · refine lv_iconst (v := nI 0) hx hb dX0_breaks_10 (by decide) ?_
    exact ret _ _ (nI 0) () _ _ dX0_breaks_11 rfl (by unfold brN; grind) hP hD hS
  · refine lv_iconst (v := nI 1) hx hb dX0_breaks_6 (by decide) ?_
    refine lv_goto (tgt := 11) hx hb dX0_breaks_7 (by decide) ?_
    exact ret _ _ (nI 1) () _ _ dX0_breaks_11 rfl (by unfold brN; grind) hP hD hS
set_option maxHeartbeats 4000000 in
set_option maxRecDepth 100000 in
theorem metX_combined (l : Launch) (D : va_G) (d : ClassId) (h : Nat) (r : Nat → Nat) (sz : Nat) (op : vF) (nu : vF) (va : vF) (ga : Nat) (pl : Nat) (le : vF) (pr : vF) (ne : vF) (ri : vF) (nx : Nat) (en : Nat) (dn : Nat) (tk : Nat) (hg : Nat) (pi : vF) (ke : vF) (kp : vF) (k : Nat) (x : Int32) (y : Int32) (hk : k ≤ 14) : MetI l yX0_combined cX0_combined 4 .int D d [.ref h, .int (nI k), .int x, .int y] (wX h r d sz op nu va ga pl le pr ne ri nx en dn tk hg pi ke kp) (rmG 0) (fun (a : Int32) (_ : Unit) => a = cbI k x y) (fun _ : Unit => wX h r d sz op nu va ga pl le pr ne ri nx en dn tk hg pi ke kp) := by
  refine gm_startI (own := RX0) (by decide +kernel) rfl (Nat.le_of_ble_eq_true rfl) ?_
  intro p e s m below meth c A H locs Q ls K hl hP hD hS ret
  have hx := K.1
  have hb := K.2.1
  have hl : lv_has ls 4 [(0, .ref h), (1, .int (nI k)), (2, .int x), (3, .int y)] := hl
  refine lv_iload_n hx hb dX0_combined_0 rfl (lv_at hl 1 rfl) ?_
  refine lv_iconst (v := nI 1) hx hb dX0_combined_1 (by decide) ?_
  refine gb_ne (tgt := 9) hx hb dX0_combined_2 (by decide) (by omega) (by omega) (fun c_2 => ?_) (fun c_2 => ?_)
  · refine lv_iload_n hx hb dX0_combined_9 rfl (lv_at hl 1 rfl) ?_
    refine lv_iconst (v := nI 2) hx hb dX0_combined_10 (by decide) ?_
    refine gb_ne (tgt := 18) hx hb dX0_combined_11 (by decide) (by omega) (by omega) (fun c_11 => ?_) (fun c_11 => ?_)
    · refine lv_iload_n hx hb dX0_combined_18 rfl (lv_at hl 1 rfl) ?_
      refine lv_iconst (v := nI 3) hx hb dX0_combined_19 (by decide) ?_
      refine gb_ne (tgt := 27) hx hb dX0_combined_20 (by decide) (by omega) (by omega) (fun c_20 => ?_) (fun c_20 => ?_)
      · refine lv_iload_n hx hb dX0_combined_27 rfl (lv_at hl 2 rfl) ?_
        refine lv_iload_n hx hb dX0_combined_28 rfl (lv_at hl 3 rfl) ?_
        refine lv_icmp_ge (tgt := 36) hx hb dX0_combined_29 (by decide) (fun c_29 => ?_) (fun c_29 => ?_)
        · refine lv_iconst (v := nI 0) hx hb dX0_combined_36 (by decide) ?_
          exact ret _ _ (nI 0) () _ _ dX0_combined_37 rfl (by grind [cbI, Int32.not_lt, Int32.not_le]) hP hD hS
        · refine lv_iconst (v := nI 1) hx hb dX0_combined_32 (by decide) ?_
          refine lv_goto (tgt := 37) hx hb dX0_combined_33 (by decide) ?_
          exact ret _ _ (nI 1) () _ _ dX0_combined_37 rfl (by grind [cbI, Int32.not_lt, Int32.not_le]) hP hD hS
      · refine lv_iload_n hx hb dX0_combined_23 rfl (lv_at hl 2 rfl) ?_
        refine lv_iload_n hx hb dX0_combined_24 rfl (lv_at hl 3 rfl) ?_
        refine lv_imul hx hb dX0_combined_25 ?_
        exact ret _ _ (x * y) () _ _ dX0_combined_26 rfl (by grind [cbI, Int32.not_lt, Int32.not_le]) hP hD hS
    · refine lv_iload_n hx hb dX0_combined_14 rfl (lv_at hl 2 rfl) ?_
      refine lv_iload_n hx hb dX0_combined_15 rfl (lv_at hl 3 rfl) ?_
      refine lv_isub hx hb dX0_combined_16 ?_
      exact ret _ _ (x - y) () _ _ dX0_combined_17 rfl (by grind [cbI, Int32.not_lt, Int32.not_le]) hP hD hS
  · refine lv_iload_n hx hb dX0_combined_5 rfl (lv_at hl 2 rfl) ?_
    refine lv_iload_n hx hb dX0_combined_6 rfl (lv_at hl 3 rfl) ?_
    refine lv_iadd hx hb dX0_combined_7 ?_
    exact ret _ _ (x + y) () _ _ dX0_combined_8 rfl (by grind [cbI, Int32.not_lt, Int32.not_le]) hP hD hS
set_option maxHeartbeats 4000000 in
set_option maxRecDepth 100000 in
theorem metX_put (l : Launch) (D : va_G) (d : ClassId) (h : Nat) (r : Nat → Nat) (sz : Nat) (op : vF) (nu : vF) (va : vF) (ga : Nat) (pl : Nat) (le : vF) (pr : vF) (ne : vF) (ri : vF) (nx : Nat) (en : Nat) (dn : Nat) (tk : Nat) (hg : Nat) (pi : vF) (ke : vF) (kp : vF) (v : Int32) (hv : hg < 8) : MetV l yX0_put cX0_put 2 D d [.ref h, .int v] (wX h r d sz op nu va ga pl le pr ne ri nx en dn tk hg pi ke kp) (rmG 0) (fun (u : Nat × vF) => u.1 = hg + 1 ∧ u.2 = upd pi hg v) (fun u : Nat × vF => wX h r d sz op nu va ga pl le pr ne ri nx en dn tk u.1 u.2 ke kp) := by
  refine gm_startV (own := RX0) (by decide +kernel) rfl (Nat.le_of_ble_eq_true rfl) ?_
  intro p e s m below meth c A H locs Q ls K hl hP hD hS ret
  have hx := K.1
  have hb := K.2.1
  have hl : lv_has ls 2 [(0, .ref h), (1, .int v)] := hl
  refine lv_aload_n hx hb dX0_put_0 rfl (lv_at hl 0 rfl) ?_
  refine xg_pi K hP dX0_put_1 ?_
  refine lv_aload_n hx hb dX0_put_4 rfl (lv_at hl 0 rfl) ?_
  refine xg_hg K hP dX0_put_5 ?_
  refine lv_iload_n hx hb dX0_put_8 rfl (lv_at hl 1 rfl) ?_
  refine xs_pi K hP hD hS (by omega) dX0_put_9 (fun H locs hP hD hS => ?_)
  refine lv_aload_n hx hb dX0_put_10 rfl (lv_at hl 0 rfl) ?_
  refine lv_dup hx hb dX0_put_11 rfl ?_
  refine xg_hg K hP dX0_put_12 ?_
  refine lv_iconst (v := nI 1) hx hb dX0_put_15 (by decide) ?_
  refine gi_add hx hb dX0_put_16 ?_
  refine xp_hg K hP hD hS dX0_put_17 (fun H locs hP hD hS => ?_)
  exact ret _ _ (hg + 1, upd pi hg v) _ _ dX0_put_20 ⟨rfl, rfl⟩ hP hD hS
end
section
set_option maxRecDepth 100000
set_option maxHeartbeats 4000000 in
set_option maxRecDepth 100000 in
theorem metX_size (l : Launch) (D : va_G) (d : ClassId) (h : Nat) (r : Nat → Nat) (sz : Nat) (op : vF) (nu : vF) (va : vF) (ga : Nat) (pl : Nat) (le : vF) (pr : vF) (ne : vF) (ri : vF) (nx : Nat) (en : Nat) (dn : Nat) (tk : Nat) (hg : Nat) (pi : vF) (ke : vF) (kp : vF) : MetI l yX0_size cX0_size 1 .int D d [.ref h] (wX h r d sz op nu va ga pl le pr ne ri nx en dn tk hg pi ke kp) (rmG 0) (fun (a : Int32) (_ : Unit) => a = nI sz) (fun _ : Unit => wX h r d sz op nu va ga pl le pr ne ri nx en dn tk hg pi ke kp) := by
  refine gm_startI (own := RX0) (by decide +kernel) rfl (Nat.le_of_ble_eq_true rfl) ?_
  intro p e s m below meth c A H locs Q ls K hl hP hD hS ret
  have hx := K.1
  have hb := K.2.1
  have hl : lv_has ls 1 [(0, .ref h)] := hl
  refine lv_aload_n hx hb dX0_size_0 rfl (lv_at hl 0 rfl) ?_
  refine xg_sz K hP dX0_size_1 ?_
  exact ret _ _ (nI sz) () _ _ dX0_size_4 rfl rfl hP hD hS
set_option maxHeartbeats 4000000 in
set_option maxRecDepth 100000 in
theorem metX_gas (l : Launch) (D : va_G) (d : ClassId) (h : Nat) (r : Nat → Nat) (sz : Nat) (op : vF) (nu : vF) (va : vF) (ga : Nat) (pl : Nat) (le : vF) (pr : vF) (ne : vF) (ri : vF) (nx : Nat) (en : Nat) (dn : Nat) (tk : Nat) (hg : Nat) (pi : vF) (ke : vF) (kp : vF) : MetI l yX0_gas cX0_gas 1 .int D d [.ref h] (wX h r d sz op nu va ga pl le pr ne ri nx en dn tk hg pi ke kp) (rmG 0) (fun (a : Int32) (_ : Unit) => a = nI ga) (fun _ : Unit => wX h r d sz op nu va ga pl le pr ne ri nx en dn tk hg pi ke kp) := by
  refine gm_startI (own := RX0) (by decide +kernel) rfl (Nat.le_of_ble_eq_true rfl) ?_
  intro p e s m below meth c A H locs Q ls K hl hP hD hS ret
  have hx := K.1
  have hb := K.2.1
  have hl : lv_has ls 1 [(0, .ref h)] := hl
  refine lv_aload_n hx hb dX0_gas_0 rfl (lv_at hl 0 rfl) ?_
  refine xg_ga K hP dX0_gas_1 ?_
  exact ret _ _ (nI ga) () _ _ dX0_gas_4 rfl rfl hP hD hS
set_option maxHeartbeats 4000000 in
set_option maxRecDepth 100000 in
theorem metX_ending (l : Launch) (D : va_G) (d : ClassId) (h : Nat) (r : Nat → Nat) (sz : Nat) (op : vF) (nu : vF) (va : vF) (ga : Nat) (pl : Nat) (le : vF) (pr : vF) (ne : vF) (ri : vF) (nx : Nat) (en : Nat) (dn : Nat) (tk : Nat) (hg : Nat) (pi : vF) (ke : vF) (kp : vF) : MetI l yX0_ending cX0_ending 1 .int D d [.ref h] (wX h r d sz op nu va ga pl le pr ne ri nx en dn tk hg pi ke kp) (rmG 0) (fun (a : Int32) (_ : Unit) => a = nI en) (fun _ : Unit => wX h r d sz op nu va ga pl le pr ne ri nx en dn tk hg pi ke kp) := by
  refine gm_startI (own := RX0) (by decide +kernel) rfl (Nat.le_of_ble_eq_true rfl) ?_
  intro p e s m below meth c A H locs Q ls K hl hP hD hS ret
  have hx := K.1
  have hb := K.2.1
  have hl : lv_has ls 1 [(0, .ref h)] := hl
  refine lv_aload_n hx hb dX0_ending_0 rfl (lv_at hl 0 rfl) ?_
  refine xg_en K hP dX0_ending_1 ?_
  exact ret _ _ (nI en) () _ _ dX0_ending_4 rfl rfl hP hD hS
set_option maxHeartbeats 4000000 in
set_option maxRecDepth 100000 in
theorem metX_place (l : Launch) (D : va_G) (d : ClassId) (h : Nat) (r : Nat → Nat) (sz : Nat) (op : vF) (nu : vF) (va : vF) (ga : Nat) (pl : Nat) (le : vF) (pr : vF) (ne : vF) (ri : vF) (nx : Nat) (en : Nat) (dn : Nat) (tk : Nat) (hg : Nat) (pi : vF) (ke : vF) (kp : vF) : MetI l yX0_place cX0_place 1 .int D d [.ref h] (wX h r d sz op nu va ga pl le pr ne ri nx en dn tk hg pi ke kp) (rmG 0) (fun (a : Int32) (_ : Unit) => a = nI nx) (fun _ : Unit => wX h r d sz op nu va ga pl le pr ne ri nx en dn tk hg pi ke kp) := by
  refine gm_startI (own := RX0) (by decide +kernel) rfl (Nat.le_of_ble_eq_true rfl) ?_
  intro p e s m below meth c A H locs Q ls K hl hP hD hS ret
  have hx := K.1
  have hb := K.2.1
  have hl : lv_has ls 1 [(0, .ref h)] := hl
  refine lv_aload_n hx hb dX0_place_0 rfl (lv_at hl 0 rfl) ?_
  refine xg_nx K hP dX0_place_1 ?_
  exact ret _ _ (nI nx) () _ _ dX0_place_4 rfl rfl hP hD hS
set_option maxHeartbeats 4000000 in
set_option maxRecDepth 100000 in
theorem metX_steps (l : Launch) (D : va_G) (d : ClassId) (h : Nat) (r : Nat → Nat) (sz : Nat) (op : vF) (nu : vF) (va : vF) (ga : Nat) (pl : Nat) (le : vF) (pr : vF) (ne : vF) (ri : vF) (nx : Nat) (en : Nat) (dn : Nat) (tk : Nat) (hg : Nat) (pi : vF) (ke : vF) (kp : vF) : MetI l yX0_steps cX0_steps 1 .int D d [.ref h] (wX h r d sz op nu va ga pl le pr ne ri nx en dn tk hg pi ke kp) (rmG 0) (fun (a : Int32) (_ : Unit) => a = nI dn) (fun _ : Unit => wX h r d sz op nu va ga pl le pr ne ri nx en dn tk hg pi ke kp) := by
  refine gm_startI (own := RX0) (by decide +kernel) rfl (Nat.le_of_ble_eq_true rfl) ?_
  intro p e s m below meth c A H locs Q ls K hl hP hD hS ret
  have hx := K.1
  have hb := K.2.1
  have hl : lv_has ls 1 [(0, .ref h)] := hl
  refine lv_aload_n hx hb dX0_steps_0 rfl (lv_at hl 0 rfl) ?_
  refine xg_dn K hP dX0_steps_1 ?_
  exact ret _ _ (nI dn) () _ _ dX0_steps_4 rfl rfl hP hD hS
set_option maxHeartbeats 4000000 in
set_option maxRecDepth 100000 in
theorem metX_spent (l : Launch) (D : va_G) (d : ClassId) (h : Nat) (r : Nat → Nat) (sz : Nat) (op : vF) (nu : vF) (va : vF) (ga : Nat) (pl : Nat) (le : vF) (pr : vF) (ne : vF) (ri : vF) (nx : Nat) (en : Nat) (dn : Nat) (tk : Nat) (hg : Nat) (pi : vF) (ke : vF) (kp : vF) : MetI l yX0_spent cX0_spent 1 .int D d [.ref h] (wX h r d sz op nu va ga pl le pr ne ri nx en dn tk hg pi ke kp) (rmG 0) (fun (a : Int32) (_ : Unit) => a = nI tk) (fun _ : Unit => wX h r d sz op nu va ga pl le pr ne ri nx en dn tk hg pi ke kp) := by
  refine gm_startI (own := RX0) (by decide +kernel) rfl (Nat.le_of_ble_eq_true rfl) ?_
  intro p e s m below meth c A H locs Q ls K hl hP hD hS ret
  have hx := K.1
  have hb := K.2.1
  have hl : lv_has ls 1 [(0, .ref h)] := hl
  refine lv_aload_n hx hb dX0_spent_0 rfl (lv_at hl 0 rfl) ?_
  refine xg_tk K hP dX0_spent_1 ?_
  exact ret _ _ (nI tk) () _ _ dX0_spent_4 rfl rfl hP hD hS
set_option maxHeartbeats 4000000 in
set_option maxRecDepth 100000 in
theorem metX_height (l : Launch) (D : va_G) (d : ClassId) (h : Nat) (r : Nat → Nat) (sz : Nat) (op : vF) (nu : vF) (va : vF) (ga : Nat) (pl : Nat) (le : vF) (pr : vF) (ne : vF) (ri : vF) (nx : Nat) (en : Nat) (dn : Nat) (tk : Nat) (hg : Nat) (pi : vF) (ke : vF) (kp : vF) : MetI l yX0_height cX0_height 1 .int D d [.ref h] (wX h r d sz op nu va ga pl le pr ne ri nx en dn tk hg pi ke kp) (rmG 0) (fun (a : Int32) (_ : Unit) => a = nI hg) (fun _ : Unit => wX h r d sz op nu va ga pl le pr ne ri nx en dn tk hg pi ke kp) := by
  refine gm_startI (own := RX0) (by decide +kernel) rfl (Nat.le_of_ble_eq_true rfl) ?_
  intro p e s m below meth c A H locs Q ls K hl hP hD hS ret
  have hx := K.1
  have hb := K.2.1
  have hl : lv_has ls 1 [(0, .ref h)] := hl
  refine lv_aload_n hx hb dX0_height_0 rfl (lv_at hl 0 rfl) ?_
  refine xg_hg K hP dX0_height_1 ?_
  exact ret _ _ (nI hg) () _ _ dX0_height_4 rfl rfl hP hD hS
set_option maxHeartbeats 4000000 in
set_option maxRecDepth 100000 in
theorem metX_clear (l : Launch) (D : va_G) (d : ClassId) (h : Nat) (r : Nat → Nat) (sz : Nat) (op : vF) (nu : vF) (va : vF) (ga : Nat) (pl : Nat) (le : vF) (pr : vF) (ne : vF) (ri : vF) (nx : Nat) (en : Nat) (dn : Nat) (tk : Nat) (hg : Nat) (pi : vF) (ke : vF) (kp : vF) : MetV l yX0_clear cX0_clear 1 D d [.ref h] (wX h r d sz op nu va ga pl le pr ne ri nx en dn tk hg pi ke kp) (rmG 0) (fun (u : Nat × Nat) => u.1 = 0 ∧ u.2 = 0) (fun u : Nat × Nat => wX h r d u.1 op nu va ga u.2 le pr ne ri nx en dn tk hg pi ke kp) := by
  refine gm_startV (own := RX0) (by decide +kernel) rfl (Nat.le_of_ble_eq_true rfl) ?_
  intro p e s m below meth c A H locs Q ls K hl hP hD hS ret
  have hx := K.1
  have hb := K.2.1
  have hl : lv_has ls 1 [(0, .ref h)] := hl
  refine lv_aload_n hx hb dX0_clear_0 rfl (lv_at hl 0 rfl) ?_
  refine lv_iconst (v := nI 0) hx hb dX0_clear_1 (by decide) ?_
  refine xp_sz K hP hD hS dX0_clear_2 (fun H locs hP hD hS => ?_)
  refine lv_aload_n hx hb dX0_clear_5 rfl (lv_at hl 0 rfl) ?_
  refine lv_iconst (v := nI 0) hx hb dX0_clear_6 (by decide) ?_
  refine xp_pl (by decide) K hP hD hS dX0_clear_7 (fun H locs hP hD hS => ?_)
  exact ret _ _ (0, 0) _ _ dX0_clear_10 ⟨rfl, rfl⟩ hP hD hS
set_option maxHeartbeats 4000000 in
set_option maxRecDepth 100000 in
theorem metX_setA (l : Launch) (D : va_G) (d : ClassId) (h : Nat) (r : Nat → Nat) (sz : Nat) (op : vF) (nu : vF) (va : vF) (ga : Nat) (pl : Nat) (le : vF) (pr : vF) (ne : vF) (ri : vF) (nx : Nat) (en : Nat) (dn : Nat) (tk : Nat) (hg : Nat) (pi : vF) (ke : vF) (kp : vF) (v : Int32) (x : Int32) (hv : v < 0 ∨ nI 4 ≤ v) : MetI l yX0_set cX0_set 3 .int D d [.ref h, .int v, .int x] (wX h r d sz op nu va ga pl le pr ne ri nx en dn tk hg pi ke kp) (rmG 0) (fun (a : Int32) (_ : Unit) => a = -1) (fun _ : Unit => wX h r d sz op nu va ga pl le pr ne ri nx en dn tk hg pi ke kp) := by
  refine gm_startI (own := RX0) (by decide +kernel) rfl (Nat.le_of_ble_eq_true rfl) ?_
  intro p e s m below meth c A H locs Q ls K hl hP hD hS ret
  have hx := K.1
  have hb := K.2.1
  have hl : lv_has ls 3 [(0, .ref h), (1, .int v), (2, .int x)] := hl
  refine lv_iload_n hx hb dX0_set_0 rfl (lv_at hl 1 rfl) ?_
  refine lv_if_lt (tgt := 9) hx hb dX0_set_1 (by decide) (fun c_1 => ?_) (fun c_1 => ?_)
  · refine lv_iconst (v := (-1)) hx hb dX0_set_9 (by decide) ?_
    exact ret _ _ (-1) () _ _ dX0_set_10 rfl rfl hP hD hS
  · refine lv_iload_n hx hb dX0_set_4 rfl (lv_at hl 1 rfl) ?_
    refine lv_iconst (v := nI 3) hx hb dX0_set_5 (by decide) ?_
    refine lv_icmp_le (tgt := 11) hx hb dX0_set_6 (by decide) (fun c_6 => ?_) (fun c_6 => ?_)
    · exact absurd (c_6) (fun z => hv.elim c_1 (fun q => nI_between z q (by decide) (by decide)))
    · refine lv_iconst (v := (-1)) hx hb dX0_set_9 (by decide) ?_
      exact ret _ _ (-1) () _ _ dX0_set_10 rfl rfl hP hD hS
set_option maxHeartbeats 4000000 in
set_option maxRecDepth 100000 in
theorem metX_setB (l : Launch) (D : va_G) (d : ClassId) (h : Nat) (r : Nat → Nat) (sz : Nat) (op : vF) (nu : vF) (va : vF) (ga : Nat) (pl : Nat) (le : vF) (pr : vF) (ne : vF) (ri : vF) (nx : Nat) (en : Nat) (dn : Nat) (tk : Nat) (hg : Nat) (pi : vF) (ke : vF) (kp : vF) (j : Nat) (x : Int32) (hj : j < 4) : MetI l yX0_set cX0_set 3 .int D d [.ref h, .int (nI j), .int x] (wX h r d sz op nu va ga pl le pr ne ri nx en dn tk hg pi ke kp) (rmG 0) (fun (a : Int32) (u : vF) => a = nI 0 ∧ u = upd va j x) (fun u : vF => wX h r d sz op nu u ga pl le pr ne ri nx en dn tk hg pi ke kp) := by
  refine gm_startI (own := RX0) (by decide +kernel) rfl (Nat.le_of_ble_eq_true rfl) ?_
  intro p e s m below meth c A H locs Q ls K hl hP hD hS ret
  have hx := K.1
  have hb := K.2.1
  have hl : lv_has ls 3 [(0, .ref h), (1, .int (nI j)), (2, .int x)] := hl
  refine lv_iload_n hx hb dX0_set_0 rfl (lv_at hl 1 rfl) ?_
  refine gz_ltN (tgt := 9) hx hb dX0_set_1 (by decide) (by omega) ?_
  refine lv_iload_n hx hb dX0_set_4 rfl (lv_at hl 1 rfl) ?_
  refine lv_iconst (v := nI 3) hx hb dX0_set_5 (by decide) ?_
  refine gb_le (tgt := 11) hx hb dX0_set_6 (by decide) (by omega) (by omega) (fun c_6 => ?_) (fun c_6 => ?_)
  · refine lv_aload_n hx hb dX0_set_11 rfl (lv_at hl 0 rfl) ?_
    refine xg_va K hP dX0_set_12 ?_
    refine lv_iload_n hx hb dX0_set_15 rfl (lv_at hl 1 rfl) ?_
    refine lv_iload_n hx hb dX0_set_16 rfl (lv_at hl 2 rfl) ?_
    refine xs_va K hP hD hS (by omega) dX0_set_17 (fun H locs hP hD hS => ?_)
    refine lv_iconst (v := nI 0) hx hb dX0_set_18 (by decide) ?_
    exact ret _ _ (nI 0) (upd va j x) _ _ dX0_set_19 rfl ⟨rfl, rfl⟩ hP hD hS
  · exfalso; omega
set_option maxHeartbeats 4000000 in
set_option maxRecDepth 100000 in
theorem metX_getA (l : Launch) (D : va_G) (d : ClassId) (h : Nat) (r : Nat → Nat) (sz : Nat) (op : vF) (nu : vF) (va : vF) (ga : Nat) (pl : Nat) (le : vF) (pr : vF) (ne : vF) (ri : vF) (nx : Nat) (en : Nat) (dn : Nat) (tk : Nat) (hg : Nat) (pi : vF) (ke : vF) (kp : vF) (v : Int32) (hv : v < 0 ∨ nI 4 ≤ v) : MetI l yX0_get cX0_get 2 .int D d [.ref h, .int v] (wX h r d sz op nu va ga pl le pr ne ri nx en dn tk hg pi ke kp) (rmG 0) (fun (a : Int32) (_ : Unit) => a = nI 0) (fun _ : Unit => wX h r d sz op nu va ga pl le pr ne ri nx en dn tk hg pi ke kp) := by
  refine gm_startI (own := RX0) (by decide +kernel) rfl (Nat.le_of_ble_eq_true rfl) ?_
  intro p e s m below meth c A H locs Q ls K hl hP hD hS ret
  have hx := K.1
  have hb := K.2.1
  have hl : lv_has ls 2 [(0, .ref h), (1, .int v)] := hl
  refine lv_iload_n hx hb dX0_get_0 rfl (lv_at hl 1 rfl) ?_
  refine lv_if_lt (tgt := 9) hx hb dX0_get_1 (by decide) (fun c_1 => ?_) (fun c_1 => ?_)
  · refine lv_iconst (v := nI 0) hx hb dX0_get_9 (by decide) ?_
    refine lv_goto (tgt := 19) hx hb dX0_get_10 (by decide) ?_
    exact ret _ _ (nI 0) () _ _ dX0_get_19 rfl rfl hP hD hS
  · refine lv_iload_n hx hb dX0_get_4 rfl (lv_at hl 1 rfl) ?_
    refine lv_iconst (v := nI 3) hx hb dX0_get_5 (by decide) ?_
    refine lv_icmp_le (tgt := 13) hx hb dX0_get_6 (by decide) (fun c_6 => ?_) (fun c_6 => ?_)
    · exact absurd (c_6) (fun z => hv.elim c_1 (fun q => nI_between z q (by decide) (by decide)))
    · refine lv_iconst (v := nI 0) hx hb dX0_get_9 (by decide) ?_
      refine lv_goto (tgt := 19) hx hb dX0_get_10 (by decide) ?_
      exact ret _ _ (nI 0) () _ _ dX0_get_19 rfl rfl hP hD hS
set_option maxHeartbeats 4000000 in
set_option maxRecDepth 100000 in
theorem metX_getB (l : Launch) (D : va_G) (d : ClassId) (h : Nat) (r : Nat → Nat) (sz : Nat) (op : vF) (nu : vF) (va : vF) (ga : Nat) (pl : Nat) (le : vF) (pr : vF) (ne : vF) (ri : vF) (nx : Nat) (en : Nat) (dn : Nat) (tk : Nat) (hg : Nat) (pi : vF) (ke : vF) (kp : vF) (j : Nat) (hj : j < 4) : MetI l yX0_get cX0_get 2 .int D d [.ref h, .int (nI j)] (wX h r d sz op nu va ga pl le pr ne ri nx en dn tk hg pi ke kp) (rmG 0) (fun (a : Int32) (_ : Unit) => a = va j) (fun _ : Unit => wX h r d sz op nu va ga pl le pr ne ri nx en dn tk hg pi ke kp) := by
  refine gm_startI (own := RX0) (by decide +kernel) rfl (Nat.le_of_ble_eq_true rfl) ?_
  intro p e s m below meth c A H locs Q ls K hl hP hD hS ret
  have hx := K.1
  have hb := K.2.1
  have hl : lv_has ls 2 [(0, .ref h), (1, .int (nI j))] := hl
  refine lv_iload_n hx hb dX0_get_0 rfl (lv_at hl 1 rfl) ?_
  refine gz_ltN (tgt := 9) hx hb dX0_get_1 (by decide) (by omega) ?_
  refine lv_iload_n hx hb dX0_get_4 rfl (lv_at hl 1 rfl) ?_
  refine lv_iconst (v := nI 3) hx hb dX0_get_5 (by decide) ?_
  refine gb_le (tgt := 13) hx hb dX0_get_6 (by decide) (by omega) (by omega) (fun c_6 => ?_) (fun c_6 => ?_)
  · refine lv_aload_n hx hb dX0_get_13 rfl (lv_at hl 0 rfl) ?_
    refine xg_va K hP dX0_get_14 ?_
    refine lv_iload_n hx hb dX0_get_17 rfl (lv_at hl 1 rfl) ?_
    refine xl_va K hP (by omega) dX0_get_18 ?_
    exact ret _ _ (va j) () _ _ dX0_get_19 rfl rfl hP hD hS
  · exfalso; omega
set_option maxHeartbeats 4000000 in
set_option maxRecDepth 100000 in
theorem metX_fundA (l : Launch) (D : va_G) (d : ClassId) (h : Nat) (r : Nat → Nat) (sz : Nat) (op : vF) (nu : vF) (va : vF) (ga : Nat) (pl : Nat) (le : vF) (pr : vF) (ne : vF) (ri : vF) (nx : Nat) (en : Nat) (dn : Nat) (tk : Nat) (hg : Nat) (pi : vF) (ke : vF) (kp : vF) (v : Int32) (hv : v < 0 ∨ nI 2001 ≤ v) : MetI l yX0_fund cX0_fund 2 .int D d [.ref h, .int v] (wX h r d sz op nu va ga pl le pr ne ri nx en dn tk hg pi ke kp) (rmG 0) (fun (a : Int32) (_ : Unit) => a = -1) (fun _ : Unit => wX h r d sz op nu va ga pl le pr ne ri nx en dn tk hg pi ke kp) := by
  refine gm_startI (own := RX0) (by decide +kernel) rfl (Nat.le_of_ble_eq_true rfl) ?_
  intro p e s m below meth c A H locs Q ls K hl hP hD hS ret
  have hx := K.1
  have hb := K.2.1
  have hl : lv_has ls 2 [(0, .ref h), (1, .int v)] := hl
  refine lv_iload_n hx hb dX0_fund_0 rfl (lv_at hl 1 rfl) ?_
  refine lv_if_lt (tgt := 22) hx hb dX0_fund_1 (by decide) (fun c_1 => ?_) (fun c_1 => ?_)
  · refine lv_iconst (v := (-1)) hx hb dX0_fund_22 (by decide) ?_
    exact ret _ _ (-1) () _ _ dX0_fund_23 rfl rfl hP hD hS
  · refine lv_iload_n hx hb dX0_fund_4 rfl (lv_at hl 1 rfl) ?_
    refine lv_sipush (v := nI 2000) hx hb dX0_fund_5 (by decide) ?_
    refine lv_icmp_gt (tgt := 22) hx hb dX0_fund_8 (by decide) (fun c_8 => ?_) (fun c_8 => ?_)
    · refine lv_iconst (v := (-1)) hx hb dX0_fund_22 (by decide) ?_
      exact ret _ _ (-1) () _ _ dX0_fund_23 rfl rfl hP hD hS
    · exact absurd (Int32.not_lt.mp c_8) (fun z => hv.elim c_1 (fun q => nI_between z q (by decide) (by decide)))
set_option maxHeartbeats 4000000 in
set_option maxRecDepth 100000 in
theorem metX_fundB (l : Launch) (D : va_G) (d : ClassId) (h : Nat) (r : Nat → Nat) (sz : Nat) (op : vF) (nu : vF) (va : vF) (ga : Nat) (pl : Nat) (le : vF) (pr : vF) (ne : vF) (ri : vF) (nx : Nat) (en : Nat) (dn : Nat) (tk : Nat) (hg : Nat) (pi : vF) (ke : vF) (kp : vF) (j : Nat) (hj : j ≤ 2000) (hga : ga ≤ 100000) (hs : 100000 < ga + j) : MetI l yX0_fund cX0_fund 2 .int D d [.ref h, .int (nI j)] (wX h r d sz op nu va ga pl le pr ne ri nx en dn tk hg pi ke kp) (rmG 0) (fun (a : Int32) (_ : Unit) => a = -1) (fun _ : Unit => wX h r d sz op nu va ga pl le pr ne ri nx en dn tk hg pi ke kp) := by
  refine gm_startI (own := RX0) (by decide +kernel) rfl (Nat.le_of_ble_eq_true rfl) ?_
  intro p e s m below meth c A H locs Q ls K hl hP hD hS ret
  have hx := K.1
  have hb := K.2.1
  have hl : lv_has ls 2 [(0, .ref h), (1, .int (nI j))] := hl
  refine lv_iload_n hx hb dX0_fund_0 rfl (lv_at hl 1 rfl) ?_
  refine gz_ltN (tgt := 22) hx hb dX0_fund_1 (by decide) (by omega) ?_
  refine lv_iload_n hx hb dX0_fund_4 rfl (lv_at hl 1 rfl) ?_
  refine lv_sipush (v := nI 2000) hx hb dX0_fund_5 (by decide) ?_
  refine gb_gt (tgt := 22) hx hb dX0_fund_8 (by decide) (by omega) (by omega) (fun c_8 => ?_) (fun c_8 => ?_)
  · exfalso; omega
  · refine lv_aload_n hx hb dX0_fund_11 rfl (lv_at hl 0 rfl) ?_
    refine xg_ga K hP dX0_fund_12 ?_
    refine lv_iload_n hx hb dX0_fund_15 rfl (lv_at hl 1 rfl) ?_
    refine gi_add hx hb dX0_fund_16 ?_
    refine lv_ldc hx hb K.2.2.2.1 (K.2.2.1 _ q125) dX0_fund_17 ?_
    refine gi_tp (y := nI 100000) (by decide) ?_
    refine gb_le (tgt := 24) hx hb dX0_fund_19 (by decide) (by omega) (by omega) (fun c_19 => ?_) (fun c_19 => ?_)
    · exfalso; omega
    · refine lv_iconst (v := (-1)) hx hb dX0_fund_22 (by decide) ?_
      exact ret _ _ (-1) () _ _ dX0_fund_23 rfl rfl hP hD hS
set_option maxHeartbeats 4000000 in
set_option maxRecDepth 100000 in
theorem metX_fundC (l : Launch) (D : va_G) (d : ClassId) (h : Nat) (r : Nat → Nat) (sz : Nat) (op : vF) (nu : vF) (va : vF) (ga : Nat) (pl : Nat) (le : vF) (pr : vF) (ne : vF) (ri : vF) (nx : Nat) (en : Nat) (dn : Nat) (tk : Nat) (hg : Nat) (pi : vF) (ke : vF) (kp : vF) (j : Nat) (hj : j ≤ 2000) (hga : ga ≤ 100000) (hs : ga + j ≤ 100000) : MetI l yX0_fund cX0_fund 2 .int D d [.ref h, .int (nI j)] (wX h r d sz op nu va ga pl le pr ne ri nx en dn tk hg pi ke kp) (rmG 0) (fun (a : Int32) (u : Nat) => a = nI (ga + j) ∧ u = ga + j) (fun u : Nat => wX h r d sz op nu va u pl le pr ne ri nx en dn tk hg pi ke kp) := by
  refine gm_startI (own := RX0) (by decide +kernel) rfl (Nat.le_of_ble_eq_true rfl) ?_
  intro p e s m below meth c A H locs Q ls K hl hP hD hS ret
  have hx := K.1
  have hb := K.2.1
  have hl : lv_has ls 2 [(0, .ref h), (1, .int (nI j))] := hl
  refine lv_iload_n hx hb dX0_fund_0 rfl (lv_at hl 1 rfl) ?_
  refine gz_ltN (tgt := 22) hx hb dX0_fund_1 (by decide) (by omega) ?_
  refine lv_iload_n hx hb dX0_fund_4 rfl (lv_at hl 1 rfl) ?_
  refine lv_sipush (v := nI 2000) hx hb dX0_fund_5 (by decide) ?_
  refine gb_gt (tgt := 22) hx hb dX0_fund_8 (by decide) (by omega) (by omega) (fun c_8 => ?_) (fun c_8 => ?_)
  · exfalso; omega
  · refine lv_aload_n hx hb dX0_fund_11 rfl (lv_at hl 0 rfl) ?_
    refine xg_ga K hP dX0_fund_12 ?_
    refine lv_iload_n hx hb dX0_fund_15 rfl (lv_at hl 1 rfl) ?_
    refine gi_add hx hb dX0_fund_16 ?_
    refine lv_ldc hx hb K.2.2.2.1 (K.2.2.1 _ q125) dX0_fund_17 ?_
    refine gi_tp (y := nI 100000) (by decide) ?_
    refine gb_le (tgt := 24) hx hb dX0_fund_19 (by decide) (by omega) (by omega) (fun c_19 => ?_) (fun c_19 => ?_)
    · refine lv_aload_n hx hb dX0_fund_24 rfl (lv_at hl 0 rfl) ?_
      refine lv_aload_n hx hb dX0_fund_25 rfl (lv_at hl 0 rfl) ?_
      refine xg_ga K hP dX0_fund_26 ?_
      refine lv_iload_n hx hb dX0_fund_29 rfl (lv_at hl 1 rfl) ?_
      refine gi_add hx hb dX0_fund_30 ?_
      refine xp_ga K hP hD hS dX0_fund_31 (fun H locs hP hD hS => ?_)
      refine lv_aload_n hx hb dX0_fund_34 rfl (lv_at hl 0 rfl) ?_
      refine xg_ga K hP dX0_fund_35 ?_
      exact ret _ _ (nI (ga + j)) (ga + j) _ _ dX0_fund_38 rfl ⟨rfl, rfl⟩ hP hD hS
    · exfalso; omega
set_option maxHeartbeats 4000000 in
set_option maxRecDepth 100000 in
theorem metX_pileA (l : Launch) (D : va_G) (d : ClassId) (h : Nat) (r : Nat → Nat) (sz : Nat) (op : vF) (nu : vF) (va : vF) (ga : Nat) (pl : Nat) (le : vF) (pr : vF) (ne : vF) (ri : vF) (nx : Nat) (en : Nat) (dn : Nat) (tk : Nat) (hg : Nat) (pi : vF) (ke : vF) (kp : vF) (v : Int32) (hh : hg ≤ 8) (hv : v < 0 ∨ nI hg ≤ v) : MetI l yX0_pile cX0_pile 2 .int D d [.ref h, .int v] (wX h r d sz op nu va ga pl le pr ne ri nx en dn tk hg pi ke kp) (rmG 0) (fun (a : Int32) (_ : Unit) => a = nI 0) (fun _ : Unit => wX h r d sz op nu va ga pl le pr ne ri nx en dn tk hg pi ke kp) := by
  refine gm_startI (own := RX0) (by decide +kernel) rfl (Nat.le_of_ble_eq_true rfl) ?_
  intro p e s m below meth c A H locs Q ls K hl hP hD hS ret
  have hx := K.1
  have hb := K.2.1
  have hl : lv_has ls 2 [(0, .ref h), (1, .int v)] := hl
  refine lv_iload_n hx hb dX0_pile_0 rfl (lv_at hl 1 rfl) ?_
  refine lv_if_lt (tgt := 12) hx hb dX0_pile_1 (by decide) (fun c_1 => ?_) (fun c_1 => ?_)
  · refine lv_iconst (v := nI 0) hx hb dX0_pile_12 (by decide) ?_
    refine lv_goto (tgt := 22) hx hb dX0_pile_13 (by decide) ?_
    exact ret _ _ (nI 0) () _ _ dX0_pile_22 rfl rfl hP hD hS
  · refine lv_iload_n hx hb dX0_pile_4 rfl (lv_at hl 1 rfl) ?_
    refine lv_aload_n hx hb dX0_pile_5 rfl (lv_at hl 0 rfl) ?_
    refine xg_hg K hP dX0_pile_6 ?_
    refine lv_icmp_lt (tgt := 16) hx hb dX0_pile_9 (by decide) (fun c_9 => ?_) (fun c_9 => ?_)
    · exact absurd c_9 (Int32.not_lt.mpr (hv.resolve_left c_1))
    · refine lv_iconst (v := nI 0) hx hb dX0_pile_12 (by decide) ?_
      refine lv_goto (tgt := 22) hx hb dX0_pile_13 (by decide) ?_
      exact ret _ _ (nI 0) () _ _ dX0_pile_22 rfl rfl hP hD hS
set_option maxHeartbeats 4000000 in
set_option maxRecDepth 100000 in
theorem metX_pileB (l : Launch) (D : va_G) (d : ClassId) (h : Nat) (r : Nat → Nat) (sz : Nat) (op : vF) (nu : vF) (va : vF) (ga : Nat) (pl : Nat) (le : vF) (pr : vF) (ne : vF) (ri : vF) (nx : Nat) (en : Nat) (dn : Nat) (tk : Nat) (hg : Nat) (pi : vF) (ke : vF) (kp : vF) (j : Nat) (hh : hg ≤ 8) (hj : j < hg) : MetI l yX0_pile cX0_pile 2 .int D d [.ref h, .int (nI j)] (wX h r d sz op nu va ga pl le pr ne ri nx en dn tk hg pi ke kp) (rmG 0) (fun (a : Int32) (_ : Unit) => a = pi j) (fun _ : Unit => wX h r d sz op nu va ga pl le pr ne ri nx en dn tk hg pi ke kp) := by
  refine gm_startI (own := RX0) (by decide +kernel) rfl (Nat.le_of_ble_eq_true rfl) ?_
  intro p e s m below meth c A H locs Q ls K hl hP hD hS ret
  have hx := K.1
  have hb := K.2.1
  have hl : lv_has ls 2 [(0, .ref h), (1, .int (nI j))] := hl
  refine lv_iload_n hx hb dX0_pile_0 rfl (lv_at hl 1 rfl) ?_
  refine gz_ltN (tgt := 12) hx hb dX0_pile_1 (by decide) (by omega) ?_
  refine lv_iload_n hx hb dX0_pile_4 rfl (lv_at hl 1 rfl) ?_
  refine lv_aload_n hx hb dX0_pile_5 rfl (lv_at hl 0 rfl) ?_
  refine xg_hg K hP dX0_pile_6 ?_
  refine gb_lt (tgt := 16) hx hb dX0_pile_9 (by decide) (by omega) (by omega) (fun c_9 => ?_) (fun c_9 => ?_)
  · refine lv_aload_n hx hb dX0_pile_16 rfl (lv_at hl 0 rfl) ?_
    refine xg_pi K hP dX0_pile_17 ?_
    refine lv_iload_n hx hb dX0_pile_20 rfl (lv_at hl 1 rfl) ?_
    refine xl_pi K hP (by omega) dX0_pile_21 ?_
    exact ret _ _ (pi j) () _ _ dX0_pile_22 rfl rfl hP hD hS
  · exfalso; omega
set_option maxHeartbeats 4000000 in
set_option maxRecDepth 100000 in
theorem metX_appendA (l : Launch) (D : va_G) (d : ClassId) (h : Nat) (r : Nat → Nat) (sz : Nat) (op : vF) (nu : vF) (va : vF) (ga : Nat) (pl : Nat) (le : vF) (pr : vF) (ne : vF) (ri : vF) (nx : Nat) (en : Nat) (dn : Nat) (tk : Nat) (hg : Nat) (pi : vF) (ke : vF) (kp : vF) (o : Int32) (b : Int32) (hz : sz ≤ 20) (hb1 : badN o b = 1) : MetI l yX0_append cX0_append 3 .int D d [.ref h, .int o, .int b] (wX h r d sz op nu va ga pl le pr ne ri nx en dn tk hg pi ke kp) (rmG 1) (fun (a : Int32) (_ : Unit) => a = -1) (fun _ : Unit => wX h r d sz op nu va ga pl le pr ne ri nx en dn tk hg pi ke kp) := by
  refine gm_startI (own := RX0) (by decide +kernel) rfl (Nat.le_of_ble_eq_true rfl) ?_
  intro p e s m below meth c A H locs Q ls K hl hP hD hS ret
  have hx := K.1
  have hb := K.2.1
  have hl : lv_has ls 3 [(0, .ref h), (1, .int o), (2, .int b)] := hl
  refine lv_aload_n hx hb dX0_append_0 rfl (lv_at hl 0 rfl) ?_
  refine lv_iload_n hx hb dX0_append_1 rfl (lv_at hl 1 rfl) ?_
  refine lv_iload_n hx hb dX0_append_2 rfl (lv_at hl 2 rfl) ?_
  refine gm_calli (As := [.int o, .int b]) (rest := []) (C := RX0) (n := 2) K (metX_bad l D d h r sz op nu va ga pl le pr ne ri nx en dn tk hg pi ke kp o b ) (lw_V q97 q99 qs0 q27 q100) (by decide +kernel) ⟨by decide, by decide⟩ ⟨rfl, rfl⟩ rfl 0 rfl rfl rfl hP hD hS hl rfl (Nat.le_of_ble_eq_true rfl) dX0_append_3 ⟨Nat.zero_le _, Nat.zero_le _⟩ (fun a_1 u_1 H locs hp_1 hP hD hS => ?_)
  have ea_1 := hp_1
  have ea_1 : a_1 = nI (badN o b) := ea_1
  subst ea_1
  refine gz_eq (tgt := 11) hx hb dX0_append_6 (by decide) (badN_lt _ _) (fun c_6 => ?_) (fun c_6 => ?_)
  · exfalso; omega
  · refine lv_iconst (v := (-1)) hx hb dX0_append_9 (by decide) ?_
    exact ret _ _ (-1) () _ _ dX0_append_10 rfl rfl hP hD hS
set_option maxHeartbeats 4000000 in
set_option maxRecDepth 100000 in
theorem metX_appendB (l : Launch) (D : va_G) (d : ClassId) (h : Nat) (r : Nat → Nat) (sz : Nat) (op : vF) (nu : vF) (va : vF) (ga : Nat) (pl : Nat) (le : vF) (pr : vF) (ne : vF) (ri : vF) (nx : Nat) (en : Nat) (dn : Nat) (tk : Nat) (hg : Nat) (pi : vF) (ke : vF) (kp : vF) (o : Int32) (b : Int32) (hz : sz = 20) (hb0 : badN o b = 0) : MetI l yX0_append cX0_append 3 .int D d [.ref h, .int o, .int b] (wX h r d sz op nu va ga pl le pr ne ri nx en dn tk hg pi ke kp) (rmG 1) (fun (a : Int32) (_ : Unit) => a = -2) (fun _ : Unit => wX h r d sz op nu va ga pl le pr ne ri nx en dn tk hg pi ke kp) := by
  refine gm_startI (own := RX0) (by decide +kernel) rfl (Nat.le_of_ble_eq_true rfl) ?_
  intro p e s m below meth c A H locs Q ls K hl hP hD hS ret
  have hx := K.1
  have hb := K.2.1
  have hl : lv_has ls 3 [(0, .ref h), (1, .int o), (2, .int b)] := hl
  refine lv_aload_n hx hb dX0_append_0 rfl (lv_at hl 0 rfl) ?_
  refine lv_iload_n hx hb dX0_append_1 rfl (lv_at hl 1 rfl) ?_
  refine lv_iload_n hx hb dX0_append_2 rfl (lv_at hl 2 rfl) ?_
  refine gm_calli (As := [.int o, .int b]) (rest := []) (C := RX0) (n := 2) K (metX_bad l D d h r sz op nu va ga pl le pr ne ri nx en dn tk hg pi ke kp o b ) (lw_V q97 q99 qs0 q27 q100) (by decide +kernel) ⟨by decide, by decide⟩ ⟨rfl, rfl⟩ rfl 0 rfl rfl rfl hP hD hS hl rfl (Nat.le_of_ble_eq_true rfl) dX0_append_3 ⟨Nat.zero_le _, Nat.zero_le _⟩ (fun a_1 u_1 H locs hp_1 hP hD hS => ?_)
  have ea_1 := hp_1
  have ea_1 : a_1 = nI (badN o b) := ea_1
  subst ea_1
  refine gz_eq (tgt := 11) hx hb dX0_append_6 (by decide) (badN_lt _ _) (fun c_6 => ?_) (fun c_6 => ?_)
  · refine lv_aload_n hx hb dX0_append_11 rfl (lv_at hl 0 rfl) ?_
    refine xg_sz K hP dX0_append_12 ?_
    refine lv_bipush (v := nI 20) hx hb dX0_append_15 (by decide) ?_
    refine gb_ne (tgt := 23) hx hb dX0_append_17 (by decide) (by omega) (by omega) (fun c_17 => ?_) (fun c_17 => ?_)
    · exfalso; omega
    · refine lv_bipush (v := (-2)) hx hb dX0_append_20 (by decide) ?_
      exact ret _ _ (-2) () _ _ dX0_append_22 rfl rfl hP hD hS
  · exfalso; omega
set_option maxHeartbeats 4000000 in
set_option maxRecDepth 100000 in
theorem metX_appendC (l : Launch) (D : va_G) (d : ClassId) (h : Nat) (r : Nat → Nat) (sz : Nat) (op : vF) (nu : vF) (va : vF) (ga : Nat) (pl : Nat) (le : vF) (pr : vF) (ne : vF) (ri : vF) (nx : Nat) (en : Nat) (dn : Nat) (tk : Nat) (hg : Nat) (pi : vF) (ke : vF) (kp : vF) (o : Int32) (b : Int32) (hz : sz < 20) (hb0 : badN o b = 0) : MetI l yX0_append cX0_append 3 .int D d [.ref h, .int o, .int b] (wX h r d sz op nu va ga pl le pr ne ri nx en dn tk hg pi ke kp) (rmG 1) (fun (a : Int32) (u : vF × vF × Nat × Nat) => a = nI sz ∧ u.1 = upd op sz o ∧ u.2.1 = upd nu sz b ∧ u.2.2.1 = sz + 1 ∧ u.2.2.2 = 0) (fun u : vF × vF × Nat × Nat => wX h r d u.2.2.1 u.1 u.2.1 va ga u.2.2.2 le pr ne ri nx en dn tk hg pi ke kp) := by
  refine gm_startI (own := RX0) (by decide +kernel) rfl (Nat.le_of_ble_eq_true rfl) ?_
  intro p e s m below meth c A H locs Q ls K hl hP hD hS ret
  have hx := K.1
  have hb := K.2.1
  have hl : lv_has ls 3 [(0, .ref h), (1, .int o), (2, .int b)] := hl
  refine lv_aload_n hx hb dX0_append_0 rfl (lv_at hl 0 rfl) ?_
  refine lv_iload_n hx hb dX0_append_1 rfl (lv_at hl 1 rfl) ?_
  refine lv_iload_n hx hb dX0_append_2 rfl (lv_at hl 2 rfl) ?_
  refine gm_calli (As := [.int o, .int b]) (rest := []) (C := RX0) (n := 2) K (metX_bad l D d h r sz op nu va ga pl le pr ne ri nx en dn tk hg pi ke kp o b ) (lw_V q97 q99 qs0 q27 q100) (by decide +kernel) ⟨by decide, by decide⟩ ⟨rfl, rfl⟩ rfl 0 rfl rfl rfl hP hD hS hl rfl (Nat.le_of_ble_eq_true rfl) dX0_append_3 ⟨Nat.zero_le _, Nat.zero_le _⟩ (fun a_1 u_1 H locs hp_1 hP hD hS => ?_)
  have ea_1 := hp_1
  have ea_1 : a_1 = nI (badN o b) := ea_1
  subst ea_1
  refine gz_eq (tgt := 11) hx hb dX0_append_6 (by decide) (badN_lt _ _) (fun c_6 => ?_) (fun c_6 => ?_)
  · refine lv_aload_n hx hb dX0_append_11 rfl (lv_at hl 0 rfl) ?_
    refine xg_sz K hP dX0_append_12 ?_
    refine lv_bipush (v := nI 20) hx hb dX0_append_15 (by decide) ?_
    refine gb_ne (tgt := 23) hx hb dX0_append_17 (by decide) (by omega) (by omega) (fun c_17 => ?_) (fun c_17 => ?_)
    · refine lv_aload_n hx hb dX0_append_23 rfl (lv_at hl 0 rfl) ?_
      refine xg_op K hP dX0_append_24 ?_
      refine lv_aload_n hx hb dX0_append_27 rfl (lv_at hl 0 rfl) ?_
      refine xg_sz K hP dX0_append_28 ?_
      refine lv_iload_n hx hb dX0_append_31 rfl (lv_at hl 1 rfl) ?_
      refine xs_op K hP hD hS (by omega) dX0_append_32 (fun H locs hP hD hS => ?_)
      refine lv_aload_n hx hb dX0_append_33 rfl (lv_at hl 0 rfl) ?_
      refine xg_nu K hP dX0_append_34 ?_
      refine lv_aload_n hx hb dX0_append_37 rfl (lv_at hl 0 rfl) ?_
      refine xg_sz K hP dX0_append_38 ?_
      refine lv_iload_n hx hb dX0_append_41 rfl (lv_at hl 2 rfl) ?_
      refine xs_nu K hP hD hS (by omega) dX0_append_42 (fun H locs hP hD hS => ?_)
      refine lv_aload_n hx hb dX0_append_43 rfl (lv_at hl 0 rfl) ?_
      refine lv_dup hx hb dX0_append_44 rfl ?_
      refine xg_sz K hP dX0_append_45 ?_
      refine lv_iconst (v := nI 1) hx hb dX0_append_48 (by decide) ?_
      refine gi_add hx hb dX0_append_49 ?_
      refine xp_sz K hP hD hS dX0_append_50 (fun H locs hP hD hS => ?_)
      refine lv_aload_n hx hb dX0_append_53 rfl (lv_at hl 0 rfl) ?_
      refine lv_iconst (v := nI 0) hx hb dX0_append_54 (by decide) ?_
      refine xp_pl (by decide) K hP hD hS dX0_append_55 (fun H locs hP hD hS => ?_)
      refine lv_aload_n hx hb dX0_append_58 rfl (lv_at hl 0 rfl) ?_
      refine xg_sz K hP dX0_append_59 ?_
      refine lv_iconst (v := nI 1) hx hb dX0_append_62 (by decide) ?_
      refine gi_sub hx hb (by omega) dX0_append_63 ?_
      exact ret _ _ (nI ((sz + 1) - 1)) (upd op sz o, upd nu sz b, sz + 1, 0) _ _ dX0_append_64 rfl ⟨(by rw [Nat.add_sub_cancel]), rfl, rfl, rfl, rfl⟩ hP hD hS
    · exfalso; omega
  · exfalso; omega
set_option maxHeartbeats 4000000 in
set_option maxRecDepth 100000 in
theorem metX_changeA (l : Launch) (D : va_G) (d : ClassId) (h : Nat) (r : Nat → Nat) (sz : Nat) (op : vF) (nu : vF) (va : vF) (ga : Nat) (pl : Nat) (le : vF) (pr : vF) (ne : vF) (ri : vF) (nx : Nat) (en : Nat) (dn : Nat) (tk : Nat) (hg : Nat) (pi : vF) (ke : vF) (kp : vF) (v : Int32) (o : Int32) (b : Int32) (hz : sz ≤ 20) (hv : v < 0 ∨ nI sz ≤ v) : MetI l yX0_change cX0_change 5 .int D d [.ref h, .int v, .int o, .int b] (wX h r d sz op nu va ga pl le pr ne ri nx en dn tk hg pi ke kp) (rmG 1) (fun (a : Int32) (_ : Unit) => a = -1) (fun _ : Unit => wX h r d sz op nu va ga pl le pr ne ri nx en dn tk hg pi ke kp) := by
  refine gm_startI (own := RX0) (by decide +kernel) rfl (Nat.le_of_ble_eq_true rfl) ?_
  intro p e s m below meth c A H locs Q ls K hl hP hD hS ret
  have hx := K.1
  have hb := K.2.1
  have hl : lv_has ls 5 [(0, .ref h), (1, .int v), (2, .int o), (3, .int b)] := hl
  refine lv_iload_n hx hb dX0_change_0 rfl (lv_at hl 1 rfl) ?_
  refine lv_if_lt (tgt := 21) hx hb dX0_change_1 (by decide) (fun c_1 => ?_) (fun c_1 => ?_)
  · refine lv_iconst (v := (-1)) hx hb dX0_change_21 (by decide) ?_
    exact ret _ _ (-1) () _ _ dX0_change_22 rfl rfl hP hD hS
  · refine lv_iload_n hx hb dX0_change_4 rfl (lv_at hl 1 rfl) ?_
    refine lv_aload_n hx hb dX0_change_5 rfl (lv_at hl 0 rfl) ?_
    refine xg_sz K hP dX0_change_6 ?_
    refine lv_icmp_ge (tgt := 21) hx hb dX0_change_9 (by decide) (fun c_9 => ?_) (fun c_9 => ?_)
    · refine lv_iconst (v := (-1)) hx hb dX0_change_21 (by decide) ?_
      exact ret _ _ (-1) () _ _ dX0_change_22 rfl rfl hP hD hS
    · exact absurd (hv.resolve_left c_1) c_9
set_option maxHeartbeats 4000000 in
set_option maxRecDepth 100000 in
theorem metX_changeB (l : Launch) (D : va_G) (d : ClassId) (h : Nat) (r : Nat → Nat) (sz : Nat) (op : vF) (nu : vF) (va : vF) (ga : Nat) (pl : Nat) (le : vF) (pr : vF) (ne : vF) (ri : vF) (nx : Nat) (en : Nat) (dn : Nat) (tk : Nat) (hg : Nat) (pi : vF) (ke : vF) (kp : vF) (j : Nat) (o : Int32) (b : Int32) (hz : sz ≤ 20) (hj : j < sz) (hb1 : badN o b = 1) : MetI l yX0_change cX0_change 5 .int D d [.ref h, .int (nI j), .int o, .int b] (wX h r d sz op nu va ga pl le pr ne ri nx en dn tk hg pi ke kp) (rmG 1) (fun (a : Int32) (_ : Unit) => a = -1) (fun _ : Unit => wX h r d sz op nu va ga pl le pr ne ri nx en dn tk hg pi ke kp) := by
  refine gm_startI (own := RX0) (by decide +kernel) rfl (Nat.le_of_ble_eq_true rfl) ?_
  intro p e s m below meth c A H locs Q ls K hl hP hD hS ret
  have hx := K.1
  have hb := K.2.1
  have hl : lv_has ls 5 [(0, .ref h), (1, .int (nI j)), (2, .int o), (3, .int b)] := hl
  refine lv_iload_n hx hb dX0_change_0 rfl (lv_at hl 1 rfl) ?_
  refine gz_ltN (tgt := 21) hx hb dX0_change_1 (by decide) (by omega) ?_
  refine lv_iload_n hx hb dX0_change_4 rfl (lv_at hl 1 rfl) ?_
  refine lv_aload_n hx hb dX0_change_5 rfl (lv_at hl 0 rfl) ?_
  refine xg_sz K hP dX0_change_6 ?_
  refine gb_ge (tgt := 21) hx hb dX0_change_9 (by decide) (by omega) (by omega) (fun c_9 => ?_) (fun c_9 => ?_)
  · exfalso; omega
  · refine lv_aload_n hx hb dX0_change_12 rfl (lv_at hl 0 rfl) ?_
    refine lv_iload_n hx hb dX0_change_13 rfl (lv_at hl 2 rfl) ?_
    refine lv_iload_n hx hb dX0_change_14 rfl (lv_at hl 3 rfl) ?_
    refine gm_calli (As := [.int o, .int b]) (rest := []) (C := RX0) (n := 2) K (metX_bad l D d h r sz op nu va ga pl le pr ne ri nx en dn tk hg pi ke kp o b ) (lw_V q97 q99 qs0 q27 q100) (by decide +kernel) ⟨by decide, by decide⟩ ⟨rfl, rfl⟩ rfl 0 rfl rfl rfl hP hD hS hl rfl (Nat.le_of_ble_eq_true rfl) dX0_change_15 ⟨Nat.zero_le _, Nat.zero_le _⟩ (fun a_1 u_1 H locs hp_1 hP hD hS => ?_)
    have ea_1 := hp_1
    have ea_1 : a_1 = nI (badN o b) := ea_1
    subst ea_1
    refine gz_eq (tgt := 23) hx hb dX0_change_18 (by decide) (badN_lt _ _) (fun c_18 => ?_) (fun c_18 => ?_)
    · exfalso; omega
    · refine lv_iconst (v := (-1)) hx hb dX0_change_21 (by decide) ?_
      exact ret _ _ (-1) () _ _ dX0_change_22 rfl rfl hP hD hS
set_option maxHeartbeats 4000000 in
set_option maxRecDepth 100000 in
theorem metX_changeC (l : Launch) (D : va_G) (d : ClassId) (h : Nat) (r : Nat → Nat) (sz : Nat) (op : vF) (nu : vF) (va : vF) (ga : Nat) (pl : Nat) (le : vF) (pr : vF) (ne : vF) (ri : vF) (nx : Nat) (en : Nat) (dn : Nat) (tk : Nat) (hg : Nat) (pi : vF) (ke : vF) (kp : vF) (j : Nat) (o : Int32) (b : Int32) (hz : sz ≤ 20) (hj : j < sz) (hb0 : badN o b = 0) : MetI l yX0_change cX0_change 5 .int D d [.ref h, .int (nI j), .int o, .int b] (wX h r d sz op nu va ga pl le pr ne ri nx en dn tk hg pi ke kp) (rmG 1) (fun (a : Int32) (u : vF × vF × Nat) => a = op j ∧ u.1 = upd op j o ∧ u.2.1 = upd nu j b ∧ u.2.2 = 0) (fun u : vF × vF × Nat => wX h r d sz u.1 u.2.1 va ga u.2.2 le pr ne ri nx en dn tk hg pi ke kp) := by
  refine gm_startI (own := RX0) (by decide +kernel) rfl (Nat.le_of_ble_eq_true rfl) ?_
  intro p e s m below meth c A H locs Q ls K hl hP hD hS ret
  have hx := K.1
  have hb := K.2.1
  have hl : lv_has ls 5 [(0, .ref h), (1, .int (nI j)), (2, .int o), (3, .int b)] := hl
  refine lv_iload_n hx hb dX0_change_0 rfl (lv_at hl 1 rfl) ?_
  refine gz_ltN (tgt := 21) hx hb dX0_change_1 (by decide) (by omega) ?_
  refine lv_iload_n hx hb dX0_change_4 rfl (lv_at hl 1 rfl) ?_
  refine lv_aload_n hx hb dX0_change_5 rfl (lv_at hl 0 rfl) ?_
  refine xg_sz K hP dX0_change_6 ?_
  refine gb_ge (tgt := 21) hx hb dX0_change_9 (by decide) (by omega) (by omega) (fun c_9 => ?_) (fun c_9 => ?_)
  · exfalso; omega
  · refine lv_aload_n hx hb dX0_change_12 rfl (lv_at hl 0 rfl) ?_
    refine lv_iload_n hx hb dX0_change_13 rfl (lv_at hl 2 rfl) ?_
    refine lv_iload_n hx hb dX0_change_14 rfl (lv_at hl 3 rfl) ?_
    refine gm_calli (As := [.int o, .int b]) (rest := []) (C := RX0) (n := 2) K (metX_bad l D d h r sz op nu va ga pl le pr ne ri nx en dn tk hg pi ke kp o b ) (lw_V q97 q99 qs0 q27 q100) (by decide +kernel) ⟨by decide, by decide⟩ ⟨rfl, rfl⟩ rfl 0 rfl rfl rfl hP hD hS hl rfl (Nat.le_of_ble_eq_true rfl) dX0_change_15 ⟨Nat.zero_le _, Nat.zero_le _⟩ (fun a_1 u_1 H locs hp_1 hP hD hS => ?_)
    have ea_1 := hp_1
    have ea_1 : a_1 = nI (badN o b) := ea_1
    subst ea_1
    refine gz_eq (tgt := 23) hx hb dX0_change_18 (by decide) (badN_lt _ _) (fun c_18 => ?_) (fun c_18 => ?_)
    · refine lv_aload_n hx hb dX0_change_23 rfl (lv_at hl 0 rfl) ?_
      refine xg_op K hP dX0_change_24 ?_
      refine lv_iload_n hx hb dX0_change_27 rfl (lv_at hl 1 rfl) ?_
      refine xl_op K hP (by omega) dX0_change_28 ?_
      refine lv_istore (lv' := [(4, .int (op j)), (0, .ref h), (1, .int (nI j)), (2, .int o), (3, .int b)]) hx hb dX0_change_29 hl (by decide) rfl (fun ls hl => ?_)
      refine lv_aload_n hx hb dX0_change_31 rfl (lv_at hl 1 rfl) ?_
      refine xg_op K hP dX0_change_32 ?_
      refine lv_iload_n hx hb dX0_change_35 rfl (lv_at hl 2 rfl) ?_
      refine lv_iload_n hx hb dX0_change_36 rfl (lv_at hl 3 rfl) ?_
      refine xs_op K hP hD hS (by omega) dX0_change_37 (fun H locs hP hD hS => ?_)
      refine lv_aload_n hx hb dX0_change_38 rfl (lv_at hl 1 rfl) ?_
      refine xg_nu K hP dX0_change_39 ?_
      refine lv_iload_n hx hb dX0_change_42 rfl (lv_at hl 2 rfl) ?_
      refine lv_iload_n hx hb dX0_change_43 rfl (lv_at hl 4 rfl) ?_
      refine xs_nu K hP hD hS (by omega) dX0_change_44 (fun H locs hP hD hS => ?_)
      refine lv_aload_n hx hb dX0_change_45 rfl (lv_at hl 1 rfl) ?_
      refine lv_iconst (v := nI 0) hx hb dX0_change_46 (by decide) ?_
      refine xp_pl (by decide) K hP hD hS dX0_change_47 (fun H locs hP hD hS => ?_)
      refine lv_iload hx hb dX0_change_50 (lv_at hl 0 rfl) ?_
      exact ret _ _ (op j) (upd op j o, upd nu j b, 0) _ _ dX0_change_52 rfl ⟨rfl, rfl, rfl, rfl⟩ hP hD hS
    · exfalso; omega
end
section
set_option maxRecDepth 100000
/-! the reference's small answers -/
def fitN (o b : Int32) : Nat := 1 - badN o b
theorem fitN_lt (o b : Int32) : fitN o b < 2 ^ 31 := Nat.lt_of_le_of_lt (Nat.sub_le _ _) (by decide)
def puN (k : Nat) : Nat := if k = 0 ∨ k = 5 ∨ k = 8 ∨ k = 13 then 1 else 0
theorem puN_lt (k : Nat) : puN k < 2 ^ 31 := by unfold puN; split <;> decide
theorem tkN_lt (k : Nat) : tkN k < 2 ^ 31 := Nat.lt_of_le_of_lt (tkN_le k) (by decide)
def trN (k hg : Nat) : Nat := if hg < tkN k ∨ 8 < hg - tkN k + ptN k then 1 else 0
theorem trN_lt (k hg : Nat) : trN k hg < 2 ^ 31 := by unfold trN; split <;> decide
theorem trN_pu (k hg : Nat) (hk : k ≤ 14) (h : hg ≤ 8) : (8 < hg - tkN k + ptN k) ∨ hg < tkN k ↔ hg < tkN k ∨ (puN k = 1 ∧ hg = 8) := by
  unfold tkN ptN puN; grind
theorem upd_comm {f : vF} {i j : Nat} {x y : Int32} (h : i ≠ j) : upd (upd f i x) j y = upd (upd f j y) i x := by
  funext q
  unfold upd
  grind
set_option maxHeartbeats 4000000 in
set_option maxRecDepth 100000 in
theorem metM_isFit (l : Launch) (D : va_G) (d : ClassId) (h : Nat) (r : Nat → Nat) (op : vF) (nu : vF) (sz : Nat) (va : vF) (pi : vF) (hg : Nat) (ga : Nat) (en : Nat) (nx : Nat) (dn : Nat) (sp : Nat) (kv : vF) (kp : vF) (o : Int32) (b : Int32) : MetI l yX1_isFit cX1_isFit 3 .boolean D d [.ref h, .int o, .int b] (wM h r d op nu sz va pi hg ga en nx dn sp kv kp) (rmG 0) (fun (a : Int32) (_ : Unit) => a = nI (fitN o b)) (fun _ : Unit => wM h r d op nu sz va pi hg ga en nx dn sp kv kp) := by
  refine gm_startI (own := RX1) (by decide +kernel) rfl (Nat.le_of_ble_eq_true rfl) ?_
  intro p e s m below meth c A H locs Q ls K hl hP hD hS ret
  have hx := K.1
  have hb := K.2.1
  have hl : lv_has ls 3 [(0, .ref h), (1, .int o), (2, .int b)] := hl
  have hlit := nI_lits
  refine lv_iload_n hx hb dX1_isFit_0 rfl (lv_at hl 1 rfl) ?_
  refine lv_if_lt (tgt := 26) hx hb dX1_isFit_1 (by decide) (fun c_1 => ?_) (fun c_1 => ?_)
  · refine lv_iconst (v := nI 0) hx hb dX1_isFit_26 (by decide) ?_
    exact ret _ _ (nI 0) () _ _ dX1_isFit_27 rfl (show nI 0 = nI (fitN o b) from by grind [badN, fitN, Int32.not_le, Int32.not_lt, nI_0]) hP hD hS
  · refine lv_iload_n hx hb dX1_isFit_4 rfl (lv_at hl 1 rfl) ?_
    refine lv_bipush (v := nI 14) hx hb dX1_isFit_5 (by decide) ?_
    refine lv_icmp_gt (tgt := 26) hx hb dX1_isFit_7 (by decide) (fun c_7 => ?_) (fun c_7 => ?_)
    · refine lv_iconst (v := nI 0) hx hb dX1_isFit_26 (by decide) ?_
      exact ret _ _ (nI 0) () _ _ dX1_isFit_27 rfl (show nI 0 = nI (fitN o b) from by grind [badN, fitN, Int32.not_le, Int32.not_lt, nI_0]) hP hD hS
    · refine lv_iload_n hx hb dX1_isFit_10 rfl (lv_at hl 1 rfl) ?_
      refine lv_if_ne (tgt := 28) hx hb dX1_isFit_11 (by decide) (fun c_11 => ?_) (fun c_11 => ?_)
      · refine lv_iload_n hx hb dX1_isFit_28 rfl (lv_at hl 1 rfl) ?_
        refine lv_bipush (v := nI 8) hx hb dX1_isFit_29 (by decide) ?_
        refine lv_icmp_eq (tgt := 40) hx hb dX1_isFit_31 (by decide) (fun c_31 => ?_) (fun c_31 => ?_)
        · refine lv_iload_n hx hb dX1_isFit_40 rfl (lv_at hl 2 rfl) ?_
          refine lv_if_lt (tgt := 49) hx hb dX1_isFit_41 (by decide) (fun c_41 => ?_) (fun c_41 => ?_)
          · refine lv_iconst (v := nI 0) hx hb dX1_isFit_49 (by decide) ?_
            exact ret _ _ (nI 0) () _ _ dX1_isFit_50 rfl (show nI 0 = nI (fitN o b) from by grind [badN, fitN, Int32.not_le, Int32.not_lt, nI_0]) hP hD hS
          · refine lv_iload_n hx hb dX1_isFit_44 rfl (lv_at hl 2 rfl) ?_
            refine lv_iconst (v := nI 3) hx hb dX1_isFit_45 (by decide) ?_
            refine lv_icmp_le (tgt := 51) hx hb dX1_isFit_46 (by decide) (fun c_46 => ?_) (fun c_46 => ?_)
            · refine lv_iload_n hx hb dX1_isFit_51 rfl (lv_at hl 1 rfl) ?_
              refine lv_bipush (v := nI 10) hx hb dX1_isFit_52 (by decide) ?_
              refine lv_icmp_eq (tgt := 63) hx hb dX1_isFit_54 (by decide) (fun c_54 => ?_) (fun c_54 => ?_)
              · refine lv_iload_n hx hb dX1_isFit_63 rfl (lv_at hl 2 rfl) ?_
                refine lv_if_lt (tgt := 77) hx hb dX1_isFit_64 (by decide) (fun c_64 => ?_) (fun c_64 => ?_)
                · refine lv_iconst (v := nI 0) hx hb dX1_isFit_77 (by decide) ?_
                  exact ret _ _ (nI 0) () _ _ dX1_isFit_78 rfl (show nI 0 = nI (fitN o b) from by grind [badN, fitN, Int32.not_le, Int32.not_lt, nI_0]) hP hD hS
                · refine lv_iload_n hx hb dX1_isFit_67 rfl (lv_at hl 2 rfl) ?_
                  refine lv_bipush (v := nI 20) hx hb dX1_isFit_68 (by decide) ?_
                  refine lv_icmp_gt (tgt := 77) hx hb dX1_isFit_70 (by decide) (fun c_70 => ?_) (fun c_70 => ?_)
                  · refine lv_iconst (v := nI 0) hx hb dX1_isFit_77 (by decide) ?_
                    exact ret _ _ (nI 0) () _ _ dX1_isFit_78 rfl (show nI 0 = nI (fitN o b) from by grind [badN, fitN, Int32.not_le, Int32.not_lt, nI_0]) hP hD hS
                  · refine lv_iconst (v := nI 1) hx hb dX1_isFit_73 (by decide) ?_
                    refine lv_goto (tgt := 78) hx hb dX1_isFit_74 (by decide) ?_
                    exact ret _ _ (nI 1) () _ _ dX1_isFit_78 rfl (show nI 1 = nI (fitN o b) from by grind [badN, fitN, Int32.not_le, Int32.not_lt, nI_0]) hP hD hS
              · refine lv_iload_n hx hb dX1_isFit_57 rfl (lv_at hl 1 rfl) ?_
                refine lv_bipush (v := nI 11) hx hb dX1_isFit_58 (by decide) ?_
                refine lv_icmp_ne (tgt := 73) hx hb dX1_isFit_60 (by decide) (fun c_60 => ?_) (fun c_60 => ?_)
                · refine lv_iconst (v := nI 1) hx hb dX1_isFit_73 (by decide) ?_
                  refine lv_goto (tgt := 78) hx hb dX1_isFit_74 (by decide) ?_
                  exact ret _ _ (nI 1) () _ _ dX1_isFit_78 rfl (show nI 1 = nI (fitN o b) from by grind [badN, fitN, Int32.not_le, Int32.not_lt, nI_0]) hP hD hS
                · refine lv_iload_n hx hb dX1_isFit_63 rfl (lv_at hl 2 rfl) ?_
                  refine lv_if_lt (tgt := 77) hx hb dX1_isFit_64 (by decide) (fun c_64 => ?_) (fun c_64 => ?_)
                  · refine lv_iconst (v := nI 0) hx hb dX1_isFit_77 (by decide) ?_
                    exact ret _ _ (nI 0) () _ _ dX1_isFit_78 rfl (show nI 0 = nI (fitN o b) from by grind [badN, fitN, Int32.not_le, Int32.not_lt, nI_0]) hP hD hS
                  · refine lv_iload_n hx hb dX1_isFit_67 rfl (lv_at hl 2 rfl) ?_
                    refine lv_bipush (v := nI 20) hx hb dX1_isFit_68 (by decide) ?_
                    refine lv_icmp_gt (tgt := 77) hx hb dX1_isFit_70 (by decide) (fun c_70 => ?_) (fun c_70 => ?_)
                    · refine lv_iconst (v := nI 0) hx hb dX1_isFit_77 (by decide) ?_
                      exact ret _ _ (nI 0) () _ _ dX1_isFit_78 rfl (show nI 0 = nI (fitN o b) from by grind [badN, fitN, Int32.not_le, Int32.not_lt, nI_0]) hP hD hS
                    · refine lv_iconst (v := nI 1) hx hb dX1_isFit_73 (by decide) ?_
                      refine lv_goto (tgt := 78) hx hb dX1_isFit_74 (by decide) ?_
                      exact ret _ _ (nI 1) () _ _ dX1_isFit_78 rfl (show nI 1 = nI (fitN o b) from by grind [badN, fitN, Int32.not_le, Int32.not_lt, nI_0]) hP hD hS
            · refine lv_iconst (v := nI 0) hx hb dX1_isFit_49 (by decide) ?_
              exact ret _ _ (nI 0) () _ _ dX1_isFit_50 rfl (show nI 0 = nI (fitN o b) from by grind [badN, fitN, Int32.not_le, Int32.not_lt, nI_0]) hP hD hS
        · refine lv_iload_n hx hb dX1_isFit_34 rfl (lv_at hl 1 rfl) ?_
          refine lv_bipush (v := nI 9) hx hb dX1_isFit_35 (by decide) ?_
          refine lv_icmp_ne (tgt := 51) hx hb dX1_isFit_37 (by decide) (fun c_37 => ?_) (fun c_37 => ?_)
          · refine lv_iload_n hx hb dX1_isFit_51 rfl (lv_at hl 1 rfl) ?_
            refine lv_bipush (v := nI 10) hx hb dX1_isFit_52 (by decide) ?_
            refine lv_icmp_eq (tgt := 63) hx hb dX1_isFit_54 (by decide) (fun c_54 => ?_) (fun c_54 => ?_)
            · refine lv_iload_n hx hb dX1_isFit_63 rfl (lv_at hl 2 rfl) ?_
              refine lv_if_lt (tgt := 77) hx hb dX1_isFit_64 (by decide) (fun c_64 => ?_) (fun c_64 => ?_)
              · refine lv_iconst (v := nI 0) hx hb dX1_isFit_77 (by decide) ?_
                exact ret _ _ (nI 0) () _ _ dX1_isFit_78 rfl (show nI 0 = nI (fitN o b) from by grind [badN, fitN, Int32.not_le, Int32.not_lt, nI_0]) hP hD hS
              · refine lv_iload_n hx hb dX1_isFit_67 rfl (lv_at hl 2 rfl) ?_
                refine lv_bipush (v := nI 20) hx hb dX1_isFit_68 (by decide) ?_
                refine lv_icmp_gt (tgt := 77) hx hb dX1_isFit_70 (by decide) (fun c_70 => ?_) (fun c_70 => ?_)
                · refine lv_iconst (v := nI 0) hx hb dX1_isFit_77 (by decide) ?_
                  exact ret _ _ (nI 0) () _ _ dX1_isFit_78 rfl (show nI 0 = nI (fitN o b) from by grind [badN, fitN, Int32.not_le, Int32.not_lt, nI_0]) hP hD hS
                · refine lv_iconst (v := nI 1) hx hb dX1_isFit_73 (by decide) ?_
                  refine lv_goto (tgt := 78) hx hb dX1_isFit_74 (by decide) ?_
                  exact ret _ _ (nI 1) () _ _ dX1_isFit_78 rfl (show nI 1 = nI (fitN o b) from by grind [badN, fitN, Int32.not_le, Int32.not_lt, nI_0]) hP hD hS
            · refine lv_iload_n hx hb dX1_isFit_57 rfl (lv_at hl 1 rfl) ?_
              refine lv_bipush (v := nI 11) hx hb dX1_isFit_58 (by decide) ?_
              refine lv_icmp_ne (tgt := 73) hx hb dX1_isFit_60 (by decide) (fun c_60 => ?_) (fun c_60 => ?_)
              · refine lv_iconst (v := nI 1) hx hb dX1_isFit_73 (by decide) ?_
                refine lv_goto (tgt := 78) hx hb dX1_isFit_74 (by decide) ?_
                exact ret _ _ (nI 1) () _ _ dX1_isFit_78 rfl (show nI 1 = nI (fitN o b) from by grind [badN, fitN, Int32.not_le, Int32.not_lt, nI_0]) hP hD hS
              · refine lv_iload_n hx hb dX1_isFit_63 rfl (lv_at hl 2 rfl) ?_
                refine lv_if_lt (tgt := 77) hx hb dX1_isFit_64 (by decide) (fun c_64 => ?_) (fun c_64 => ?_)
                · refine lv_iconst (v := nI 0) hx hb dX1_isFit_77 (by decide) ?_
                  exact ret _ _ (nI 0) () _ _ dX1_isFit_78 rfl (show nI 0 = nI (fitN o b) from by grind [badN, fitN, Int32.not_le, Int32.not_lt, nI_0]) hP hD hS
                · refine lv_iload_n hx hb dX1_isFit_67 rfl (lv_at hl 2 rfl) ?_
                  refine lv_bipush (v := nI 20) hx hb dX1_isFit_68 (by decide) ?_
                  refine lv_icmp_gt (tgt := 77) hx hb dX1_isFit_70 (by decide) (fun c_70 => ?_) (fun c_70 => ?_)
                  · refine lv_iconst (v := nI 0) hx hb dX1_isFit_77 (by decide) ?_
                    exact ret _ _ (nI 0) () _ _ dX1_isFit_78 rfl (show nI 0 = nI (fitN o b) from by grind [badN, fitN, Int32.not_le, Int32.not_lt, nI_0]) hP hD hS
                  · refine lv_iconst (v := nI 1) hx hb dX1_isFit_73 (by decide) ?_
                    refine lv_goto (tgt := 78) hx hb dX1_isFit_74 (by decide) ?_
                    exact ret _ _ (nI 1) () _ _ dX1_isFit_78 rfl (show nI 1 = nI (fitN o b) from by grind [badN, fitN, Int32.not_le, Int32.not_lt, nI_0]) hP hD hS
          · refine lv_iload_n hx hb dX1_isFit_40 rfl (lv_at hl 2 rfl) ?_
            refine lv_if_lt (tgt := 49) hx hb dX1_isFit_41 (by decide) (fun c_41 => ?_) (fun c_41 => ?_)
            · refine lv_iconst (v := nI 0) hx hb dX1_isFit_49 (by decide) ?_
              exact ret _ _ (nI 0) () _ _ dX1_isFit_50 rfl (show nI 0 = nI (fitN o b) from by grind [badN, fitN, Int32.not_le, Int32.not_lt, nI_0]) hP hD hS
            · refine lv_iload_n hx hb dX1_isFit_44 rfl (lv_at hl 2 rfl) ?_
              refine lv_iconst (v := nI 3) hx hb dX1_isFit_45 (by decide) ?_
              refine lv_icmp_le (tgt := 51) hx hb dX1_isFit_46 (by decide) (fun c_46 => ?_) (fun c_46 => ?_)
              · refine lv_iload_n hx hb dX1_isFit_51 rfl (lv_at hl 1 rfl) ?_
                refine lv_bipush (v := nI 10) hx hb dX1_isFit_52 (by decide) ?_
                refine lv_icmp_eq (tgt := 63) hx hb dX1_isFit_54 (by decide) (fun c_54 => ?_) (fun c_54 => ?_)
                · refine lv_iload_n hx hb dX1_isFit_63 rfl (lv_at hl 2 rfl) ?_
                  refine lv_if_lt (tgt := 77) hx hb dX1_isFit_64 (by decide) (fun c_64 => ?_) (fun c_64 => ?_)
                  · refine lv_iconst (v := nI 0) hx hb dX1_isFit_77 (by decide) ?_
                    exact ret _ _ (nI 0) () _ _ dX1_isFit_78 rfl (show nI 0 = nI (fitN o b) from by grind [badN, fitN, Int32.not_le, Int32.not_lt, nI_0]) hP hD hS
                  · refine lv_iload_n hx hb dX1_isFit_67 rfl (lv_at hl 2 rfl) ?_
                    refine lv_bipush (v := nI 20) hx hb dX1_isFit_68 (by decide) ?_
                    refine lv_icmp_gt (tgt := 77) hx hb dX1_isFit_70 (by decide) (fun c_70 => ?_) (fun c_70 => ?_)
                    · refine lv_iconst (v := nI 0) hx hb dX1_isFit_77 (by decide) ?_
                      exact ret _ _ (nI 0) () _ _ dX1_isFit_78 rfl (show nI 0 = nI (fitN o b) from by grind [badN, fitN, Int32.not_le, Int32.not_lt, nI_0]) hP hD hS
                    · refine lv_iconst (v := nI 1) hx hb dX1_isFit_73 (by decide) ?_
                      refine lv_goto (tgt := 78) hx hb dX1_isFit_74 (by decide) ?_
                      exact ret _ _ (nI 1) () _ _ dX1_isFit_78 rfl (show nI 1 = nI (fitN o b) from by grind [badN, fitN, Int32.not_le, Int32.not_lt, nI_0]) hP hD hS
                · refine lv_iload_n hx hb dX1_isFit_57 rfl (lv_at hl 1 rfl) ?_
                  refine lv_bipush (v := nI 11) hx hb dX1_isFit_58 (by decide) ?_
                  refine lv_icmp_ne (tgt := 73) hx hb dX1_isFit_60 (by decide) (fun c_60 => ?_) (fun c_60 => ?_)
                  · refine lv_iconst (v := nI 1) hx hb dX1_isFit_73 (by decide) ?_
                    refine lv_goto (tgt := 78) hx hb dX1_isFit_74 (by decide) ?_
                    exact ret _ _ (nI 1) () _ _ dX1_isFit_78 rfl (show nI 1 = nI (fitN o b) from by grind [badN, fitN, Int32.not_le, Int32.not_lt, nI_0]) hP hD hS
                  · refine lv_iload_n hx hb dX1_isFit_63 rfl (lv_at hl 2 rfl) ?_
                    refine lv_if_lt (tgt := 77) hx hb dX1_isFit_64 (by decide) (fun c_64 => ?_) (fun c_64 => ?_)
                    · refine lv_iconst (v := nI 0) hx hb dX1_isFit_77 (by decide) ?_
                      exact ret _ _ (nI 0) () _ _ dX1_isFit_78 rfl (show nI 0 = nI (fitN o b) from by grind [badN, fitN, Int32.not_le, Int32.not_lt, nI_0]) hP hD hS
                    · refine lv_iload_n hx hb dX1_isFit_67 rfl (lv_at hl 2 rfl) ?_
                      refine lv_bipush (v := nI 20) hx hb dX1_isFit_68 (by decide) ?_
                      refine lv_icmp_gt (tgt := 77) hx hb dX1_isFit_70 (by decide) (fun c_70 => ?_) (fun c_70 => ?_)
                      · refine lv_iconst (v := nI 0) hx hb dX1_isFit_77 (by decide) ?_
                        exact ret _ _ (nI 0) () _ _ dX1_isFit_78 rfl (show nI 0 = nI (fitN o b) from by grind [badN, fitN, Int32.not_le, Int32.not_lt, nI_0]) hP hD hS
                      · refine lv_iconst (v := nI 1) hx hb dX1_isFit_73 (by decide) ?_
                        refine lv_goto (tgt := 78) hx hb dX1_isFit_74 (by decide) ?_
                        exact ret _ _ (nI 1) () _ _ dX1_isFit_78 rfl (show nI 1 = nI (fitN o b) from by grind [badN, fitN, Int32.not_le, Int32.not_lt, nI_0]) hP hD hS
              · refine lv_iconst (v := nI 0) hx hb dX1_isFit_49 (by decide) ?_
                exact ret _ _ (nI 0) () _ _ dX1_isFit_50 rfl (show nI 0 = nI (fitN o b) from by grind [badN, fitN, Int32.not_le, Int32.not_lt, nI_0]) hP hD hS
      · refine lv_iload_n hx hb dX1_isFit_14 rfl (lv_at hl 2 rfl) ?_
        refine lv_bipush (v := (-100)) hx hb dX1_isFit_15 (by decide) ?_
        refine lv_icmp_lt (tgt := 26) hx hb dX1_isFit_17 (by decide) (fun c_17 => ?_) (fun c_17 => ?_)
        · refine lv_iconst (v := nI 0) hx hb dX1_isFit_26 (by decide) ?_
          exact ret _ _ (nI 0) () _ _ dX1_isFit_27 rfl (show nI 0 = nI (fitN o b) from by grind [badN, fitN, Int32.not_le, Int32.not_lt, nI_0]) hP hD hS
        · refine lv_iload_n hx hb dX1_isFit_20 rfl (lv_at hl 2 rfl) ?_
          refine lv_bipush (v := nI 100) hx hb dX1_isFit_21 (by decide) ?_
          refine lv_icmp_le (tgt := 28) hx hb dX1_isFit_23 (by decide) (fun c_23 => ?_) (fun c_23 => ?_)
          · refine lv_iload_n hx hb dX1_isFit_28 rfl (lv_at hl 1 rfl) ?_
            refine lv_bipush (v := nI 8) hx hb dX1_isFit_29 (by decide) ?_
            refine lv_icmp_eq (tgt := 40) hx hb dX1_isFit_31 (by decide) (fun c_31 => ?_) (fun c_31 => ?_)
            · refine lv_iload_n hx hb dX1_isFit_40 rfl (lv_at hl 2 rfl) ?_
              refine lv_if_lt (tgt := 49) hx hb dX1_isFit_41 (by decide) (fun c_41 => ?_) (fun c_41 => ?_)
              · refine lv_iconst (v := nI 0) hx hb dX1_isFit_49 (by decide) ?_
                exact ret _ _ (nI 0) () _ _ dX1_isFit_50 rfl (show nI 0 = nI (fitN o b) from by grind [badN, fitN, Int32.not_le, Int32.not_lt, nI_0]) hP hD hS
              · refine lv_iload_n hx hb dX1_isFit_44 rfl (lv_at hl 2 rfl) ?_
                refine lv_iconst (v := nI 3) hx hb dX1_isFit_45 (by decide) ?_
                refine lv_icmp_le (tgt := 51) hx hb dX1_isFit_46 (by decide) (fun c_46 => ?_) (fun c_46 => ?_)
                · refine lv_iload_n hx hb dX1_isFit_51 rfl (lv_at hl 1 rfl) ?_
                  refine lv_bipush (v := nI 10) hx hb dX1_isFit_52 (by decide) ?_
                  refine lv_icmp_eq (tgt := 63) hx hb dX1_isFit_54 (by decide) (fun c_54 => ?_) (fun c_54 => ?_)
                  · refine lv_iload_n hx hb dX1_isFit_63 rfl (lv_at hl 2 rfl) ?_
                    refine lv_if_lt (tgt := 77) hx hb dX1_isFit_64 (by decide) (fun c_64 => ?_) (fun c_64 => ?_)
                    · refine lv_iconst (v := nI 0) hx hb dX1_isFit_77 (by decide) ?_
                      exact ret _ _ (nI 0) () _ _ dX1_isFit_78 rfl (show nI 0 = nI (fitN o b) from by grind [badN, fitN, Int32.not_le, Int32.not_lt, nI_0]) hP hD hS
                    · refine lv_iload_n hx hb dX1_isFit_67 rfl (lv_at hl 2 rfl) ?_
                      refine lv_bipush (v := nI 20) hx hb dX1_isFit_68 (by decide) ?_
                      refine lv_icmp_gt (tgt := 77) hx hb dX1_isFit_70 (by decide) (fun c_70 => ?_) (fun c_70 => ?_)
                      · refine lv_iconst (v := nI 0) hx hb dX1_isFit_77 (by decide) ?_
                        exact ret _ _ (nI 0) () _ _ dX1_isFit_78 rfl (show nI 0 = nI (fitN o b) from by grind [badN, fitN, Int32.not_le, Int32.not_lt, nI_0]) hP hD hS
                      · refine lv_iconst (v := nI 1) hx hb dX1_isFit_73 (by decide) ?_
                        refine lv_goto (tgt := 78) hx hb dX1_isFit_74 (by decide) ?_
                        exact ret _ _ (nI 1) () _ _ dX1_isFit_78 rfl (show nI 1 = nI (fitN o b) from by grind [badN, fitN, Int32.not_le, Int32.not_lt, nI_0]) hP hD hS
                  · refine lv_iload_n hx hb dX1_isFit_57 rfl (lv_at hl 1 rfl) ?_
                    refine lv_bipush (v := nI 11) hx hb dX1_isFit_58 (by decide) ?_
                    refine lv_icmp_ne (tgt := 73) hx hb dX1_isFit_60 (by decide) (fun c_60 => ?_) (fun c_60 => ?_)
                    · refine lv_iconst (v := nI 1) hx hb dX1_isFit_73 (by decide) ?_
                      refine lv_goto (tgt := 78) hx hb dX1_isFit_74 (by decide) ?_
                      exact ret _ _ (nI 1) () _ _ dX1_isFit_78 rfl (show nI 1 = nI (fitN o b) from by grind [badN, fitN, Int32.not_le, Int32.not_lt, nI_0]) hP hD hS
                    · refine lv_iload_n hx hb dX1_isFit_63 rfl (lv_at hl 2 rfl) ?_
                      refine lv_if_lt (tgt := 77) hx hb dX1_isFit_64 (by decide) (fun c_64 => ?_) (fun c_64 => ?_)
                      · refine lv_iconst (v := nI 0) hx hb dX1_isFit_77 (by decide) ?_
                        exact ret _ _ (nI 0) () _ _ dX1_isFit_78 rfl (show nI 0 = nI (fitN o b) from by grind [badN, fitN, Int32.not_le, Int32.not_lt, nI_0]) hP hD hS
                      · refine lv_iload_n hx hb dX1_isFit_67 rfl (lv_at hl 2 rfl) ?_
                        refine lv_bipush (v := nI 20) hx hb dX1_isFit_68 (by decide) ?_
                        refine lv_icmp_gt (tgt := 77) hx hb dX1_isFit_70 (by decide) (fun c_70 => ?_) (fun c_70 => ?_)
                        · refine lv_iconst (v := nI 0) hx hb dX1_isFit_77 (by decide) ?_
                          exact ret _ _ (nI 0) () _ _ dX1_isFit_78 rfl (show nI 0 = nI (fitN o b) from by grind [badN, fitN, Int32.not_le, Int32.not_lt, nI_0]) hP hD hS
                        · refine lv_iconst (v := nI 1) hx hb dX1_isFit_73 (by decide) ?_
                          refine lv_goto (tgt := 78) hx hb dX1_isFit_74 (by decide) ?_
                          exact ret _ _ (nI 1) () _ _ dX1_isFit_78 rfl (show nI 1 = nI (fitN o b) from by grind [badN, fitN, Int32.not_le, Int32.not_lt, nI_0]) hP hD hS
                · refine lv_iconst (v := nI 0) hx hb dX1_isFit_49 (by decide) ?_
                  exact ret _ _ (nI 0) () _ _ dX1_isFit_50 rfl (show nI 0 = nI (fitN o b) from by grind [badN, fitN, Int32.not_le, Int32.not_lt, nI_0]) hP hD hS
            · refine lv_iload_n hx hb dX1_isFit_34 rfl (lv_at hl 1 rfl) ?_
              refine lv_bipush (v := nI 9) hx hb dX1_isFit_35 (by decide) ?_
              refine lv_icmp_ne (tgt := 51) hx hb dX1_isFit_37 (by decide) (fun c_37 => ?_) (fun c_37 => ?_)
              · refine lv_iload_n hx hb dX1_isFit_51 rfl (lv_at hl 1 rfl) ?_
                refine lv_bipush (v := nI 10) hx hb dX1_isFit_52 (by decide) ?_
                refine lv_icmp_eq (tgt := 63) hx hb dX1_isFit_54 (by decide) (fun c_54 => ?_) (fun c_54 => ?_)
                · refine lv_iload_n hx hb dX1_isFit_63 rfl (lv_at hl 2 rfl) ?_
                  refine lv_if_lt (tgt := 77) hx hb dX1_isFit_64 (by decide) (fun c_64 => ?_) (fun c_64 => ?_)
                  · refine lv_iconst (v := nI 0) hx hb dX1_isFit_77 (by decide) ?_
                    exact ret _ _ (nI 0) () _ _ dX1_isFit_78 rfl (show nI 0 = nI (fitN o b) from by grind [badN, fitN, Int32.not_le, Int32.not_lt, nI_0]) hP hD hS
                  · refine lv_iload_n hx hb dX1_isFit_67 rfl (lv_at hl 2 rfl) ?_
                    refine lv_bipush (v := nI 20) hx hb dX1_isFit_68 (by decide) ?_
                    refine lv_icmp_gt (tgt := 77) hx hb dX1_isFit_70 (by decide) (fun c_70 => ?_) (fun c_70 => ?_)
                    · refine lv_iconst (v := nI 0) hx hb dX1_isFit_77 (by decide) ?_
                      exact ret _ _ (nI 0) () _ _ dX1_isFit_78 rfl (show nI 0 = nI (fitN o b) from by grind [badN, fitN, Int32.not_le, Int32.not_lt, nI_0]) hP hD hS
                    · refine lv_iconst (v := nI 1) hx hb dX1_isFit_73 (by decide) ?_
                      refine lv_goto (tgt := 78) hx hb dX1_isFit_74 (by decide) ?_
                      exact ret _ _ (nI 1) () _ _ dX1_isFit_78 rfl (show nI 1 = nI (fitN o b) from by grind [badN, fitN, Int32.not_le, Int32.not_lt, nI_0]) hP hD hS
                · refine lv_iload_n hx hb dX1_isFit_57 rfl (lv_at hl 1 rfl) ?_
                  refine lv_bipush (v := nI 11) hx hb dX1_isFit_58 (by decide) ?_
                  refine lv_icmp_ne (tgt := 73) hx hb dX1_isFit_60 (by decide) (fun c_60 => ?_) (fun c_60 => ?_)
                  · refine lv_iconst (v := nI 1) hx hb dX1_isFit_73 (by decide) ?_
                    refine lv_goto (tgt := 78) hx hb dX1_isFit_74 (by decide) ?_
                    exact ret _ _ (nI 1) () _ _ dX1_isFit_78 rfl (show nI 1 = nI (fitN o b) from by grind [badN, fitN, Int32.not_le, Int32.not_lt, nI_0]) hP hD hS
                  · refine lv_iload_n hx hb dX1_isFit_63 rfl (lv_at hl 2 rfl) ?_
                    refine lv_if_lt (tgt := 77) hx hb dX1_isFit_64 (by decide) (fun c_64 => ?_) (fun c_64 => ?_)
                    · refine lv_iconst (v := nI 0) hx hb dX1_isFit_77 (by decide) ?_
                      exact ret _ _ (nI 0) () _ _ dX1_isFit_78 rfl (show nI 0 = nI (fitN o b) from by grind [badN, fitN, Int32.not_le, Int32.not_lt, nI_0]) hP hD hS
                    · refine lv_iload_n hx hb dX1_isFit_67 rfl (lv_at hl 2 rfl) ?_
                      refine lv_bipush (v := nI 20) hx hb dX1_isFit_68 (by decide) ?_
                      refine lv_icmp_gt (tgt := 77) hx hb dX1_isFit_70 (by decide) (fun c_70 => ?_) (fun c_70 => ?_)
                      · refine lv_iconst (v := nI 0) hx hb dX1_isFit_77 (by decide) ?_
                        exact ret _ _ (nI 0) () _ _ dX1_isFit_78 rfl (show nI 0 = nI (fitN o b) from by grind [badN, fitN, Int32.not_le, Int32.not_lt, nI_0]) hP hD hS
                      · refine lv_iconst (v := nI 1) hx hb dX1_isFit_73 (by decide) ?_
                        refine lv_goto (tgt := 78) hx hb dX1_isFit_74 (by decide) ?_
                        exact ret _ _ (nI 1) () _ _ dX1_isFit_78 rfl (show nI 1 = nI (fitN o b) from by grind [badN, fitN, Int32.not_le, Int32.not_lt, nI_0]) hP hD hS
              · refine lv_iload_n hx hb dX1_isFit_40 rfl (lv_at hl 2 rfl) ?_
                refine lv_if_lt (tgt := 49) hx hb dX1_isFit_41 (by decide) (fun c_41 => ?_) (fun c_41 => ?_)
                · refine lv_iconst (v := nI 0) hx hb dX1_isFit_49 (by decide) ?_
                  exact ret _ _ (nI 0) () _ _ dX1_isFit_50 rfl (show nI 0 = nI (fitN o b) from by grind [badN, fitN, Int32.not_le, Int32.not_lt, nI_0]) hP hD hS
                · refine lv_iload_n hx hb dX1_isFit_44 rfl (lv_at hl 2 rfl) ?_
                  refine lv_iconst (v := nI 3) hx hb dX1_isFit_45 (by decide) ?_
                  refine lv_icmp_le (tgt := 51) hx hb dX1_isFit_46 (by decide) (fun c_46 => ?_) (fun c_46 => ?_)
                  · refine lv_iload_n hx hb dX1_isFit_51 rfl (lv_at hl 1 rfl) ?_
                    refine lv_bipush (v := nI 10) hx hb dX1_isFit_52 (by decide) ?_
                    refine lv_icmp_eq (tgt := 63) hx hb dX1_isFit_54 (by decide) (fun c_54 => ?_) (fun c_54 => ?_)
                    · refine lv_iload_n hx hb dX1_isFit_63 rfl (lv_at hl 2 rfl) ?_
                      refine lv_if_lt (tgt := 77) hx hb dX1_isFit_64 (by decide) (fun c_64 => ?_) (fun c_64 => ?_)
                      · refine lv_iconst (v := nI 0) hx hb dX1_isFit_77 (by decide) ?_
                        exact ret _ _ (nI 0) () _ _ dX1_isFit_78 rfl (show nI 0 = nI (fitN o b) from by grind [badN, fitN, Int32.not_le, Int32.not_lt, nI_0]) hP hD hS
                      · refine lv_iload_n hx hb dX1_isFit_67 rfl (lv_at hl 2 rfl) ?_
                        refine lv_bipush (v := nI 20) hx hb dX1_isFit_68 (by decide) ?_
                        refine lv_icmp_gt (tgt := 77) hx hb dX1_isFit_70 (by decide) (fun c_70 => ?_) (fun c_70 => ?_)
                        · refine lv_iconst (v := nI 0) hx hb dX1_isFit_77 (by decide) ?_
                          exact ret _ _ (nI 0) () _ _ dX1_isFit_78 rfl (show nI 0 = nI (fitN o b) from by grind [badN, fitN, Int32.not_le, Int32.not_lt, nI_0]) hP hD hS
                        · refine lv_iconst (v := nI 1) hx hb dX1_isFit_73 (by decide) ?_
                          refine lv_goto (tgt := 78) hx hb dX1_isFit_74 (by decide) ?_
                          exact ret _ _ (nI 1) () _ _ dX1_isFit_78 rfl (show nI 1 = nI (fitN o b) from by grind [badN, fitN, Int32.not_le, Int32.not_lt, nI_0]) hP hD hS
                    · refine lv_iload_n hx hb dX1_isFit_57 rfl (lv_at hl 1 rfl) ?_
                      refine lv_bipush (v := nI 11) hx hb dX1_isFit_58 (by decide) ?_
                      refine lv_icmp_ne (tgt := 73) hx hb dX1_isFit_60 (by decide) (fun c_60 => ?_) (fun c_60 => ?_)
                      · refine lv_iconst (v := nI 1) hx hb dX1_isFit_73 (by decide) ?_
                        refine lv_goto (tgt := 78) hx hb dX1_isFit_74 (by decide) ?_
                        exact ret _ _ (nI 1) () _ _ dX1_isFit_78 rfl (show nI 1 = nI (fitN o b) from by grind [badN, fitN, Int32.not_le, Int32.not_lt, nI_0]) hP hD hS
                      · refine lv_iload_n hx hb dX1_isFit_63 rfl (lv_at hl 2 rfl) ?_
                        refine lv_if_lt (tgt := 77) hx hb dX1_isFit_64 (by decide) (fun c_64 => ?_) (fun c_64 => ?_)
                        · refine lv_iconst (v := nI 0) hx hb dX1_isFit_77 (by decide) ?_
                          exact ret _ _ (nI 0) () _ _ dX1_isFit_78 rfl (show nI 0 = nI (fitN o b) from by grind [badN, fitN, Int32.not_le, Int32.not_lt, nI_0]) hP hD hS
                        · refine lv_iload_n hx hb dX1_isFit_67 rfl (lv_at hl 2 rfl) ?_
                          refine lv_bipush (v := nI 20) hx hb dX1_isFit_68 (by decide) ?_
                          refine lv_icmp_gt (tgt := 77) hx hb dX1_isFit_70 (by decide) (fun c_70 => ?_) (fun c_70 => ?_)
                          · refine lv_iconst (v := nI 0) hx hb dX1_isFit_77 (by decide) ?_
                            exact ret _ _ (nI 0) () _ _ dX1_isFit_78 rfl (show nI 0 = nI (fitN o b) from by grind [badN, fitN, Int32.not_le, Int32.not_lt, nI_0]) hP hD hS
                          · refine lv_iconst (v := nI 1) hx hb dX1_isFit_73 (by decide) ?_
                            refine lv_goto (tgt := 78) hx hb dX1_isFit_74 (by decide) ?_
                            exact ret _ _ (nI 1) () _ _ dX1_isFit_78 rfl (show nI 1 = nI (fitN o b) from by grind [badN, fitN, Int32.not_le, Int32.not_lt, nI_0]) hP hD hS
                  · refine lv_iconst (v := nI 0) hx hb dX1_isFit_49 (by decide) ?_
                    exact ret _ _ (nI 0) () _ _ dX1_isFit_50 rfl (show nI 0 = nI (fitN o b) from by grind [badN, fitN, Int32.not_le, Int32.not_lt, nI_0]) hP hD hS
          · refine lv_iconst (v := nI 0) hx hb dX1_isFit_26 (by decide) ?_
            exact ret _ _ (nI 0) () _ _ dX1_isFit_27 rfl (show nI 0 = nI (fitN o b) from by grind [badN, fitN, Int32.not_le, Int32.not_lt, nI_0]) hP hD hS
set_option maxHeartbeats 4000000 in
set_option maxRecDepth 100000 in
theorem metM_traps (l : Launch) (D : va_G) (d : ClassId) (h : Nat) (r : Nat → Nat) (op : vF) (nu : vF) (sz : Nat) (va : vF) (pi : vF) (hg : Nat) (ga : Nat) (en : Nat) (nx : Nat) (dn : Nat) (sp : Nat) (kv : vF) (kp : vF) (k : Nat) (hk : k ≤ 14) (hh : hg ≤ 8) : MetI l yX1_traps cX1_traps 4 .boolean D d [.ref h, .int (nI k)] (wM h r d op nu sz va pi hg ga en nx dn sp kv kp) (rmG 0) (fun (a : Int32) (_ : Unit) => a = nI (trN k hg)) (fun _ : Unit => wM h r d op nu sz va pi hg ga en nx dn sp kv kp) := by
  refine gm_startI (own := RX1) (by decide +kernel) rfl (Nat.le_of_ble_eq_true rfl) ?_
  intro p e s m below meth c A H locs Q ls K hl hP hD hS ret
  have hx := K.1
  have hb := K.2.1
  have hl : lv_has ls 4 [(0, .ref h), (1, .int (nI k))] := hl
  have htk := tkN_lt k
  have hpu := trN_pu k hg hk hh
  have J54 : W p l e (rmG 0) s m ([.ref h, .int (nI k)] : List Value).toArray below meth c H locs 0 0 Q (F0 m 54 ls [.int (nI (tkN k))]) := by
    refine lv_istore_n (lv' := [(2, .int (nI (tkN k))), (0, .ref h), (1, .int (nI k))]) hx hb dX1_traps_54 rfl hl (by decide) rfl (fun ls hl => ?_)
    have J81 : W p l e (rmG 0) s m ([.ref h, .int (nI k)] : List Value).toArray below meth c H locs 0 0 Q (F0 m 81 ls [.int (nI (puN k))]) := by
      refine lv_istore_n (lv' := [(3, .int (nI (puN k))), (2, .int (nI (tkN k))), (0, .ref h), (1, .int (nI k))]) hx hb dX1_traps_81 rfl hl (by decide) rfl (fun ls hl => ?_)
      refine lv_aload_n hx hb dX1_traps_82 rfl (lv_at hl 2 rfl) ?_
      refine yg_hg K hP dX1_traps_83 ?_
      refine lv_iload_n hx hb dX1_traps_86 rfl (lv_at hl 1 rfl) ?_
      refine gb_lt (tgt := 103) hx hb dX1_traps_87 (by decide) (by omega) (by omega) (fun c_87 => ?_) (fun c_87 => ?_)
      · refine lv_iconst (v := nI 1) hx hb dX1_traps_103 (by decide) ?_
        refine lv_goto (tgt := 108) hx hb dX1_traps_104 (by decide) ?_
        exact ret _ _ (nI 1) () _ _ dX1_traps_108 rfl (show nI 1 = nI (trN k hg) from by unfold trN puN at *; grind) hP hD hS
      · refine lv_iload_n hx hb dX1_traps_90 rfl (lv_at hl 0 rfl) ?_
        refine gz_eq (tgt := 107) hx hb dX1_traps_91 (by decide) (puN_lt k) (fun c_91 => ?_) (fun c_91 => ?_)
        · refine lv_iconst (v := nI 0) hx hb dX1_traps_107 (by decide) ?_
          exact ret _ _ (nI 0) () _ _ dX1_traps_108 rfl (show nI 0 = nI (trN k hg) from by unfold trN puN at *; grind) hP hD hS
        · refine lv_aload_n hx hb dX1_traps_94 rfl (lv_at hl 2 rfl) ?_
          refine yg_hg K hP dX1_traps_95 ?_
          refine lv_bipush (v := nI 8) hx hb dX1_traps_98 (by decide) ?_
          refine gb_ne (tgt := 107) hx hb dX1_traps_100 (by decide) (by omega) (by omega) (fun c_100 => ?_) (fun c_100 => ?_)
          · refine lv_iconst (v := nI 0) hx hb dX1_traps_107 (by decide) ?_
            exact ret _ _ (nI 0) () _ _ dX1_traps_108 rfl (show nI 0 = nI (trN k hg) from by unfold trN puN at *; grind) hP hD hS
          · refine lv_iconst (v := nI 1) hx hb dX1_traps_103 (by decide) ?_
            refine lv_goto (tgt := 108) hx hb dX1_traps_104 (by decide) ?_
            exact ret _ _ (nI 1) () _ _ dX1_traps_108 rfl (show nI 1 = nI (trN k hg) from by unfold trN puN at *; grind) hP hD hS
    refine lv_iload_n hx hb dX1_traps_55 rfl (lv_at hl 2 rfl) ?_
    refine gz_eq (tgt := 76) hx hb dX1_traps_56 (by decide) (by omega) (fun c_56 => ?_) (fun c_56 => ?_)
    · refine lv_iconst (v := nI 1) hx hb dX1_traps_76 (by decide) ?_
      refine lv_goto (tgt := 81) hx hb dX1_traps_77 (by decide) ?_
      exact gi_tp (by unfold puN; grind) J81
    · refine lv_iload_n hx hb dX1_traps_59 rfl (lv_at hl 2 rfl) ?_
      refine lv_iconst (v := nI 5) hx hb dX1_traps_60 (by decide) ?_
      refine gb_eq (tgt := 76) hx hb dX1_traps_61 (by decide) (by omega) (by omega) (fun c_61 => ?_) (fun c_61 => ?_)
      · refine lv_iconst (v := nI 1) hx hb dX1_traps_76 (by decide) ?_
        refine lv_goto (tgt := 81) hx hb dX1_traps_77 (by decide) ?_
        exact gi_tp (by unfold puN; grind) J81
      · refine lv_iload_n hx hb dX1_traps_64 rfl (lv_at hl 2 rfl) ?_
        refine lv_bipush (v := nI 8) hx hb dX1_traps_65 (by decide) ?_
        refine gb_eq (tgt := 76) hx hb dX1_traps_67 (by decide) (by omega) (by omega) (fun c_67 => ?_) (fun c_67 => ?_)
        · refine lv_iconst (v := nI 1) hx hb dX1_traps_76 (by decide) ?_
          refine lv_goto (tgt := 81) hx hb dX1_traps_77 (by decide) ?_
          exact gi_tp (by unfold puN; grind) J81
        · refine lv_iload_n hx hb dX1_traps_70 rfl (lv_at hl 2 rfl) ?_
          refine lv_bipush (v := nI 13) hx hb dX1_traps_71 (by decide) ?_
          refine gb_ne (tgt := 80) hx hb dX1_traps_73 (by decide) (by omega) (by omega) (fun c_73 => ?_) (fun c_73 => ?_)
          · refine lv_iconst (v := nI 0) hx hb dX1_traps_80 (by decide) ?_
            exact gi_tp (by unfold puN; grind) J81
          · refine lv_iconst (v := nI 1) hx hb dX1_traps_76 (by decide) ?_
            refine lv_goto (tgt := 81) hx hb dX1_traps_77 (by decide) ?_
            exact gi_tp (by unfold puN; grind) J81
  refine lv_iload_n hx hb dX1_traps_0 rfl (lv_at hl 1 rfl) ?_
  refine lv_iconst (v := nI 1) hx hb dX1_traps_1 (by decide) ?_
  refine gb_lt (tgt := 10) hx hb dX1_traps_2 (by decide) (by omega) (by omega) (fun c_2 => ?_) (fun c_2 => ?_)
  · refine lv_iload_n hx hb dX1_traps_10 rfl (lv_at hl 1 rfl) ?_
    refine lv_bipush (v := nI 6) hx hb dX1_traps_11 (by decide) ?_
    refine gb_ne (tgt := 20) hx hb dX1_traps_13 (by decide) (by omega) (by omega) (fun c_13 => ?_) (fun c_13 => ?_)
    · refine lv_iload_n hx hb dX1_traps_20 rfl (lv_at hl 1 rfl) ?_
      refine lv_iconst (v := nI 5) hx hb dX1_traps_21 (by decide) ?_
      refine gb_eq (tgt := 49) hx hb dX1_traps_22 (by decide) (by omega) (by omega) (fun c_22 => ?_) (fun c_22 => ?_)
      · refine lv_iconst (v := nI 1) hx hb dX1_traps_49 (by decide) ?_
        refine lv_goto (tgt := 54) hx hb dX1_traps_50 (by decide) ?_
        exact gi_tp (by unfold tkN; grind) J54
      · refine lv_iload_n hx hb dX1_traps_25 rfl (lv_at hl 1 rfl) ?_
        refine lv_bipush (v := nI 7) hx hb dX1_traps_26 (by decide) ?_
        refine gb_eq (tgt := 49) hx hb dX1_traps_28 (by decide) (by omega) (by omega) (fun c_28 => ?_) (fun c_28 => ?_)
        · refine lv_iconst (v := nI 1) hx hb dX1_traps_49 (by decide) ?_
          refine lv_goto (tgt := 54) hx hb dX1_traps_50 (by decide) ?_
          exact gi_tp (by unfold tkN; grind) J54
        · refine lv_iload_n hx hb dX1_traps_31 rfl (lv_at hl 1 rfl) ?_
          refine lv_bipush (v := nI 9) hx hb dX1_traps_32 (by decide) ?_
          refine gb_eq (tgt := 49) hx hb dX1_traps_34 (by decide) (by omega) (by omega) (fun c_34 => ?_) (fun c_34 => ?_)
          · refine lv_iconst (v := nI 1) hx hb dX1_traps_49 (by decide) ?_
            refine lv_goto (tgt := 54) hx hb dX1_traps_50 (by decide) ?_
            exact gi_tp (by unfold tkN; grind) J54
          · refine lv_iload_n hx hb dX1_traps_37 rfl (lv_at hl 1 rfl) ?_
            refine lv_bipush (v := nI 11) hx hb dX1_traps_38 (by decide) ?_
            refine gb_eq (tgt := 49) hx hb dX1_traps_40 (by decide) (by omega) (by omega) (fun c_40 => ?_) (fun c_40 => ?_)
            · refine lv_iconst (v := nI 1) hx hb dX1_traps_49 (by decide) ?_
              refine lv_goto (tgt := 54) hx hb dX1_traps_50 (by decide) ?_
              exact gi_tp (by unfold tkN; grind) J54
            · refine lv_iload_n hx hb dX1_traps_43 rfl (lv_at hl 1 rfl) ?_
              refine lv_bipush (v := nI 12) hx hb dX1_traps_44 (by decide) ?_
              refine gb_ne (tgt := 53) hx hb dX1_traps_46 (by decide) (by omega) (by omega) (fun c_46 => ?_) (fun c_46 => ?_)
              · refine lv_iconst (v := nI 0) hx hb dX1_traps_53 (by decide) ?_
                exact gi_tp (by unfold tkN; grind) J54
              · refine lv_iconst (v := nI 1) hx hb dX1_traps_49 (by decide) ?_
                refine lv_goto (tgt := 54) hx hb dX1_traps_50 (by decide) ?_
                exact gi_tp (by unfold tkN; grind) J54
    · refine lv_iconst (v := nI 2) hx hb dX1_traps_16 (by decide) ?_
      refine lv_goto (tgt := 54) hx hb dX1_traps_17 (by decide) ?_
      exact gi_tp (by unfold tkN; grind) J54
  · refine lv_iload_n hx hb dX1_traps_5 rfl (lv_at hl 1 rfl) ?_
    refine lv_iconst (v := nI 4) hx hb dX1_traps_6 (by decide) ?_
    refine gb_le (tgt := 16) hx hb dX1_traps_7 (by decide) (by omega) (by omega) (fun c_7 => ?_) (fun c_7 => ?_)
    · refine lv_iconst (v := nI 2) hx hb dX1_traps_16 (by decide) ?_
      refine lv_goto (tgt := 54) hx hb dX1_traps_17 (by decide) ?_
      exact gi_tp (by unfold tkN; grind) J54
    · refine lv_iload_n hx hb dX1_traps_10 rfl (lv_at hl 1 rfl) ?_
      refine lv_bipush (v := nI 6) hx hb dX1_traps_11 (by decide) ?_
      refine gb_ne (tgt := 20) hx hb dX1_traps_13 (by decide) (by omega) (by omega) (fun c_13 => ?_) (fun c_13 => ?_)
      · refine lv_iload_n hx hb dX1_traps_20 rfl (lv_at hl 1 rfl) ?_
        refine lv_iconst (v := nI 5) hx hb dX1_traps_21 (by decide) ?_
        refine gb_eq (tgt := 49) hx hb dX1_traps_22 (by decide) (by omega) (by omega) (fun c_22 => ?_) (fun c_22 => ?_)
        · refine lv_iconst (v := nI 1) hx hb dX1_traps_49 (by decide) ?_
          refine lv_goto (tgt := 54) hx hb dX1_traps_50 (by decide) ?_
          exact gi_tp (by unfold tkN; grind) J54
        · refine lv_iload_n hx hb dX1_traps_25 rfl (lv_at hl 1 rfl) ?_
          refine lv_bipush (v := nI 7) hx hb dX1_traps_26 (by decide) ?_
          refine gb_eq (tgt := 49) hx hb dX1_traps_28 (by decide) (by omega) (by omega) (fun c_28 => ?_) (fun c_28 => ?_)
          · refine lv_iconst (v := nI 1) hx hb dX1_traps_49 (by decide) ?_
            refine lv_goto (tgt := 54) hx hb dX1_traps_50 (by decide) ?_
            exact gi_tp (by unfold tkN; grind) J54
          · refine lv_iload_n hx hb dX1_traps_31 rfl (lv_at hl 1 rfl) ?_
            refine lv_bipush (v := nI 9) hx hb dX1_traps_32 (by decide) ?_
            refine gb_eq (tgt := 49) hx hb dX1_traps_34 (by decide) (by omega) (by omega) (fun c_34 => ?_) (fun c_34 => ?_)
            · refine lv_iconst (v := nI 1) hx hb dX1_traps_49 (by decide) ?_
              refine lv_goto (tgt := 54) hx hb dX1_traps_50 (by decide) ?_
              exact gi_tp (by unfold tkN; grind) J54
            · refine lv_iload_n hx hb dX1_traps_37 rfl (lv_at hl 1 rfl) ?_
              refine lv_bipush (v := nI 11) hx hb dX1_traps_38 (by decide) ?_
              refine gb_eq (tgt := 49) hx hb dX1_traps_40 (by decide) (by omega) (by omega) (fun c_40 => ?_) (fun c_40 => ?_)
              · refine lv_iconst (v := nI 1) hx hb dX1_traps_49 (by decide) ?_
                refine lv_goto (tgt := 54) hx hb dX1_traps_50 (by decide) ?_
                exact gi_tp (by unfold tkN; grind) J54
              · refine lv_iload_n hx hb dX1_traps_43 rfl (lv_at hl 1 rfl) ?_
                refine lv_bipush (v := nI 12) hx hb dX1_traps_44 (by decide) ?_
                refine gb_ne (tgt := 53) hx hb dX1_traps_46 (by decide) (by omega) (by omega) (fun c_46 => ?_) (fun c_46 => ?_)
                · refine lv_iconst (v := nI 0) hx hb dX1_traps_53 (by decide) ?_
                  exact gi_tp (by unfold tkN; grind) J54
                · refine lv_iconst (v := nI 1) hx hb dX1_traps_49 (by decide) ?_
                  refine lv_goto (tgt := 54) hx hb dX1_traps_50 (by decide) ?_
                  exact gi_tp (by unfold tkN; grind) J54
      · refine lv_iconst (v := nI 2) hx hb dX1_traps_16 (by decide) ?_
        refine lv_goto (tgt := 54) hx hb dX1_traps_17 (by decide) ?_
        exact gi_tp (by unfold tkN; grind) J54
set_option maxHeartbeats 4000000 in
set_option maxRecDepth 100000 in
theorem metM_price (l : Launch) (D : va_G) (d : ClassId) (h : Nat) (r : Nat → Nat) (op : vF) (nu : vF) (sz : Nat) (va : vF) (pi : vF) (hg : Nat) (ga : Nat) (en : Nat) (nx : Nat) (dn : Nat) (sp : Nat) (kv : vF) (kp : vF) (k : Nat) (hk : k ≤ 14) (hh : hg ≤ 8) (h1 : k = 12 → 1 ≤ hg) : MetI l yX1_price cX1_price 2 .int D d [.ref h, .int (nI k)] (wM h r d op nu sz va pi hg ga en nx dn sp kv kp) (rmG 0) (fun (a : Int32) (_ : Unit) => a = nI (coN k (pi (hg - 1)))) (fun _ : Unit => wM h r d op nu sz va pi hg ga en nx dn sp kv kp) := by
  refine gm_startI (own := RX1) (by decide +kernel) rfl (Nat.le_of_ble_eq_true rfl) ?_
  intro p e s m below meth c A H locs Q ls K hl hP hD hS ret
  have hx := K.1
  have hb := K.2.1
  have hl : lv_has ls 2 [(0, .ref h), (1, .int (nI k))] := hl
  refine lv_iload_n hx hb dX1_price_0 rfl (lv_at hl 1 rfl) ?_
  refine lv_bipush (v := nI 12) hx hb dX1_price_1 (by decide) ?_
  refine gb_ne (tgt := 23) hx hb dX1_price_3 (by decide) (by omega) (by omega) (fun c_3 => ?_) (fun c_3 => ?_)
  · refine lv_iload_n hx hb dX1_price_23 rfl (lv_at hl 1 rfl) ?_
    refine lv_iconst (v := nI 3) hx hb dX1_price_24 (by decide) ?_
    refine gb_eq (tgt := 34) hx hb dX1_price_25 (by decide) (by omega) (by omega) (fun c_25 => ?_) (fun c_25 => ?_)
    · refine lv_iconst (v := nI 5) hx hb dX1_price_34 (by decide) ?_
      exact ret _ _ (nI 5) () _ _ dX1_price_35 rfl (show nI 5 = nI (coN k (pi (hg - 1))) from by unfold coN prN; grind) hP hD hS
    · refine lv_iload_n hx hb dX1_price_28 rfl (lv_at hl 1 rfl) ?_
      refine lv_bipush (v := nI 11) hx hb dX1_price_29 (by decide) ?_
      refine gb_ne (tgt := 36) hx hb dX1_price_31 (by decide) (by omega) (by omega) (fun c_31 => ?_) (fun c_31 => ?_)
      · refine lv_iload_n hx hb dX1_price_36 rfl (lv_at hl 1 rfl) ?_
        refine lv_bipush (v := nI 9) hx hb dX1_price_37 (by decide) ?_
        refine gb_eq (tgt := 48) hx hb dX1_price_39 (by decide) (by omega) (by omega) (fun c_39 => ?_) (fun c_39 => ?_)
        · refine lv_iconst (v := nI 4) hx hb dX1_price_48 (by decide) ?_
          exact ret _ _ (nI 4) () _ _ dX1_price_49 rfl (show nI 4 = nI (coN k (pi (hg - 1))) from by unfold coN prN; grind) hP hD hS
        · refine lv_iload_n hx hb dX1_price_42 rfl (lv_at hl 1 rfl) ?_
          refine lv_bipush (v := nI 10) hx hb dX1_price_43 (by decide) ?_
          refine gb_ne (tgt := 50) hx hb dX1_price_45 (by decide) (by omega) (by omega) (fun c_45 => ?_) (fun c_45 => ?_)
          · refine lv_iload_n hx hb dX1_price_50 rfl (lv_at hl 1 rfl) ?_
            refine lv_iconst (v := nI 1) hx hb dX1_price_51 (by decide) ?_
            refine gb_lt (tgt := 60) hx hb dX1_price_52 (by decide) (by omega) (by omega) (fun c_52 => ?_) (fun c_52 => ?_)
            · refine lv_iload_n hx hb dX1_price_60 rfl (lv_at hl 1 rfl) ?_
              refine lv_bipush (v := nI 8) hx hb dX1_price_61 (by decide) ?_
              refine gb_ne (tgt := 68) hx hb dX1_price_63 (by decide) (by omega) (by omega) (fun c_63 => ?_) (fun c_63 => ?_)
              · refine lv_iload_n hx hb dX1_price_68 rfl (lv_at hl 1 rfl) ?_
                refine lv_bipush (v := nI 14) hx hb dX1_price_69 (by decide) ?_
                refine gb_ne (tgt := 78) hx hb dX1_price_71 (by decide) (by omega) (by omega) (fun c_71 => ?_) (fun c_71 => ?_)
                · refine lv_iload_n hx hb dX1_price_78 rfl (lv_at hl 1 rfl) ?_
                  refine lv_bipush (v := nI 7) hx hb dX1_price_79 (by decide) ?_
                  refine gb_ne (tgt := 88) hx hb dX1_price_81 (by decide) (by omega) (by omega) (fun c_81 => ?_) (fun c_81 => ?_)
                  · refine lv_iconst (v := nI 2) hx hb dX1_price_88 (by decide) ?_
                    exact ret _ _ (nI 2) () _ _ dX1_price_89 rfl (show nI 2 = nI (coN k (pi (hg - 1))) from by unfold coN prN; grind) hP hD hS
                  · refine lv_iconst (v := nI 1) hx hb dX1_price_84 (by decide) ?_
                    refine lv_goto (tgt := 89) hx hb dX1_price_85 (by decide) ?_
                    exact ret _ _ (nI 1) () _ _ dX1_price_89 rfl (show nI 1 = nI (coN k (pi (hg - 1))) from by unfold coN prN; grind) hP hD hS
                · refine lv_iconst (v := nI 0) hx hb dX1_price_74 (by decide) ?_
                  refine lv_goto (tgt := 89) hx hb dX1_price_75 (by decide) ?_
                  exact ret _ _ (nI 0) () _ _ dX1_price_89 rfl (show nI 0 = nI (coN k (pi (hg - 1))) from by unfold coN prN; grind) hP hD hS
              · refine lv_iconst (v := nI 3) hx hb dX1_price_66 (by decide) ?_
                exact ret _ _ (nI 3) () _ _ dX1_price_67 rfl (show nI 3 = nI (coN k (pi (hg - 1))) from by unfold coN prN; grind) hP hD hS
            · refine lv_iload_n hx hb dX1_price_55 rfl (lv_at hl 1 rfl) ?_
              refine lv_iconst (v := nI 4) hx hb dX1_price_56 (by decide) ?_
              refine gb_le (tgt := 66) hx hb dX1_price_57 (by decide) (by omega) (by omega) (fun c_57 => ?_) (fun c_57 => ?_)
              · refine lv_iconst (v := nI 3) hx hb dX1_price_66 (by decide) ?_
                exact ret _ _ (nI 3) () _ _ dX1_price_67 rfl (show nI 3 = nI (coN k (pi (hg - 1))) from by unfold coN prN; grind) hP hD hS
              · refine lv_iload_n hx hb dX1_price_60 rfl (lv_at hl 1 rfl) ?_
                refine lv_bipush (v := nI 8) hx hb dX1_price_61 (by decide) ?_
                refine gb_ne (tgt := 68) hx hb dX1_price_63 (by decide) (by omega) (by omega) (fun c_63 => ?_) (fun c_63 => ?_)
                · refine lv_iload_n hx hb dX1_price_68 rfl (lv_at hl 1 rfl) ?_
                  refine lv_bipush (v := nI 14) hx hb dX1_price_69 (by decide) ?_
                  refine gb_ne (tgt := 78) hx hb dX1_price_71 (by decide) (by omega) (by omega) (fun c_71 => ?_) (fun c_71 => ?_)
                  · refine lv_iload_n hx hb dX1_price_78 rfl (lv_at hl 1 rfl) ?_
                    refine lv_bipush (v := nI 7) hx hb dX1_price_79 (by decide) ?_
                    refine gb_ne (tgt := 88) hx hb dX1_price_81 (by decide) (by omega) (by omega) (fun c_81 => ?_) (fun c_81 => ?_)
                    · refine lv_iconst (v := nI 2) hx hb dX1_price_88 (by decide) ?_
                      exact ret _ _ (nI 2) () _ _ dX1_price_89 rfl (show nI 2 = nI (coN k (pi (hg - 1))) from by unfold coN prN; grind) hP hD hS
                    · refine lv_iconst (v := nI 1) hx hb dX1_price_84 (by decide) ?_
                      refine lv_goto (tgt := 89) hx hb dX1_price_85 (by decide) ?_
                      exact ret _ _ (nI 1) () _ _ dX1_price_89 rfl (show nI 1 = nI (coN k (pi (hg - 1))) from by unfold coN prN; grind) hP hD hS
                  · refine lv_iconst (v := nI 0) hx hb dX1_price_74 (by decide) ?_
                    refine lv_goto (tgt := 89) hx hb dX1_price_75 (by decide) ?_
                    exact ret _ _ (nI 0) () _ _ dX1_price_89 rfl (show nI 0 = nI (coN k (pi (hg - 1))) from by unfold coN prN; grind) hP hD hS
                · refine lv_iconst (v := nI 3) hx hb dX1_price_66 (by decide) ?_
                  exact ret _ _ (nI 3) () _ _ dX1_price_67 rfl (show nI 3 = nI (coN k (pi (hg - 1))) from by unfold coN prN; grind) hP hD hS
          · refine lv_iconst (v := nI 4) hx hb dX1_price_48 (by decide) ?_
            exact ret _ _ (nI 4) () _ _ dX1_price_49 rfl (show nI 4 = nI (coN k (pi (hg - 1))) from by unfold coN prN; grind) hP hD hS
      · refine lv_iconst (v := nI 5) hx hb dX1_price_34 (by decide) ?_
        exact ret _ _ (nI 5) () _ _ dX1_price_35 rfl (show nI 5 = nI (coN k (pi (hg - 1))) from by unfold coN prN; grind) hP hD hS
  · refine lv_iconst (v := nI 1) hx hb dX1_price_6 (by decide) ?_
    refine lv_aload_n hx hb dX1_price_7 rfl (lv_at hl 0 rfl) ?_
    refine yg_pi K hP dX1_price_8 ?_
    refine lv_aload_n hx hb dX1_price_11 rfl (lv_at hl 0 rfl) ?_
    refine yg_hg K hP dX1_price_12 ?_
    refine lv_iconst (v := nI 1) hx hb dX1_price_15 (by decide) ?_
    refine gi_sub hx hb (h1 c_3) dX1_price_16 ?_
    refine yl_pi K hP (by have := h1 c_3; omega) dX1_price_17 ?_
    refine lv_bipush (v := nI 15) hx hb dX1_price_18 (by decide) ?_
    refine lv_iand hx hb dX1_price_20 ?_
    refine gi_tp (y := nI (spN (pi (hg - 1)))) (spN_and _) ?_
    refine gi_add hx hb dX1_price_21 ?_
    exact ret _ _ (nI (1 + (spN (pi (hg - 1))))) () _ _ dX1_price_22 rfl (show nI (1 + (spN (pi (hg - 1)))) = nI (coN k (pi (hg - 1))) from by unfold coN prN; grind) hP hD hS
set_option maxHeartbeats 4000000 in
set_option maxRecDepth 100000 in
theorem metM_push (l : Launch) (D : va_G) (d : ClassId) (h : Nat) (r : Nat → Nat) (op : vF) (nu : vF) (sz : Nat) (va : vF) (pi : vF) (hg : Nat) (ga : Nat) (en : Nat) (nx : Nat) (dn : Nat) (sp : Nat) (kv : vF) (kp : vF) (v : Int32) (hv : hg < 8) : MetV l yX1_push cX1_push 2 D d [.ref h, .int v] (wM h r d op nu sz va pi hg ga en nx dn sp kv kp) (rmG 0) (fun (u : Nat × vF) => u.1 = hg + 1 ∧ u.2 = upd pi hg v) (fun u : Nat × vF => wM h r d op nu sz va u.2 u.1 ga en nx dn sp kv kp) := by
  refine gm_startV (own := RX1) (by decide +kernel) rfl (Nat.le_of_ble_eq_true rfl) ?_
  intro p e s m below meth c A H locs Q ls K hl hP hD hS ret
  have hx := K.1
  have hb := K.2.1
  have hl : lv_has ls 2 [(0, .ref h), (1, .int v)] := hl
  refine lv_aload_n hx hb dX1_push_0 rfl (lv_at hl 0 rfl) ?_
  refine yg_pi K hP dX1_push_1 ?_
  refine lv_aload_n hx hb dX1_push_4 rfl (lv_at hl 0 rfl) ?_
  refine yg_hg K hP dX1_push_5 ?_
  refine lv_iload_n hx hb dX1_push_8 rfl (lv_at hl 1 rfl) ?_
  refine ys_pi K hP hD hS (by omega) dX1_push_9 (fun H locs hP hD hS => ?_)
  refine lv_aload_n hx hb dX1_push_10 rfl (lv_at hl 0 rfl) ?_
  refine lv_dup hx hb dX1_push_11 rfl ?_
  refine yg_hg K hP dX1_push_12 ?_
  refine lv_iconst (v := nI 1) hx hb dX1_push_15 (by decide) ?_
  refine gi_add hx hb dX1_push_16 ?_
  refine yp_hg K hP hD hS dX1_push_17 (fun H locs hP hD hS => ?_)
  exact ret _ _ (hg + 1, upd pi hg v) _ _ dX1_push_20 ⟨rfl, rfl⟩ hP hD hS
set_option maxHeartbeats 4000000 in
set_option maxRecDepth 100000 in
theorem metM_pop (l : Launch) (D : va_G) (d : ClassId) (h : Nat) (r : Nat → Nat) (op : vF) (nu : vF) (sz : Nat) (va : vF) (pi : vF) (hg : Nat) (ga : Nat) (en : Nat) (nx : Nat) (dn : Nat) (sp : Nat) (kv : vF) (kp : vF) (h1 : 1 ≤ hg) (hh : hg ≤ 8) : MetI l yX1_pop cX1_pop 1 .int D d [.ref h] (wM h r d op nu sz va pi hg ga en nx dn sp kv kp) (rmG 0) (fun (a : Int32) (u : Nat) => a = pi (hg - 1) ∧ u = hg - 1) (fun u : Nat => wM h r d op nu sz va pi u ga en nx dn sp kv kp) := by
  refine gm_startI (own := RX1) (by decide +kernel) rfl (Nat.le_of_ble_eq_true rfl) ?_
  intro p e s m below meth c A H locs Q ls K hl hP hD hS ret
  have hx := K.1
  have hb := K.2.1
  have hl : lv_has ls 1 [(0, .ref h)] := hl
  refine lv_aload_n hx hb dX1_pop_0 rfl (lv_at hl 0 rfl) ?_
  refine lv_dup hx hb dX1_pop_1 rfl ?_
  refine yg_hg K hP dX1_pop_2 ?_
  refine lv_iconst (v := nI 1) hx hb dX1_pop_5 (by decide) ?_
  refine gi_sub hx hb (by omega) dX1_pop_6 ?_
  refine yp_hg K hP hD hS dX1_pop_7 (fun H locs hP hD hS => ?_)
  refine lv_aload_n hx hb dX1_pop_10 rfl (lv_at hl 0 rfl) ?_
  refine yg_pi K hP dX1_pop_11 ?_
  refine lv_aload_n hx hb dX1_pop_14 rfl (lv_at hl 0 rfl) ?_
  refine yg_hg K hP dX1_pop_15 ?_
  refine yl_pi K hP (by omega) dX1_pop_18 ?_
  exact ret _ _ (pi (hg - 1)) (hg - 1) _ _ dX1_pop_19 rfl ⟨rfl, rfl⟩ hP hD hS
set_option maxHeartbeats 4000000 in
set_option maxRecDepth 100000 in
theorem metM_operate (l : Launch) (D : va_G) (d : ClassId) (h : Nat) (r : Nat → Nat) (op : vF) (nu : vF) (sz : Nat) (va : vF) (pi : vF) (hg : Nat) (ga : Nat) (en : Nat) (nx : Nat) (dn : Nat) (sp : Nat) (kv : vF) (kp : vF) (k : Nat) (q : Int32) (hk : 1 ≤ k ∧ (k ≤ 4 ∨ k = 6)) (h2 : 2 ≤ hg) (hh : hg ≤ 8) : MetV l yX1_operate cX1_operate 4 D d [.ref h, .int (nI k)] (wM h r d op nu sz va pi hg ga en nx dn sp kv kp) (rmG 1) (fun (u : Nat × vF) => u.1 = wkH k hg ∧ u.2 = wkP k q hg pi va) (fun u : Nat × vF => wM h r d op nu sz va u.2 u.1 ga en nx dn sp kv kp) := by
  refine gm_startV (own := RX1) (by decide +kernel) rfl (Nat.le_of_ble_eq_true rfl) ?_
  intro p e s m below meth c A H locs Q ls K hl hP hD hS ret
  have hx := K.1
  have hb := K.2.1
  have hl : lv_has ls 4 [(0, .ref h), (1, .int (nI k))] := hl
  have e11 : hg - 1 - 1 = hg - 2 := by omega
  have e21 : hg - 2 + 1 = hg - 1 := by omega
  have e12 : hg - 1 + 1 = hg := by omega
  refine lv_aload_n hx hb dX1_operate_0 rfl (lv_at hl 0 rfl) ?_
  refine gm_calli (As := []) (rest := []) (C := RX1) (n := 0) K (metM_pop l D d h r op nu sz va pi hg ga en nx dn sp kv kp  (by omega) (by omega)) (lw_V q330 q332 qs22 q28 q333) (by decide +kernel) ⟨by decide, by decide⟩ ⟨rfl, rfl⟩ rfl 1 rfl rfl rfl hP hD hS hl rfl (Nat.le_of_ble_eq_true rfl) dX1_operate_1 ⟨Nat.zero_le _, Nat.zero_le _⟩ (fun a_1 u_1 H locs hp_1 hP hD hS => ?_)
  obtain ⟨ea_1, e_u_1⟩ := hp_1
  have ea_1 : a_1 = pi (hg - 1) := ea_1
  subst ea_1
  have e_u_1 : u_1 = hg - 1 := e_u_1
  subst e_u_1
  have hP : va_P D gCl (wM h r d op nu sz va pi (hg - 1) ga en nx dn sp kv kp) H := hP
  have hD : va_D A (wM h r d op nu sz va pi (hg - 1) ga en nx dn sp kv kp) := hD
  refine lv_istore_n (lv' := [(2, .int (pi (hg - 1))), (0, .ref h), (1, .int (nI k))]) hx hb dX1_operate_4 rfl hl (by decide) rfl (fun ls hl => ?_)
  refine lv_aload_n hx hb dX1_operate_5 rfl (lv_at hl 1 rfl) ?_
  refine gm_calli (As := []) (rest := []) (C := RX1) (n := 0) K (metM_pop l D d h r op nu sz va pi (hg - 1) ga en nx dn sp kv kp  (by omega) (by omega)) (lw_V q330 q332 qs22 q28 q333) (by decide +kernel) ⟨by decide, by decide⟩ ⟨rfl, rfl⟩ rfl 1 rfl rfl rfl hP hD hS hl rfl (Nat.le_of_ble_eq_true rfl) dX1_operate_6 ⟨Nat.zero_le _, Nat.zero_le _⟩ (fun a_2 u_2 H locs hp_2 hP hD hS => ?_)
  obtain ⟨ea_2, e_u_2⟩ := hp_2
  have ea_2 : a_2 = pi ((hg - 1) - 1) := ea_2
  subst ea_2
  have e_u_2 : u_2 = (hg - 1) - 1 := e_u_2
  subst e_u_2
  have hP : va_P D gCl (wM h r d op nu sz va pi ((hg - 1) - 1) ga en nx dn sp kv kp) H := hP
  have hD : va_D A (wM h r d op nu sz va pi ((hg - 1) - 1) ga en nx dn sp kv kp) := hD
  refine lv_istore_n (lv' := [(3, .int (pi ((hg - 1) - 1))), (2, .int (pi (hg - 1))), (0, .ref h), (1, .int (nI k))]) hx hb dX1_operate_9 rfl hl (by decide) rfl (fun ls hl => ?_)
  refine lv_iload_n hx hb dX1_operate_10 rfl (lv_at hl 3 rfl) ?_
  refine lv_bipush (v := nI 6) hx hb dX1_operate_11 (by decide) ?_
  refine gb_ne (tgt := 29) hx hb dX1_operate_13 (by decide) (by omega) (by omega) (fun c_13 => ?_) (fun c_13 => ?_)
  · refine lv_aload_n hx hb dX1_operate_29 rfl (lv_at hl 2 rfl) ?_
    refine lv_iload_n hx hb dX1_operate_30 rfl (lv_at hl 3 rfl) ?_
    refine lv_iconst (v := nI 1) hx hb dX1_operate_31 (by decide) ?_
    refine gb_ne (tgt := 41) hx hb dX1_operate_32 (by decide) (by omega) (by omega) (fun c_32 => ?_) (fun c_32 => ?_)
    · refine lv_iload_n hx hb dX1_operate_41 rfl (lv_at hl 3 rfl) ?_
      refine lv_iconst (v := nI 2) hx hb dX1_operate_42 (by decide) ?_
      refine gb_ne (tgt := 52) hx hb dX1_operate_43 (by decide) (by omega) (by omega) (fun c_43 => ?_) (fun c_43 => ?_)
      · refine lv_iload_n hx hb dX1_operate_52 rfl (lv_at hl 3 rfl) ?_
        refine lv_iconst (v := nI 3) hx hb dX1_operate_53 (by decide) ?_
        refine gb_ne (tgt := 63) hx hb dX1_operate_54 (by decide) (by omega) (by omega) (fun c_54 => ?_) (fun c_54 => ?_)
        · refine lv_iload_n hx hb dX1_operate_63 rfl (lv_at hl 0 rfl) ?_
          refine lv_iload_n hx hb dX1_operate_64 rfl (lv_at hl 1 rfl) ?_
          refine lv_icmp_ge (tgt := 72) hx hb dX1_operate_65 (by decide) (fun c_65 => ?_) (fun c_65 => ?_)
          · refine lv_iconst (v := nI 0) hx hb dX1_operate_72 (by decide) ?_
            refine gm_callv (As := [.int (nI 0)]) (rest := []) (C := RX1) (n := 1) K (metM_push l D d h r op nu sz va pi ((hg - 1) - 1) ga en nx dn sp kv kp (nI 0) (by omega)) (lw_V q322 q324 qs20 q28 q325) (by decide +kernel) ⟨by decide, by decide⟩ ⟨rfl, rfl⟩ rfl 1 rfl rfl rfl hP hD hS hl rfl (Nat.le_of_ble_eq_true rfl) dX1_operate_73 ⟨Nat.zero_le _, Nat.zero_le _⟩ (fun u_3 H locs hp_3 hP hD hS => ?_)
            obtain ⟨u_3a, u_3b⟩ := u_3
            obtain ⟨e_u_3a, e_u_3b⟩ := hp_3
            have e_u_3a : u_3a = ((hg - 1) - 1) + 1 := e_u_3a
            subst e_u_3a
            have e_u_3b : u_3b = upd pi ((hg - 1) - 1) (nI 0) := e_u_3b
            subst e_u_3b
            have hP : va_P D gCl (wM h r d op nu sz va (upd pi ((hg - 1) - 1) (nI 0)) (((hg - 1) - 1) + 1) ga en nx dn sp kv kp) H := hP
            have hD : va_D A (wM h r d op nu sz va (upd pi ((hg - 1) - 1) (nI 0)) (((hg - 1) - 1) + 1) ga en nx dn sp kv kp) := hD
            exact ret _ _ (((hg - 1) - 1) + 1, upd pi ((hg - 1) - 1) (nI 0)) _ _ dX1_operate_76 ⟨(show ((hg - 1) - 1) + 1 = wkH k hg from by unfold wkH tkN ptN; grind), (show upd pi ((hg - 1) - 1) (nI 0) = wkP k q hg pi va from by rw [e11]; (try rw [e21, upd_comm (by omega)]); grind [wkP, cbI, Int32.not_lt, Int32.not_le])⟩ hP hD hS
          · refine lv_iconst (v := nI 1) hx hb dX1_operate_68 (by decide) ?_
            refine lv_goto (tgt := 73) hx hb dX1_operate_69 (by decide) ?_
            refine gm_callv (As := [.int (nI 1)]) (rest := []) (C := RX1) (n := 1) K (metM_push l D d h r op nu sz va pi ((hg - 1) - 1) ga en nx dn sp kv kp (nI 1) (by omega)) (lw_V q322 q324 qs20 q28 q325) (by decide +kernel) ⟨by decide, by decide⟩ ⟨rfl, rfl⟩ rfl 1 rfl rfl rfl hP hD hS hl rfl (Nat.le_of_ble_eq_true rfl) dX1_operate_73 ⟨Nat.zero_le _, Nat.zero_le _⟩ (fun u_4 H locs hp_4 hP hD hS => ?_)
            obtain ⟨u_4a, u_4b⟩ := u_4
            obtain ⟨e_u_4a, e_u_4b⟩ := hp_4
            have e_u_4a : u_4a = ((hg - 1) - 1) + 1 := e_u_4a
            subst e_u_4a
            have e_u_4b : u_4b = upd pi ((hg - 1) - 1) (nI 1) := e_u_4b
            subst e_u_4b
            have hP : va_P D gCl (wM h r d op nu sz va (upd pi ((hg - 1) - 1) (nI 1)) (((hg - 1) - 1) + 1) ga en nx dn sp kv kp) H := hP
            have hD : va_D A (wM h r d op nu sz va (upd pi ((hg - 1) - 1) (nI 1)) (((hg - 1) - 1) + 1) ga en nx dn sp kv kp) := hD
            exact ret _ _ (((hg - 1) - 1) + 1, upd pi ((hg - 1) - 1) (nI 1)) _ _ dX1_operate_76 ⟨(show ((hg - 1) - 1) + 1 = wkH k hg from by unfold wkH tkN ptN; grind), (show upd pi ((hg - 1) - 1) (nI 1) = wkP k q hg pi va from by rw [e11]; (try rw [e21, upd_comm (by omega)]); grind [wkP, cbI, Int32.not_lt, Int32.not_le])⟩ hP hD hS
        · refine lv_iload_n hx hb dX1_operate_57 rfl (lv_at hl 0 rfl) ?_
          refine lv_iload_n hx hb dX1_operate_58 rfl (lv_at hl 1 rfl) ?_
          refine lv_imul hx hb dX1_operate_59 ?_
          refine lv_goto (tgt := 73) hx hb dX1_operate_60 (by decide) ?_
          refine gm_callv (As := [.int ((pi ((hg - 1) - 1)) * (pi (hg - 1)))]) (rest := []) (C := RX1) (n := 1) K (metM_push l D d h r op nu sz va pi ((hg - 1) - 1) ga en nx dn sp kv kp ((pi ((hg - 1) - 1)) * (pi (hg - 1))) (by omega)) (lw_V q322 q324 qs20 q28 q325) (by decide +kernel) ⟨by decide, by decide⟩ ⟨rfl, rfl⟩ rfl 1 rfl rfl rfl hP hD hS hl rfl (Nat.le_of_ble_eq_true rfl) dX1_operate_73 ⟨Nat.zero_le _, Nat.zero_le _⟩ (fun u_5 H locs hp_5 hP hD hS => ?_)
          obtain ⟨u_5a, u_5b⟩ := u_5
          obtain ⟨e_u_5a, e_u_5b⟩ := hp_5
          have e_u_5a : u_5a = ((hg - 1) - 1) + 1 := e_u_5a
          subst e_u_5a
          have e_u_5b : u_5b = upd pi ((hg - 1) - 1) ((pi ((hg - 1) - 1)) * (pi (hg - 1))) := e_u_5b
          subst e_u_5b
          have hP : va_P D gCl (wM h r d op nu sz va (upd pi ((hg - 1) - 1) ((pi ((hg - 1) - 1)) * (pi (hg - 1)))) (((hg - 1) - 1) + 1) ga en nx dn sp kv kp) H := hP
          have hD : va_D A (wM h r d op nu sz va (upd pi ((hg - 1) - 1) ((pi ((hg - 1) - 1)) * (pi (hg - 1)))) (((hg - 1) - 1) + 1) ga en nx dn sp kv kp) := hD
          exact ret _ _ (((hg - 1) - 1) + 1, upd pi ((hg - 1) - 1) ((pi ((hg - 1) - 1)) * (pi (hg - 1)))) _ _ dX1_operate_76 ⟨(show ((hg - 1) - 1) + 1 = wkH k hg from by unfold wkH tkN ptN; grind), (show upd pi ((hg - 1) - 1) ((pi ((hg - 1) - 1)) * (pi (hg - 1))) = wkP k q hg pi va from by rw [e11]; (try rw [e21, upd_comm (by omega)]); grind [wkP, cbI, Int32.not_lt, Int32.not_le])⟩ hP hD hS
      · refine lv_iload_n hx hb dX1_operate_46 rfl (lv_at hl 0 rfl) ?_
        refine lv_iload_n hx hb dX1_operate_47 rfl (lv_at hl 1 rfl) ?_
        refine lv_isub hx hb dX1_operate_48 ?_
        refine lv_goto (tgt := 73) hx hb dX1_operate_49 (by decide) ?_
        refine gm_callv (As := [.int ((pi ((hg - 1) - 1)) - (pi (hg - 1)))]) (rest := []) (C := RX1) (n := 1) K (metM_push l D d h r op nu sz va pi ((hg - 1) - 1) ga en nx dn sp kv kp ((pi ((hg - 1) - 1)) - (pi (hg - 1))) (by omega)) (lw_V q322 q324 qs20 q28 q325) (by decide +kernel) ⟨by decide, by decide⟩ ⟨rfl, rfl⟩ rfl 1 rfl rfl rfl hP hD hS hl rfl (Nat.le_of_ble_eq_true rfl) dX1_operate_73 ⟨Nat.zero_le _, Nat.zero_le _⟩ (fun u_6 H locs hp_6 hP hD hS => ?_)
        obtain ⟨u_6a, u_6b⟩ := u_6
        obtain ⟨e_u_6a, e_u_6b⟩ := hp_6
        have e_u_6a : u_6a = ((hg - 1) - 1) + 1 := e_u_6a
        subst e_u_6a
        have e_u_6b : u_6b = upd pi ((hg - 1) - 1) ((pi ((hg - 1) - 1)) - (pi (hg - 1))) := e_u_6b
        subst e_u_6b
        have hP : va_P D gCl (wM h r d op nu sz va (upd pi ((hg - 1) - 1) ((pi ((hg - 1) - 1)) - (pi (hg - 1)))) (((hg - 1) - 1) + 1) ga en nx dn sp kv kp) H := hP
        have hD : va_D A (wM h r d op nu sz va (upd pi ((hg - 1) - 1) ((pi ((hg - 1) - 1)) - (pi (hg - 1)))) (((hg - 1) - 1) + 1) ga en nx dn sp kv kp) := hD
        exact ret _ _ (((hg - 1) - 1) + 1, upd pi ((hg - 1) - 1) ((pi ((hg - 1) - 1)) - (pi (hg - 1)))) _ _ dX1_operate_76 ⟨(show ((hg - 1) - 1) + 1 = wkH k hg from by unfold wkH tkN ptN; grind), (show upd pi ((hg - 1) - 1) ((pi ((hg - 1) - 1)) - (pi (hg - 1))) = wkP k q hg pi va from by rw [e11]; (try rw [e21, upd_comm (by omega)]); grind [wkP, cbI, Int32.not_lt, Int32.not_le])⟩ hP hD hS
    · refine lv_iload_n hx hb dX1_operate_35 rfl (lv_at hl 0 rfl) ?_
      refine lv_iload_n hx hb dX1_operate_36 rfl (lv_at hl 1 rfl) ?_
      refine lv_iadd hx hb dX1_operate_37 ?_
      refine lv_goto (tgt := 73) hx hb dX1_operate_38 (by decide) ?_
      refine gm_callv (As := [.int ((pi ((hg - 1) - 1)) + (pi (hg - 1)))]) (rest := []) (C := RX1) (n := 1) K (metM_push l D d h r op nu sz va pi ((hg - 1) - 1) ga en nx dn sp kv kp ((pi ((hg - 1) - 1)) + (pi (hg - 1))) (by omega)) (lw_V q322 q324 qs20 q28 q325) (by decide +kernel) ⟨by decide, by decide⟩ ⟨rfl, rfl⟩ rfl 1 rfl rfl rfl hP hD hS hl rfl (Nat.le_of_ble_eq_true rfl) dX1_operate_73 ⟨Nat.zero_le _, Nat.zero_le _⟩ (fun u_7 H locs hp_7 hP hD hS => ?_)
      obtain ⟨u_7a, u_7b⟩ := u_7
      obtain ⟨e_u_7a, e_u_7b⟩ := hp_7
      have e_u_7a : u_7a = ((hg - 1) - 1) + 1 := e_u_7a
      subst e_u_7a
      have e_u_7b : u_7b = upd pi ((hg - 1) - 1) ((pi ((hg - 1) - 1)) + (pi (hg - 1))) := e_u_7b
      subst e_u_7b
      have hP : va_P D gCl (wM h r d op nu sz va (upd pi ((hg - 1) - 1) ((pi ((hg - 1) - 1)) + (pi (hg - 1)))) (((hg - 1) - 1) + 1) ga en nx dn sp kv kp) H := hP
      have hD : va_D A (wM h r d op nu sz va (upd pi ((hg - 1) - 1) ((pi ((hg - 1) - 1)) + (pi (hg - 1)))) (((hg - 1) - 1) + 1) ga en nx dn sp kv kp) := hD
      exact ret _ _ (((hg - 1) - 1) + 1, upd pi ((hg - 1) - 1) ((pi ((hg - 1) - 1)) + (pi (hg - 1)))) _ _ dX1_operate_76 ⟨(show ((hg - 1) - 1) + 1 = wkH k hg from by unfold wkH tkN ptN; grind), (show upd pi ((hg - 1) - 1) ((pi ((hg - 1) - 1)) + (pi (hg - 1))) = wkP k q hg pi va from by rw [e11]; (try rw [e21, upd_comm (by omega)]); grind [wkP, cbI, Int32.not_lt, Int32.not_le])⟩ hP hD hS
  · refine lv_aload_n hx hb dX1_operate_16 rfl (lv_at hl 2 rfl) ?_
    refine lv_iload_n hx hb dX1_operate_17 rfl (lv_at hl 1 rfl) ?_
    refine gm_callv (As := [.int (pi (hg - 1))]) (rest := []) (C := RX1) (n := 1) K (metM_push l D d h r op nu sz va pi ((hg - 1) - 1) ga en nx dn sp kv kp (pi (hg - 1)) (by omega)) (lw_V q322 q324 qs20 q28 q325) (by decide +kernel) ⟨by decide, by decide⟩ ⟨rfl, rfl⟩ rfl 1 rfl rfl rfl hP hD hS hl rfl (Nat.le_of_ble_eq_true rfl) dX1_operate_18 ⟨Nat.zero_le _, Nat.zero_le _⟩ (fun u_8 H locs hp_8 hP hD hS => ?_)
    obtain ⟨u_8a, u_8b⟩ := u_8
    obtain ⟨e_u_8a, e_u_8b⟩ := hp_8
    have e_u_8a : u_8a = ((hg - 1) - 1) + 1 := e_u_8a
    subst e_u_8a
    have e_u_8b : u_8b = upd pi ((hg - 1) - 1) (pi (hg - 1)) := e_u_8b
    subst e_u_8b
    have hP : va_P D gCl (wM h r d op nu sz va (upd pi ((hg - 1) - 1) (pi (hg - 1))) (((hg - 1) - 1) + 1) ga en nx dn sp kv kp) H := hP
    have hD : va_D A (wM h r d op nu sz va (upd pi ((hg - 1) - 1) (pi (hg - 1))) (((hg - 1) - 1) + 1) ga en nx dn sp kv kp) := hD
    refine lv_aload_n hx hb dX1_operate_21 rfl (lv_at hl 2 rfl) ?_
    refine lv_iload_n hx hb dX1_operate_22 rfl (lv_at hl 0 rfl) ?_
    refine gm_callv (As := [.int (pi ((hg - 1) - 1))]) (rest := []) (C := RX1) (n := 1) K (metM_push l D d h r op nu sz va (upd pi ((hg - 1) - 1) (pi (hg - 1))) (((hg - 1) - 1) + 1) ga en nx dn sp kv kp (pi ((hg - 1) - 1)) (by omega)) (lw_V q322 q324 qs20 q28 q325) (by decide +kernel) ⟨by decide, by decide⟩ ⟨rfl, rfl⟩ rfl 1 rfl rfl rfl hP hD hS hl rfl (Nat.le_of_ble_eq_true rfl) dX1_operate_23 ⟨Nat.zero_le _, Nat.zero_le _⟩ (fun u_9 H locs hp_9 hP hD hS => ?_)
    obtain ⟨u_9a, u_9b⟩ := u_9
    obtain ⟨e_u_9a, e_u_9b⟩ := hp_9
    have e_u_9a : u_9a = (((hg - 1) - 1) + 1) + 1 := e_u_9a
    subst e_u_9a
    have e_u_9b : u_9b = upd (upd pi ((hg - 1) - 1) (pi (hg - 1))) (((hg - 1) - 1) + 1) (pi ((hg - 1) - 1)) := e_u_9b
    subst e_u_9b
    have hP : va_P D gCl (wM h r d op nu sz va (upd (upd pi ((hg - 1) - 1) (pi (hg - 1))) (((hg - 1) - 1) + 1) (pi ((hg - 1) - 1))) ((((hg - 1) - 1) + 1) + 1) ga en nx dn sp kv kp) H := hP
    have hD : va_D A (wM h r d op nu sz va (upd (upd pi ((hg - 1) - 1) (pi (hg - 1))) (((hg - 1) - 1) + 1) (pi ((hg - 1) - 1))) ((((hg - 1) - 1) + 1) + 1) ga en nx dn sp kv kp) := hD
    refine lv_goto (tgt := 76) hx hb dX1_operate_26 (by decide) ?_
    exact ret _ _ ((((hg - 1) - 1) + 1) + 1, upd (upd pi ((hg - 1) - 1) (pi (hg - 1))) (((hg - 1) - 1) + 1) (pi ((hg - 1) - 1))) _ _ dX1_operate_76 ⟨(show (((hg - 1) - 1) + 1) + 1 = wkH k hg from by unfold wkH tkN ptN; grind), (show upd (upd pi ((hg - 1) - 1) (pi (hg - 1))) (((hg - 1) - 1) + 1) (pi ((hg - 1) - 1)) = wkP k q hg pi va from by rw [e11]; (try rw [e21, upd_comm (by omega)]); grind [wkP, cbI, Int32.not_lt, Int32.not_le])⟩ hP hD hS
end
section
set_option maxRecDepth 100000
set_option maxHeartbeats 4000000 in
set_option maxRecDepth 100000 in
theorem metM_size (l : Launch) (D : va_G) (d : ClassId) (h : Nat) (r : Nat → Nat) (op : vF) (nu : vF) (sz : Nat) (va : vF) (pi : vF) (hg : Nat) (ga : Nat) (en : Nat) (nx : Nat) (dn : Nat) (sp : Nat) (kv : vF) (kp : vF) : MetI l yX1_size cX1_size 1 .int D d [.ref h] (wM h r d op nu sz va pi hg ga en nx dn sp kv kp) (rmG 0) (fun (a : Int32) (_ : Unit) => a = nI sz) (fun _ : Unit => wM h r d op nu sz va pi hg ga en nx dn sp kv kp) := by
  refine gm_startI (own := RX1) (by decide +kernel) rfl (Nat.le_of_ble_eq_true rfl) ?_
  intro p e s m below meth c A H locs Q ls K hl hP hD hS ret
  have hx := K.1
  have hb := K.2.1
  have hl : lv_has ls 1 [(0, .ref h)] := hl
  refine lv_aload_n hx hb dX1_size_0 rfl (lv_at hl 0 rfl) ?_
  refine yg_sz K hP dX1_size_1 ?_
  exact ret _ _ (nI sz) () _ _ dX1_size_4 rfl rfl hP hD hS
set_option maxHeartbeats 4000000 in
set_option maxRecDepth 100000 in
theorem metM_gas (l : Launch) (D : va_G) (d : ClassId) (h : Nat) (r : Nat → Nat) (op : vF) (nu : vF) (sz : Nat) (va : vF) (pi : vF) (hg : Nat) (ga : Nat) (en : Nat) (nx : Nat) (dn : Nat) (sp : Nat) (kv : vF) (kp : vF) : MetI l yX1_gas cX1_gas 1 .int D d [.ref h] (wM h r d op nu sz va pi hg ga en nx dn sp kv kp) (rmG 0) (fun (a : Int32) (_ : Unit) => a = nI ga) (fun _ : Unit => wM h r d op nu sz va pi hg ga en nx dn sp kv kp) := by
  refine gm_startI (own := RX1) (by decide +kernel) rfl (Nat.le_of_ble_eq_true rfl) ?_
  intro p e s m below meth c A H locs Q ls K hl hP hD hS ret
  have hx := K.1
  have hb := K.2.1
  have hl : lv_has ls 1 [(0, .ref h)] := hl
  refine lv_aload_n hx hb dX1_gas_0 rfl (lv_at hl 0 rfl) ?_
  refine yg_ga K hP dX1_gas_1 ?_
  exact ret _ _ (nI ga) () _ _ dX1_gas_4 rfl rfl hP hD hS
set_option maxHeartbeats 4000000 in
set_option maxRecDepth 100000 in
theorem metM_ending (l : Launch) (D : va_G) (d : ClassId) (h : Nat) (r : Nat → Nat) (op : vF) (nu : vF) (sz : Nat) (va : vF) (pi : vF) (hg : Nat) (ga : Nat) (en : Nat) (nx : Nat) (dn : Nat) (sp : Nat) (kv : vF) (kp : vF) : MetI l yX1_ending cX1_ending 1 .int D d [.ref h] (wM h r d op nu sz va pi hg ga en nx dn sp kv kp) (rmG 0) (fun (a : Int32) (_ : Unit) => a = nI en) (fun _ : Unit => wM h r d op nu sz va pi hg ga en nx dn sp kv kp) := by
  refine gm_startI (own := RX1) (by decide +kernel) rfl (Nat.le_of_ble_eq_true rfl) ?_
  intro p e s m below meth c A H locs Q ls K hl hP hD hS ret
  have hx := K.1
  have hb := K.2.1
  have hl : lv_has ls 1 [(0, .ref h)] := hl
  refine lv_aload_n hx hb dX1_ending_0 rfl (lv_at hl 0 rfl) ?_
  refine yg_en K hP dX1_ending_1 ?_
  exact ret _ _ (nI en) () _ _ dX1_ending_4 rfl rfl hP hD hS
set_option maxHeartbeats 4000000 in
set_option maxRecDepth 100000 in
theorem metM_place (l : Launch) (D : va_G) (d : ClassId) (h : Nat) (r : Nat → Nat) (op : vF) (nu : vF) (sz : Nat) (va : vF) (pi : vF) (hg : Nat) (ga : Nat) (en : Nat) (nx : Nat) (dn : Nat) (sp : Nat) (kv : vF) (kp : vF) : MetI l yX1_place cX1_place 1 .int D d [.ref h] (wM h r d op nu sz va pi hg ga en nx dn sp kv kp) (rmG 0) (fun (a : Int32) (_ : Unit) => a = nI nx) (fun _ : Unit => wM h r d op nu sz va pi hg ga en nx dn sp kv kp) := by
  refine gm_startI (own := RX1) (by decide +kernel) rfl (Nat.le_of_ble_eq_true rfl) ?_
  intro p e s m below meth c A H locs Q ls K hl hP hD hS ret
  have hx := K.1
  have hb := K.2.1
  have hl : lv_has ls 1 [(0, .ref h)] := hl
  refine lv_aload_n hx hb dX1_place_0 rfl (lv_at hl 0 rfl) ?_
  refine yg_nx K hP dX1_place_1 ?_
  exact ret _ _ (nI nx) () _ _ dX1_place_4 rfl rfl hP hD hS
set_option maxHeartbeats 4000000 in
set_option maxRecDepth 100000 in
theorem metM_steps (l : Launch) (D : va_G) (d : ClassId) (h : Nat) (r : Nat → Nat) (op : vF) (nu : vF) (sz : Nat) (va : vF) (pi : vF) (hg : Nat) (ga : Nat) (en : Nat) (nx : Nat) (dn : Nat) (sp : Nat) (kv : vF) (kp : vF) : MetI l yX1_steps cX1_steps 1 .int D d [.ref h] (wM h r d op nu sz va pi hg ga en nx dn sp kv kp) (rmG 0) (fun (a : Int32) (_ : Unit) => a = nI dn) (fun _ : Unit => wM h r d op nu sz va pi hg ga en nx dn sp kv kp) := by
  refine gm_startI (own := RX1) (by decide +kernel) rfl (Nat.le_of_ble_eq_true rfl) ?_
  intro p e s m below meth c A H locs Q ls K hl hP hD hS ret
  have hx := K.1
  have hb := K.2.1
  have hl : lv_has ls 1 [(0, .ref h)] := hl
  refine lv_aload_n hx hb dX1_steps_0 rfl (lv_at hl 0 rfl) ?_
  refine yg_dn K hP dX1_steps_1 ?_
  exact ret _ _ (nI dn) () _ _ dX1_steps_4 rfl rfl hP hD hS
set_option maxHeartbeats 4000000 in
set_option maxRecDepth 100000 in
theorem metM_spent (l : Launch) (D : va_G) (d : ClassId) (h : Nat) (r : Nat → Nat) (op : vF) (nu : vF) (sz : Nat) (va : vF) (pi : vF) (hg : Nat) (ga : Nat) (en : Nat) (nx : Nat) (dn : Nat) (sp : Nat) (kv : vF) (kp : vF) : MetI l yX1_spent cX1_spent 1 .int D d [.ref h] (wM h r d op nu sz va pi hg ga en nx dn sp kv kp) (rmG 0) (fun (a : Int32) (_ : Unit) => a = nI sp) (fun _ : Unit => wM h r d op nu sz va pi hg ga en nx dn sp kv kp) := by
  refine gm_startI (own := RX1) (by decide +kernel) rfl (Nat.le_of_ble_eq_true rfl) ?_
  intro p e s m below meth c A H locs Q ls K hl hP hD hS ret
  have hx := K.1
  have hb := K.2.1
  have hl : lv_has ls 1 [(0, .ref h)] := hl
  refine lv_aload_n hx hb dX1_spent_0 rfl (lv_at hl 0 rfl) ?_
  refine yg_sp K hP dX1_spent_1 ?_
  exact ret _ _ (nI sp) () _ _ dX1_spent_4 rfl rfl hP hD hS
set_option maxHeartbeats 4000000 in
set_option maxRecDepth 100000 in
theorem metM_height (l : Launch) (D : va_G) (d : ClassId) (h : Nat) (r : Nat → Nat) (op : vF) (nu : vF) (sz : Nat) (va : vF) (pi : vF) (hg : Nat) (ga : Nat) (en : Nat) (nx : Nat) (dn : Nat) (sp : Nat) (kv : vF) (kp : vF) : MetI l yX1_height cX1_height 1 .int D d [.ref h] (wM h r d op nu sz va pi hg ga en nx dn sp kv kp) (rmG 0) (fun (a : Int32) (_ : Unit) => a = nI hg) (fun _ : Unit => wM h r d op nu sz va pi hg ga en nx dn sp kv kp) := by
  refine gm_startI (own := RX1) (by decide +kernel) rfl (Nat.le_of_ble_eq_true rfl) ?_
  intro p e s m below meth c A H locs Q ls K hl hP hD hS ret
  have hx := K.1
  have hb := K.2.1
  have hl : lv_has ls 1 [(0, .ref h)] := hl
  refine lv_aload_n hx hb dX1_height_0 rfl (lv_at hl 0 rfl) ?_
  refine yg_hg K hP dX1_height_1 ?_
  exact ret _ _ (nI hg) () _ _ dX1_height_4 rfl rfl hP hD hS
set_option maxHeartbeats 4000000 in
set_option maxRecDepth 100000 in
theorem metM_clear (l : Launch) (D : va_G) (d : ClassId) (h : Nat) (r : Nat → Nat) (op : vF) (nu : vF) (sz : Nat) (va : vF) (pi : vF) (hg : Nat) (ga : Nat) (en : Nat) (nx : Nat) (dn : Nat) (sp : Nat) (kv : vF) (kp : vF) : MetV l yX1_clear cX1_clear 1 D d [.ref h] (wM h r d op nu sz va pi hg ga en nx dn sp kv kp) (rmG 0) (fun (u : Nat) => u = 0) (fun u : Nat => wM h r d op nu u va pi hg ga en nx dn sp kv kp) := by
  refine gm_startV (own := RX1) (by decide +kernel) rfl (Nat.le_of_ble_eq_true rfl) ?_
  intro p e s m below meth c A H locs Q ls K hl hP hD hS ret
  have hx := K.1
  have hb := K.2.1
  have hl : lv_has ls 1 [(0, .ref h)] := hl
  refine lv_aload_n hx hb dX1_clear_0 rfl (lv_at hl 0 rfl) ?_
  refine lv_iconst (v := nI 0) hx hb dX1_clear_1 (by decide) ?_
  refine yp_sz K hP hD hS dX1_clear_2 (fun H locs hP hD hS => ?_)
  exact ret _ _ (0) _ _ dX1_clear_5 rfl hP hD hS
set_option maxHeartbeats 4000000 in
set_option maxRecDepth 100000 in
theorem metM_setA (l : Launch) (D : va_G) (d : ClassId) (h : Nat) (r : Nat → Nat) (op : vF) (nu : vF) (sz : Nat) (va : vF) (pi : vF) (hg : Nat) (ga : Nat) (en : Nat) (nx : Nat) (dn : Nat) (sp : Nat) (kv : vF) (kp : vF) (v : Int32) (x : Int32) (hv : v < 0 ∨ nI 4 ≤ v) : MetI l yX1_set cX1_set 3 .int D d [.ref h, .int v, .int x] (wM h r d op nu sz va pi hg ga en nx dn sp kv kp) (rmG 0) (fun (a : Int32) (_ : Unit) => a = -1) (fun _ : Unit => wM h r d op nu sz va pi hg ga en nx dn sp kv kp) := by
  refine gm_startI (own := RX1) (by decide +kernel) rfl (Nat.le_of_ble_eq_true rfl) ?_
  intro p e s m below meth c A H locs Q ls K hl hP hD hS ret
  have hx := K.1
  have hb := K.2.1
  have hl : lv_has ls 3 [(0, .ref h), (1, .int v), (2, .int x)] := hl
  refine lv_iload_n hx hb dX1_set_0 rfl (lv_at hl 1 rfl) ?_
  refine lv_if_lt (tgt := 9) hx hb dX1_set_1 (by decide) (fun c_1 => ?_) (fun c_1 => ?_)
  · refine lv_iconst (v := (-1)) hx hb dX1_set_9 (by decide) ?_
    exact ret _ _ (-1) () _ _ dX1_set_10 rfl rfl hP hD hS
  · refine lv_iload_n hx hb dX1_set_4 rfl (lv_at hl 1 rfl) ?_
    refine lv_iconst (v := nI 3) hx hb dX1_set_5 (by decide) ?_
    refine lv_icmp_le (tgt := 11) hx hb dX1_set_6 (by decide) (fun c_6 => ?_) (fun c_6 => ?_)
    · exact absurd (c_6) (fun z => hv.elim c_1 (fun q => nI_between z q (by decide) (by decide)))
    · refine lv_iconst (v := (-1)) hx hb dX1_set_9 (by decide) ?_
      exact ret _ _ (-1) () _ _ dX1_set_10 rfl rfl hP hD hS
set_option maxHeartbeats 4000000 in
set_option maxRecDepth 100000 in
theorem metM_setB (l : Launch) (D : va_G) (d : ClassId) (h : Nat) (r : Nat → Nat) (op : vF) (nu : vF) (sz : Nat) (va : vF) (pi : vF) (hg : Nat) (ga : Nat) (en : Nat) (nx : Nat) (dn : Nat) (sp : Nat) (kv : vF) (kp : vF) (j : Nat) (x : Int32) (hj : j < 4) : MetI l yX1_set cX1_set 3 .int D d [.ref h, .int (nI j), .int x] (wM h r d op nu sz va pi hg ga en nx dn sp kv kp) (rmG 0) (fun (a : Int32) (u : vF) => a = nI 0 ∧ u = upd va j x) (fun u : vF => wM h r d op nu sz u pi hg ga en nx dn sp kv kp) := by
  refine gm_startI (own := RX1) (by decide +kernel) rfl (Nat.le_of_ble_eq_true rfl) ?_
  intro p e s m below meth c A H locs Q ls K hl hP hD hS ret
  have hx := K.1
  have hb := K.2.1
  have hl : lv_has ls 3 [(0, .ref h), (1, .int (nI j)), (2, .int x)] := hl
  refine lv_iload_n hx hb dX1_set_0 rfl (lv_at hl 1 rfl) ?_
  refine gz_ltN (tgt := 9) hx hb dX1_set_1 (by decide) (by omega) ?_
  refine lv_iload_n hx hb dX1_set_4 rfl (lv_at hl 1 rfl) ?_
  refine lv_iconst (v := nI 3) hx hb dX1_set_5 (by decide) ?_
  refine gb_le (tgt := 11) hx hb dX1_set_6 (by decide) (by omega) (by omega) (fun c_6 => ?_) (fun c_6 => ?_)
  · refine lv_aload_n hx hb dX1_set_11 rfl (lv_at hl 0 rfl) ?_
    refine yg_va K hP dX1_set_12 ?_
    refine lv_iload_n hx hb dX1_set_15 rfl (lv_at hl 1 rfl) ?_
    refine lv_iload_n hx hb dX1_set_16 rfl (lv_at hl 2 rfl) ?_
    refine ys_va K hP hD hS (by omega) dX1_set_17 (fun H locs hP hD hS => ?_)
    refine lv_iconst (v := nI 0) hx hb dX1_set_18 (by decide) ?_
    exact ret _ _ (nI 0) (upd va j x) _ _ dX1_set_19 rfl ⟨rfl, rfl⟩ hP hD hS
  · exfalso; omega
set_option maxHeartbeats 4000000 in
set_option maxRecDepth 100000 in
theorem metM_getA (l : Launch) (D : va_G) (d : ClassId) (h : Nat) (r : Nat → Nat) (op : vF) (nu : vF) (sz : Nat) (va : vF) (pi : vF) (hg : Nat) (ga : Nat) (en : Nat) (nx : Nat) (dn : Nat) (sp : Nat) (kv : vF) (kp : vF) (v : Int32) (hv : v < 0 ∨ nI 4 ≤ v) : MetI l yX1_get cX1_get 2 .int D d [.ref h, .int v] (wM h r d op nu sz va pi hg ga en nx dn sp kv kp) (rmG 0) (fun (a : Int32) (_ : Unit) => a = nI 0) (fun _ : Unit => wM h r d op nu sz va pi hg ga en nx dn sp kv kp) := by
  refine gm_startI (own := RX1) (by decide +kernel) rfl (Nat.le_of_ble_eq_true rfl) ?_
  intro p e s m below meth c A H locs Q ls K hl hP hD hS ret
  have hx := K.1
  have hb := K.2.1
  have hl : lv_has ls 2 [(0, .ref h), (1, .int v)] := hl
  refine lv_iload_n hx hb dX1_get_0 rfl (lv_at hl 1 rfl) ?_
  refine lv_if_lt (tgt := 9) hx hb dX1_get_1 (by decide) (fun c_1 => ?_) (fun c_1 => ?_)
  · refine lv_iconst (v := nI 0) hx hb dX1_get_9 (by decide) ?_
    refine lv_goto (tgt := 19) hx hb dX1_get_10 (by decide) ?_
    exact ret _ _ (nI 0) () _ _ dX1_get_19 rfl rfl hP hD hS
  · refine lv_iload_n hx hb dX1_get_4 rfl (lv_at hl 1 rfl) ?_
    refine lv_iconst (v := nI 3) hx hb dX1_get_5 (by decide) ?_
    refine lv_icmp_le (tgt := 13) hx hb dX1_get_6 (by decide) (fun c_6 => ?_) (fun c_6 => ?_)
    · exact absurd (c_6) (fun z => hv.elim c_1 (fun q => nI_between z q (by decide) (by decide)))
    · refine lv_iconst (v := nI 0) hx hb dX1_get_9 (by decide) ?_
      refine lv_goto (tgt := 19) hx hb dX1_get_10 (by decide) ?_
      exact ret _ _ (nI 0) () _ _ dX1_get_19 rfl rfl hP hD hS
set_option maxHeartbeats 4000000 in
set_option maxRecDepth 100000 in
theorem metM_getB (l : Launch) (D : va_G) (d : ClassId) (h : Nat) (r : Nat → Nat) (op : vF) (nu : vF) (sz : Nat) (va : vF) (pi : vF) (hg : Nat) (ga : Nat) (en : Nat) (nx : Nat) (dn : Nat) (sp : Nat) (kv : vF) (kp : vF) (j : Nat) (hj : j < 4) : MetI l yX1_get cX1_get 2 .int D d [.ref h, .int (nI j)] (wM h r d op nu sz va pi hg ga en nx dn sp kv kp) (rmG 0) (fun (a : Int32) (_ : Unit) => a = va j) (fun _ : Unit => wM h r d op nu sz va pi hg ga en nx dn sp kv kp) := by
  refine gm_startI (own := RX1) (by decide +kernel) rfl (Nat.le_of_ble_eq_true rfl) ?_
  intro p e s m below meth c A H locs Q ls K hl hP hD hS ret
  have hx := K.1
  have hb := K.2.1
  have hl : lv_has ls 2 [(0, .ref h), (1, .int (nI j))] := hl
  refine lv_iload_n hx hb dX1_get_0 rfl (lv_at hl 1 rfl) ?_
  refine gz_ltN (tgt := 9) hx hb dX1_get_1 (by decide) (by omega) ?_
  refine lv_iload_n hx hb dX1_get_4 rfl (lv_at hl 1 rfl) ?_
  refine lv_iconst (v := nI 3) hx hb dX1_get_5 (by decide) ?_
  refine gb_le (tgt := 13) hx hb dX1_get_6 (by decide) (by omega) (by omega) (fun c_6 => ?_) (fun c_6 => ?_)
  · refine lv_aload_n hx hb dX1_get_13 rfl (lv_at hl 0 rfl) ?_
    refine yg_va K hP dX1_get_14 ?_
    refine lv_iload_n hx hb dX1_get_17 rfl (lv_at hl 1 rfl) ?_
    refine yl_va K hP (by omega) dX1_get_18 ?_
    exact ret _ _ (va j) () _ _ dX1_get_19 rfl rfl hP hD hS
  · exfalso; omega
set_option maxHeartbeats 4000000 in
set_option maxRecDepth 100000 in
theorem metM_fundA (l : Launch) (D : va_G) (d : ClassId) (h : Nat) (r : Nat → Nat) (op : vF) (nu : vF) (sz : Nat) (va : vF) (pi : vF) (hg : Nat) (ga : Nat) (en : Nat) (nx : Nat) (dn : Nat) (sp : Nat) (kv : vF) (kp : vF) (v : Int32) (hv : v < 0 ∨ nI 2001 ≤ v) : MetI l yX1_fund cX1_fund 2 .int D d [.ref h, .int v] (wM h r d op nu sz va pi hg ga en nx dn sp kv kp) (rmG 0) (fun (a : Int32) (_ : Unit) => a = -1) (fun _ : Unit => wM h r d op nu sz va pi hg ga en nx dn sp kv kp) := by
  refine gm_startI (own := RX1) (by decide +kernel) rfl (Nat.le_of_ble_eq_true rfl) ?_
  intro p e s m below meth c A H locs Q ls K hl hP hD hS ret
  have hx := K.1
  have hb := K.2.1
  have hl : lv_has ls 2 [(0, .ref h), (1, .int v)] := hl
  refine lv_iload_n hx hb dX1_fund_0 rfl (lv_at hl 1 rfl) ?_
  refine lv_if_lt (tgt := 22) hx hb dX1_fund_1 (by decide) (fun c_1 => ?_) (fun c_1 => ?_)
  · refine lv_iconst (v := (-1)) hx hb dX1_fund_22 (by decide) ?_
    exact ret _ _ (-1) () _ _ dX1_fund_23 rfl rfl hP hD hS
  · refine lv_iload_n hx hb dX1_fund_4 rfl (lv_at hl 1 rfl) ?_
    refine lv_sipush (v := nI 2000) hx hb dX1_fund_5 (by decide) ?_
    refine lv_icmp_gt (tgt := 22) hx hb dX1_fund_8 (by decide) (fun c_8 => ?_) (fun c_8 => ?_)
    · refine lv_iconst (v := (-1)) hx hb dX1_fund_22 (by decide) ?_
      exact ret _ _ (-1) () _ _ dX1_fund_23 rfl rfl hP hD hS
    · exact absurd (Int32.not_lt.mp c_8) (fun z => hv.elim c_1 (fun q => nI_between z q (by decide) (by decide)))
set_option maxHeartbeats 4000000 in
set_option maxRecDepth 100000 in
theorem metM_fundB (l : Launch) (D : va_G) (d : ClassId) (h : Nat) (r : Nat → Nat) (op : vF) (nu : vF) (sz : Nat) (va : vF) (pi : vF) (hg : Nat) (ga : Nat) (en : Nat) (nx : Nat) (dn : Nat) (sp : Nat) (kv : vF) (kp : vF) (j : Nat) (hj : j ≤ 2000) (hga : ga ≤ 100000) (hs : 100000 < ga + j) : MetI l yX1_fund cX1_fund 2 .int D d [.ref h, .int (nI j)] (wM h r d op nu sz va pi hg ga en nx dn sp kv kp) (rmG 0) (fun (a : Int32) (_ : Unit) => a = -1) (fun _ : Unit => wM h r d op nu sz va pi hg ga en nx dn sp kv kp) := by
  refine gm_startI (own := RX1) (by decide +kernel) rfl (Nat.le_of_ble_eq_true rfl) ?_
  intro p e s m below meth c A H locs Q ls K hl hP hD hS ret
  have hx := K.1
  have hb := K.2.1
  have hl : lv_has ls 2 [(0, .ref h), (1, .int (nI j))] := hl
  refine lv_iload_n hx hb dX1_fund_0 rfl (lv_at hl 1 rfl) ?_
  refine gz_ltN (tgt := 22) hx hb dX1_fund_1 (by decide) (by omega) ?_
  refine lv_iload_n hx hb dX1_fund_4 rfl (lv_at hl 1 rfl) ?_
  refine lv_sipush (v := nI 2000) hx hb dX1_fund_5 (by decide) ?_
  refine gb_gt (tgt := 22) hx hb dX1_fund_8 (by decide) (by omega) (by omega) (fun c_8 => ?_) (fun c_8 => ?_)
  · exfalso; omega
  · refine lv_aload_n hx hb dX1_fund_11 rfl (lv_at hl 0 rfl) ?_
    refine yg_ga K hP dX1_fund_12 ?_
    refine lv_iload_n hx hb dX1_fund_15 rfl (lv_at hl 1 rfl) ?_
    refine gi_add hx hb dX1_fund_16 ?_
    refine lv_ldc hx hb K.2.2.2.1 (K.2.2.1 _ q297) dX1_fund_17 ?_
    refine gi_tp (y := nI 100000) (by decide) ?_
    refine gb_le (tgt := 24) hx hb dX1_fund_19 (by decide) (by omega) (by omega) (fun c_19 => ?_) (fun c_19 => ?_)
    · exfalso; omega
    · refine lv_iconst (v := (-1)) hx hb dX1_fund_22 (by decide) ?_
      exact ret _ _ (-1) () _ _ dX1_fund_23 rfl rfl hP hD hS
set_option maxHeartbeats 4000000 in
set_option maxRecDepth 100000 in
theorem metM_fundC (l : Launch) (D : va_G) (d : ClassId) (h : Nat) (r : Nat → Nat) (op : vF) (nu : vF) (sz : Nat) (va : vF) (pi : vF) (hg : Nat) (ga : Nat) (en : Nat) (nx : Nat) (dn : Nat) (sp : Nat) (kv : vF) (kp : vF) (j : Nat) (hj : j ≤ 2000) (hga : ga ≤ 100000) (hs : ga + j ≤ 100000) : MetI l yX1_fund cX1_fund 2 .int D d [.ref h, .int (nI j)] (wM h r d op nu sz va pi hg ga en nx dn sp kv kp) (rmG 0) (fun (a : Int32) (u : Nat) => a = nI (ga + j) ∧ u = ga + j) (fun u : Nat => wM h r d op nu sz va pi hg u en nx dn sp kv kp) := by
  refine gm_startI (own := RX1) (by decide +kernel) rfl (Nat.le_of_ble_eq_true rfl) ?_
  intro p e s m below meth c A H locs Q ls K hl hP hD hS ret
  have hx := K.1
  have hb := K.2.1
  have hl : lv_has ls 2 [(0, .ref h), (1, .int (nI j))] := hl
  refine lv_iload_n hx hb dX1_fund_0 rfl (lv_at hl 1 rfl) ?_
  refine gz_ltN (tgt := 22) hx hb dX1_fund_1 (by decide) (by omega) ?_
  refine lv_iload_n hx hb dX1_fund_4 rfl (lv_at hl 1 rfl) ?_
  refine lv_sipush (v := nI 2000) hx hb dX1_fund_5 (by decide) ?_
  refine gb_gt (tgt := 22) hx hb dX1_fund_8 (by decide) (by omega) (by omega) (fun c_8 => ?_) (fun c_8 => ?_)
  · exfalso; omega
  · refine lv_aload_n hx hb dX1_fund_11 rfl (lv_at hl 0 rfl) ?_
    refine yg_ga K hP dX1_fund_12 ?_
    refine lv_iload_n hx hb dX1_fund_15 rfl (lv_at hl 1 rfl) ?_
    refine gi_add hx hb dX1_fund_16 ?_
    refine lv_ldc hx hb K.2.2.2.1 (K.2.2.1 _ q297) dX1_fund_17 ?_
    refine gi_tp (y := nI 100000) (by decide) ?_
    refine gb_le (tgt := 24) hx hb dX1_fund_19 (by decide) (by omega) (by omega) (fun c_19 => ?_) (fun c_19 => ?_)
    · refine lv_aload_n hx hb dX1_fund_24 rfl (lv_at hl 0 rfl) ?_
      refine lv_aload_n hx hb dX1_fund_25 rfl (lv_at hl 0 rfl) ?_
      refine yg_ga K hP dX1_fund_26 ?_
      refine lv_iload_n hx hb dX1_fund_29 rfl (lv_at hl 1 rfl) ?_
      refine gi_add hx hb dX1_fund_30 ?_
      refine yp_ga K hP hD hS dX1_fund_31 (fun H locs hP hD hS => ?_)
      refine lv_aload_n hx hb dX1_fund_34 rfl (lv_at hl 0 rfl) ?_
      refine yg_ga K hP dX1_fund_35 ?_
      exact ret _ _ (nI (ga + j)) (ga + j) _ _ dX1_fund_38 rfl ⟨rfl, rfl⟩ hP hD hS
    · exfalso; omega
set_option maxHeartbeats 4000000 in
set_option maxRecDepth 100000 in
theorem metM_pileA (l : Launch) (D : va_G) (d : ClassId) (h : Nat) (r : Nat → Nat) (op : vF) (nu : vF) (sz : Nat) (va : vF) (pi : vF) (hg : Nat) (ga : Nat) (en : Nat) (nx : Nat) (dn : Nat) (sp : Nat) (kv : vF) (kp : vF) (v : Int32) (hh : hg ≤ 8) (hv : v < 0 ∨ nI hg ≤ v) : MetI l yX1_pile cX1_pile 2 .int D d [.ref h, .int v] (wM h r d op nu sz va pi hg ga en nx dn sp kv kp) (rmG 0) (fun (a : Int32) (_ : Unit) => a = nI 0) (fun _ : Unit => wM h r d op nu sz va pi hg ga en nx dn sp kv kp) := by
  refine gm_startI (own := RX1) (by decide +kernel) rfl (Nat.le_of_ble_eq_true rfl) ?_
  intro p e s m below meth c A H locs Q ls K hl hP hD hS ret
  have hx := K.1
  have hb := K.2.1
  have hl : lv_has ls 2 [(0, .ref h), (1, .int v)] := hl
  refine lv_iload_n hx hb dX1_pile_0 rfl (lv_at hl 1 rfl) ?_
  refine lv_if_lt (tgt := 21) hx hb dX1_pile_1 (by decide) (fun c_1 => ?_) (fun c_1 => ?_)
  · refine lv_iconst (v := nI 0) hx hb dX1_pile_21 (by decide) ?_
    exact ret _ _ (nI 0) () _ _ dX1_pile_22 rfl rfl hP hD hS
  · refine lv_iload_n hx hb dX1_pile_4 rfl (lv_at hl 1 rfl) ?_
    refine lv_aload_n hx hb dX1_pile_5 rfl (lv_at hl 0 rfl) ?_
    refine yg_hg K hP dX1_pile_6 ?_
    refine lv_icmp_ge (tgt := 21) hx hb dX1_pile_9 (by decide) (fun c_9 => ?_) (fun c_9 => ?_)
    · refine lv_iconst (v := nI 0) hx hb dX1_pile_21 (by decide) ?_
      exact ret _ _ (nI 0) () _ _ dX1_pile_22 rfl rfl hP hD hS
    · exact absurd (hv.resolve_left c_1) c_9
set_option maxHeartbeats 4000000 in
set_option maxRecDepth 100000 in
theorem metM_pileB (l : Launch) (D : va_G) (d : ClassId) (h : Nat) (r : Nat → Nat) (op : vF) (nu : vF) (sz : Nat) (va : vF) (pi : vF) (hg : Nat) (ga : Nat) (en : Nat) (nx : Nat) (dn : Nat) (sp : Nat) (kv : vF) (kp : vF) (j : Nat) (hh : hg ≤ 8) (hj : j < hg) : MetI l yX1_pile cX1_pile 2 .int D d [.ref h, .int (nI j)] (wM h r d op nu sz va pi hg ga en nx dn sp kv kp) (rmG 0) (fun (a : Int32) (_ : Unit) => a = pi j) (fun _ : Unit => wM h r d op nu sz va pi hg ga en nx dn sp kv kp) := by
  refine gm_startI (own := RX1) (by decide +kernel) rfl (Nat.le_of_ble_eq_true rfl) ?_
  intro p e s m below meth c A H locs Q ls K hl hP hD hS ret
  have hx := K.1
  have hb := K.2.1
  have hl : lv_has ls 2 [(0, .ref h), (1, .int (nI j))] := hl
  refine lv_iload_n hx hb dX1_pile_0 rfl (lv_at hl 1 rfl) ?_
  refine gz_ltN (tgt := 21) hx hb dX1_pile_1 (by decide) (by omega) ?_
  refine lv_iload_n hx hb dX1_pile_4 rfl (lv_at hl 1 rfl) ?_
  refine lv_aload_n hx hb dX1_pile_5 rfl (lv_at hl 0 rfl) ?_
  refine yg_hg K hP dX1_pile_6 ?_
  refine gb_ge (tgt := 21) hx hb dX1_pile_9 (by decide) (by omega) (by omega) (fun c_9 => ?_) (fun c_9 => ?_)
  · exfalso; omega
  · refine lv_aload_n hx hb dX1_pile_12 rfl (lv_at hl 0 rfl) ?_
    refine yg_pi K hP dX1_pile_13 ?_
    refine lv_iload_n hx hb dX1_pile_16 rfl (lv_at hl 1 rfl) ?_
    refine yl_pi K hP (by omega) dX1_pile_17 ?_
    refine lv_goto (tgt := 22) hx hb dX1_pile_18 (by decide) ?_
    exact ret _ _ (pi j) () _ _ dX1_pile_22 rfl rfl hP hD hS
set_option maxHeartbeats 4000000 in
set_option maxRecDepth 100000 in
theorem metM_appendA (l : Launch) (D : va_G) (d : ClassId) (h : Nat) (r : Nat → Nat) (op : vF) (nu : vF) (sz : Nat) (va : vF) (pi : vF) (hg : Nat) (ga : Nat) (en : Nat) (nx : Nat) (dn : Nat) (sp : Nat) (kv : vF) (kp : vF) (o : Int32) (b : Int32) (hz : sz ≤ 20) (hb1 : badN o b = 1) : MetI l yX1_append cX1_append 3 .int D d [.ref h, .int o, .int b] (wM h r d op nu sz va pi hg ga en nx dn sp kv kp) (rmG 1) (fun (a : Int32) (_ : Unit) => a = -1) (fun _ : Unit => wM h r d op nu sz va pi hg ga en nx dn sp kv kp) := by
  refine gm_startI (own := RX1) (by decide +kernel) rfl (Nat.le_of_ble_eq_true rfl) ?_
  intro p e s m below meth c A H locs Q ls K hl hP hD hS ret
  have hx := K.1
  have hb := K.2.1
  have hl : lv_has ls 3 [(0, .ref h), (1, .int o), (2, .int b)] := hl
  refine lv_aload_n hx hb dX1_append_0 rfl (lv_at hl 0 rfl) ?_
  refine lv_iload_n hx hb dX1_append_1 rfl (lv_at hl 1 rfl) ?_
  refine lv_iload_n hx hb dX1_append_2 rfl (lv_at hl 2 rfl) ?_
  refine gm_calli (As := [.int o, .int b]) (rest := []) (C := RX1) (n := 2) K (metM_isFit l D d h r op nu sz va pi hg ga en nx dn sp kv kp o b ) (lw_V q269 q271 qs15 q28 q272) (by decide +kernel) ⟨by decide, by decide⟩ ⟨rfl, rfl⟩ rfl 1 rfl rfl rfl hP hD hS hl rfl (Nat.le_of_ble_eq_true rfl) dX1_append_3 ⟨Nat.zero_le _, Nat.zero_le _⟩ (fun a_1 u_1 H locs hp_1 hP hD hS => ?_)
  have ea_1 := hp_1
  have ea_1 : a_1 = nI (fitN o b) := ea_1
  subst ea_1
  refine gz_ne (tgt := 11) hx hb dX1_append_6 (by decide) (fitN_lt _ _) (fun c_6 => ?_) (fun c_6 => ?_)
  · exfalso; unfold fitN at c_6; omega
  · refine lv_iconst (v := (-1)) hx hb dX1_append_9 (by decide) ?_
    exact ret _ _ (-1) () _ _ dX1_append_10 rfl rfl hP hD hS
set_option maxHeartbeats 4000000 in
set_option maxRecDepth 100000 in
theorem metM_appendB (l : Launch) (D : va_G) (d : ClassId) (h : Nat) (r : Nat → Nat) (op : vF) (nu : vF) (sz : Nat) (va : vF) (pi : vF) (hg : Nat) (ga : Nat) (en : Nat) (nx : Nat) (dn : Nat) (sp : Nat) (kv : vF) (kp : vF) (o : Int32) (b : Int32) (hz : sz = 20) (hb0 : badN o b = 0) : MetI l yX1_append cX1_append 3 .int D d [.ref h, .int o, .int b] (wM h r d op nu sz va pi hg ga en nx dn sp kv kp) (rmG 1) (fun (a : Int32) (_ : Unit) => a = -2) (fun _ : Unit => wM h r d op nu sz va pi hg ga en nx dn sp kv kp) := by
  refine gm_startI (own := RX1) (by decide +kernel) rfl (Nat.le_of_ble_eq_true rfl) ?_
  intro p e s m below meth c A H locs Q ls K hl hP hD hS ret
  have hx := K.1
  have hb := K.2.1
  have hl : lv_has ls 3 [(0, .ref h), (1, .int o), (2, .int b)] := hl
  refine lv_aload_n hx hb dX1_append_0 rfl (lv_at hl 0 rfl) ?_
  refine lv_iload_n hx hb dX1_append_1 rfl (lv_at hl 1 rfl) ?_
  refine lv_iload_n hx hb dX1_append_2 rfl (lv_at hl 2 rfl) ?_
  refine gm_calli (As := [.int o, .int b]) (rest := []) (C := RX1) (n := 2) K (metM_isFit l D d h r op nu sz va pi hg ga en nx dn sp kv kp o b ) (lw_V q269 q271 qs15 q28 q272) (by decide +kernel) ⟨by decide, by decide⟩ ⟨rfl, rfl⟩ rfl 1 rfl rfl rfl hP hD hS hl rfl (Nat.le_of_ble_eq_true rfl) dX1_append_3 ⟨Nat.zero_le _, Nat.zero_le _⟩ (fun a_1 u_1 H locs hp_1 hP hD hS => ?_)
  have ea_1 := hp_1
  have ea_1 : a_1 = nI (fitN o b) := ea_1
  subst ea_1
  refine gz_ne (tgt := 11) hx hb dX1_append_6 (by decide) (fitN_lt _ _) (fun c_6 => ?_) (fun c_6 => ?_)
  · refine lv_aload_n hx hb dX1_append_11 rfl (lv_at hl 0 rfl) ?_
    refine yg_sz K hP dX1_append_12 ?_
    refine lv_bipush (v := nI 20) hx hb dX1_append_15 (by decide) ?_
    refine gb_ne (tgt := 23) hx hb dX1_append_17 (by decide) (by omega) (by omega) (fun c_17 => ?_) (fun c_17 => ?_)
    · exfalso; omega
    · refine lv_bipush (v := (-2)) hx hb dX1_append_20 (by decide) ?_
      exact ret _ _ (-2) () _ _ dX1_append_22 rfl rfl hP hD hS
  · exfalso; unfold fitN at c_6; omega
set_option maxHeartbeats 4000000 in
set_option maxRecDepth 100000 in
theorem metM_appendC (l : Launch) (D : va_G) (d : ClassId) (h : Nat) (r : Nat → Nat) (op : vF) (nu : vF) (sz : Nat) (va : vF) (pi : vF) (hg : Nat) (ga : Nat) (en : Nat) (nx : Nat) (dn : Nat) (sp : Nat) (kv : vF) (kp : vF) (o : Int32) (b : Int32) (hz : sz < 20) (hb0 : badN o b = 0) : MetI l yX1_append cX1_append 3 .int D d [.ref h, .int o, .int b] (wM h r d op nu sz va pi hg ga en nx dn sp kv kp) (rmG 1) (fun (a : Int32) (u : vF × vF × Nat) => a = nI sz ∧ u.1 = upd op sz o ∧ u.2.1 = upd nu sz b ∧ u.2.2 = sz + 1) (fun u : vF × vF × Nat => wM h r d u.1 u.2.1 u.2.2 va pi hg ga en nx dn sp kv kp) := by
  refine gm_startI (own := RX1) (by decide +kernel) rfl (Nat.le_of_ble_eq_true rfl) ?_
  intro p e s m below meth c A H locs Q ls K hl hP hD hS ret
  have hx := K.1
  have hb := K.2.1
  have hl : lv_has ls 3 [(0, .ref h), (1, .int o), (2, .int b)] := hl
  refine lv_aload_n hx hb dX1_append_0 rfl (lv_at hl 0 rfl) ?_
  refine lv_iload_n hx hb dX1_append_1 rfl (lv_at hl 1 rfl) ?_
  refine lv_iload_n hx hb dX1_append_2 rfl (lv_at hl 2 rfl) ?_
  refine gm_calli (As := [.int o, .int b]) (rest := []) (C := RX1) (n := 2) K (metM_isFit l D d h r op nu sz va pi hg ga en nx dn sp kv kp o b ) (lw_V q269 q271 qs15 q28 q272) (by decide +kernel) ⟨by decide, by decide⟩ ⟨rfl, rfl⟩ rfl 1 rfl rfl rfl hP hD hS hl rfl (Nat.le_of_ble_eq_true rfl) dX1_append_3 ⟨Nat.zero_le _, Nat.zero_le _⟩ (fun a_1 u_1 H locs hp_1 hP hD hS => ?_)
  have ea_1 := hp_1
  have ea_1 : a_1 = nI (fitN o b) := ea_1
  subst ea_1
  refine gz_ne (tgt := 11) hx hb dX1_append_6 (by decide) (fitN_lt _ _) (fun c_6 => ?_) (fun c_6 => ?_)
  · refine lv_aload_n hx hb dX1_append_11 rfl (lv_at hl 0 rfl) ?_
    refine yg_sz K hP dX1_append_12 ?_
    refine lv_bipush (v := nI 20) hx hb dX1_append_15 (by decide) ?_
    refine gb_ne (tgt := 23) hx hb dX1_append_17 (by decide) (by omega) (by omega) (fun c_17 => ?_) (fun c_17 => ?_)
    · refine lv_aload_n hx hb dX1_append_23 rfl (lv_at hl 0 rfl) ?_
      refine yg_op K hP dX1_append_24 ?_
      refine lv_aload_n hx hb dX1_append_27 rfl (lv_at hl 0 rfl) ?_
      refine yg_sz K hP dX1_append_28 ?_
      refine lv_iload_n hx hb dX1_append_31 rfl (lv_at hl 1 rfl) ?_
      refine ys_op K hP hD hS (by omega) dX1_append_32 (fun H locs hP hD hS => ?_)
      refine lv_aload_n hx hb dX1_append_33 rfl (lv_at hl 0 rfl) ?_
      refine yg_nu K hP dX1_append_34 ?_
      refine lv_aload_n hx hb dX1_append_37 rfl (lv_at hl 0 rfl) ?_
      refine yg_sz K hP dX1_append_38 ?_
      refine lv_iload_n hx hb dX1_append_41 rfl (lv_at hl 2 rfl) ?_
      refine ys_nu K hP hD hS (by omega) dX1_append_42 (fun H locs hP hD hS => ?_)
      refine lv_aload_n hx hb dX1_append_43 rfl (lv_at hl 0 rfl) ?_
      refine lv_dup hx hb dX1_append_44 rfl ?_
      refine yg_sz K hP dX1_append_45 ?_
      refine lv_iconst (v := nI 1) hx hb dX1_append_48 (by decide) ?_
      refine gi_add hx hb dX1_append_49 ?_
      refine yp_sz K hP hD hS dX1_append_50 (fun H locs hP hD hS => ?_)
      refine lv_aload_n hx hb dX1_append_53 rfl (lv_at hl 0 rfl) ?_
      refine yg_sz K hP dX1_append_54 ?_
      refine lv_iconst (v := nI 1) hx hb dX1_append_57 (by decide) ?_
      refine gi_sub hx hb (by omega) dX1_append_58 ?_
      exact ret _ _ (nI ((sz + 1) - 1)) (upd op sz o, upd nu sz b, sz + 1) _ _ dX1_append_59 rfl ⟨(show nI ((sz + 1) - 1) = nI sz from by rw [Nat.add_sub_cancel]), rfl, rfl, rfl⟩ hP hD hS
    · exfalso; omega
  · exfalso; unfold fitN at c_6; omega
set_option maxHeartbeats 4000000 in
set_option maxRecDepth 100000 in
theorem metM_changeA (l : Launch) (D : va_G) (d : ClassId) (h : Nat) (r : Nat → Nat) (op : vF) (nu : vF) (sz : Nat) (va : vF) (pi : vF) (hg : Nat) (ga : Nat) (en : Nat) (nx : Nat) (dn : Nat) (sp : Nat) (kv : vF) (kp : vF) (v : Int32) (o : Int32) (b : Int32) (hz : sz ≤ 20) (hv : v < 0 ∨ nI sz ≤ v) : MetI l yX1_change cX1_change 5 .int D d [.ref h, .int v, .int o, .int b] (wM h r d op nu sz va pi hg ga en nx dn sp kv kp) (rmG 1) (fun (a : Int32) (_ : Unit) => a = -1) (fun _ : Unit => wM h r d op nu sz va pi hg ga en nx dn sp kv kp) := by
  refine gm_startI (own := RX1) (by decide +kernel) rfl (Nat.le_of_ble_eq_true rfl) ?_
  intro p e s m below meth c A H locs Q ls K hl hP hD hS ret
  have hx := K.1
  have hb := K.2.1
  have hl : lv_has ls 5 [(0, .ref h), (1, .int v), (2, .int o), (3, .int b)] := hl
  refine lv_iload_n hx hb dX1_change_0 rfl (lv_at hl 1 rfl) ?_
  refine lv_if_lt (tgt := 21) hx hb dX1_change_1 (by decide) (fun c_1 => ?_) (fun c_1 => ?_)
  · refine lv_iconst (v := (-1)) hx hb dX1_change_21 (by decide) ?_
    exact ret _ _ (-1) () _ _ dX1_change_22 rfl rfl hP hD hS
  · refine lv_iload_n hx hb dX1_change_4 rfl (lv_at hl 1 rfl) ?_
    refine lv_aload_n hx hb dX1_change_5 rfl (lv_at hl 0 rfl) ?_
    refine yg_sz K hP dX1_change_6 ?_
    refine lv_icmp_ge (tgt := 21) hx hb dX1_change_9 (by decide) (fun c_9 => ?_) (fun c_9 => ?_)
    · refine lv_iconst (v := (-1)) hx hb dX1_change_21 (by decide) ?_
      exact ret _ _ (-1) () _ _ dX1_change_22 rfl rfl hP hD hS
    · exact absurd (hv.resolve_left c_1) c_9
set_option maxHeartbeats 4000000 in
set_option maxRecDepth 100000 in
theorem metM_changeB (l : Launch) (D : va_G) (d : ClassId) (h : Nat) (r : Nat → Nat) (op : vF) (nu : vF) (sz : Nat) (va : vF) (pi : vF) (hg : Nat) (ga : Nat) (en : Nat) (nx : Nat) (dn : Nat) (sp : Nat) (kv : vF) (kp : vF) (j : Nat) (o : Int32) (b : Int32) (hz : sz ≤ 20) (hj : j < sz) (hb1 : badN o b = 1) : MetI l yX1_change cX1_change 5 .int D d [.ref h, .int (nI j), .int o, .int b] (wM h r d op nu sz va pi hg ga en nx dn sp kv kp) (rmG 1) (fun (a : Int32) (_ : Unit) => a = -1) (fun _ : Unit => wM h r d op nu sz va pi hg ga en nx dn sp kv kp) := by
  refine gm_startI (own := RX1) (by decide +kernel) rfl (Nat.le_of_ble_eq_true rfl) ?_
  intro p e s m below meth c A H locs Q ls K hl hP hD hS ret
  have hx := K.1
  have hb := K.2.1
  have hl : lv_has ls 5 [(0, .ref h), (1, .int (nI j)), (2, .int o), (3, .int b)] := hl
  refine lv_iload_n hx hb dX1_change_0 rfl (lv_at hl 1 rfl) ?_
  refine gz_ltN (tgt := 21) hx hb dX1_change_1 (by decide) (by omega) ?_
  refine lv_iload_n hx hb dX1_change_4 rfl (lv_at hl 1 rfl) ?_
  refine lv_aload_n hx hb dX1_change_5 rfl (lv_at hl 0 rfl) ?_
  refine yg_sz K hP dX1_change_6 ?_
  refine gb_ge (tgt := 21) hx hb dX1_change_9 (by decide) (by omega) (by omega) (fun c_9 => ?_) (fun c_9 => ?_)
  · exfalso; omega
  · refine lv_aload_n hx hb dX1_change_12 rfl (lv_at hl 0 rfl) ?_
    refine lv_iload_n hx hb dX1_change_13 rfl (lv_at hl 2 rfl) ?_
    refine lv_iload_n hx hb dX1_change_14 rfl (lv_at hl 3 rfl) ?_
    refine gm_calli (As := [.int o, .int b]) (rest := []) (C := RX1) (n := 2) K (metM_isFit l D d h r op nu sz va pi hg ga en nx dn sp kv kp o b ) (lw_V q269 q271 qs15 q28 q272) (by decide +kernel) ⟨by decide, by decide⟩ ⟨rfl, rfl⟩ rfl 1 rfl rfl rfl hP hD hS hl rfl (Nat.le_of_ble_eq_true rfl) dX1_change_15 ⟨Nat.zero_le _, Nat.zero_le _⟩ (fun a_1 u_1 H locs hp_1 hP hD hS => ?_)
    have ea_1 := hp_1
    have ea_1 : a_1 = nI (fitN o b) := ea_1
    subst ea_1
    refine gz_ne (tgt := 23) hx hb dX1_change_18 (by decide) (fitN_lt _ _) (fun c_18 => ?_) (fun c_18 => ?_)
    · exfalso; unfold fitN at c_18; omega
    · refine lv_iconst (v := (-1)) hx hb dX1_change_21 (by decide) ?_
      exact ret _ _ (-1) () _ _ dX1_change_22 rfl rfl hP hD hS
set_option maxHeartbeats 4000000 in
set_option maxRecDepth 100000 in
theorem metM_changeC (l : Launch) (D : va_G) (d : ClassId) (h : Nat) (r : Nat → Nat) (op : vF) (nu : vF) (sz : Nat) (va : vF) (pi : vF) (hg : Nat) (ga : Nat) (en : Nat) (nx : Nat) (dn : Nat) (sp : Nat) (kv : vF) (kp : vF) (j : Nat) (o : Int32) (b : Int32) (hz : sz ≤ 20) (hj : j < sz) (hb0 : badN o b = 0) : MetI l yX1_change cX1_change 5 .int D d [.ref h, .int (nI j), .int o, .int b] (wM h r d op nu sz va pi hg ga en nx dn sp kv kp) (rmG 1) (fun (a : Int32) (u : vF × vF) => a = op j ∧ u.1 = upd op j o ∧ u.2 = upd nu j b) (fun u : vF × vF => wM h r d u.1 u.2 sz va pi hg ga en nx dn sp kv kp) := by
  refine gm_startI (own := RX1) (by decide +kernel) rfl (Nat.le_of_ble_eq_true rfl) ?_
  intro p e s m below meth c A H locs Q ls K hl hP hD hS ret
  have hx := K.1
  have hb := K.2.1
  have hl : lv_has ls 5 [(0, .ref h), (1, .int (nI j)), (2, .int o), (3, .int b)] := hl
  refine lv_iload_n hx hb dX1_change_0 rfl (lv_at hl 1 rfl) ?_
  refine gz_ltN (tgt := 21) hx hb dX1_change_1 (by decide) (by omega) ?_
  refine lv_iload_n hx hb dX1_change_4 rfl (lv_at hl 1 rfl) ?_
  refine lv_aload_n hx hb dX1_change_5 rfl (lv_at hl 0 rfl) ?_
  refine yg_sz K hP dX1_change_6 ?_
  refine gb_ge (tgt := 21) hx hb dX1_change_9 (by decide) (by omega) (by omega) (fun c_9 => ?_) (fun c_9 => ?_)
  · exfalso; omega
  · refine lv_aload_n hx hb dX1_change_12 rfl (lv_at hl 0 rfl) ?_
    refine lv_iload_n hx hb dX1_change_13 rfl (lv_at hl 2 rfl) ?_
    refine lv_iload_n hx hb dX1_change_14 rfl (lv_at hl 3 rfl) ?_
    refine gm_calli (As := [.int o, .int b]) (rest := []) (C := RX1) (n := 2) K (metM_isFit l D d h r op nu sz va pi hg ga en nx dn sp kv kp o b ) (lw_V q269 q271 qs15 q28 q272) (by decide +kernel) ⟨by decide, by decide⟩ ⟨rfl, rfl⟩ rfl 1 rfl rfl rfl hP hD hS hl rfl (Nat.le_of_ble_eq_true rfl) dX1_change_15 ⟨Nat.zero_le _, Nat.zero_le _⟩ (fun a_1 u_1 H locs hp_1 hP hD hS => ?_)
    have ea_1 := hp_1
    have ea_1 : a_1 = nI (fitN o b) := ea_1
    subst ea_1
    refine gz_ne (tgt := 23) hx hb dX1_change_18 (by decide) (fitN_lt _ _) (fun c_18 => ?_) (fun c_18 => ?_)
    · refine lv_aload_n hx hb dX1_change_23 rfl (lv_at hl 0 rfl) ?_
      refine yg_op K hP dX1_change_24 ?_
      refine lv_iload_n hx hb dX1_change_27 rfl (lv_at hl 1 rfl) ?_
      refine yl_op K hP (by omega) dX1_change_28 ?_
      refine lv_istore (lv' := [(4, .int (op j)), (0, .ref h), (1, .int (nI j)), (2, .int o), (3, .int b)]) hx hb dX1_change_29 hl (by decide) rfl (fun ls hl => ?_)
      refine lv_aload_n hx hb dX1_change_31 rfl (lv_at hl 1 rfl) ?_
      refine yg_op K hP dX1_change_32 ?_
      refine lv_iload_n hx hb dX1_change_35 rfl (lv_at hl 2 rfl) ?_
      refine lv_iload_n hx hb dX1_change_36 rfl (lv_at hl 3 rfl) ?_
      refine ys_op K hP hD hS (by omega) dX1_change_37 (fun H locs hP hD hS => ?_)
      refine lv_aload_n hx hb dX1_change_38 rfl (lv_at hl 1 rfl) ?_
      refine yg_nu K hP dX1_change_39 ?_
      refine lv_iload_n hx hb dX1_change_42 rfl (lv_at hl 2 rfl) ?_
      refine lv_iload_n hx hb dX1_change_43 rfl (lv_at hl 4 rfl) ?_
      refine ys_nu K hP hD hS (by omega) dX1_change_44 (fun H locs hP hD hS => ?_)
      refine lv_iload hx hb dX1_change_45 (lv_at hl 0 rfl) ?_
      exact ret _ _ (op j) (upd op j o, upd nu j b) _ _ dX1_change_47 rfl ⟨rfl, rfl, rfl⟩ hP hD hS
    · exfalso; unfold fitN at c_18; omega
end
section
/-! pictures whose arrays hold the same within their lengths are one; steps of a run as single rows -/
theorem arr_ext {cA : ClassId} {n : Nat} {f g : vF} (h : ∀ j, j < n → f j = g j) : vp_cell cA (n, .inl f) = vp_cell cA (n, .inl g) := by
  rw [vp_cell_i, vp_cell_i]
  unfold arrV
  congr 1
  apply Array.ext
  · simp
  · intro i h1 h2
    have hi : i < n := by simpa using h1
    simp [h i hi]
theorem vaP_cons {D : va_G} {cl : List vw_C} {q : Nat × va_E} {ws : va_W} {H : Heap} : va_P D cl (q :: ws) H ↔ va_at D cl q H ∧ va_P D cl ws H := by
  constructor
  · intro h
    exact ⟨h 0 q rfl, fun k x hx => h (k + 1) x hx⟩
  · intro h k x hx
    cases k with
    | zero => cases hx; exact h.1
    | succ k => exact h.2 k x hx
theorem vaD_fst {A : Nat → Prop} {ws ws' : va_W} (he : ws.map (fun q => q.1) = ws'.map (fun q => q.1)) (h : va_D A ws) : va_D A ws' := by
  have key : ∀ (k : Nat) (q : Nat × va_E), ws'[k]? = some q → ∃ x : Nat × va_E, ws[k]? = some x ∧ x.1 = q.1 := by
    intro k q hq
    have h1 : (ws'.map (fun q => q.1))[k]? = some q.1 := by rw [List.getElem?_map, hq]; rfl
    rw [← he, List.getElem?_map] at h1
    cases hx : ws[k]? with
    | none => rw [hx] at h1; cases h1
    | some x => rw [hx] at h1; exact ⟨x, rfl, Option.some.inj h1⟩
  refine ⟨fun i j x y hx hy hxy => ?_, fun k q hq => ?_⟩
  · obtain ⟨x', hx', ex⟩ := key i x hx
    obtain ⟨y', hy', ey⟩ := key j y hy
    exact h.1 i j x' y' hx' hy' (by rw [ex, ey]; exact hxy)
  · obtain ⟨x, hx, ex⟩ := key k q hq
    rw [← ex]
    exact h.2 k x hx
theorem wM_ext {D : va_G} {H : Heap} {h : Nat} {r : Nat → Nat} {d : ClassId} {op nu : vF} {sz : Nat} {va pi va' pi' : vF} {hg ga en nx dn sp : Nat} {kv kp : vF} (h1 : ∀ j, j < 4 → va' j = va j) (h2 : ∀ j, j < 8 → pi' j = pi j)
    (hP : va_P D gCl (wM h r d op nu sz va' pi' hg ga en nx dn sp kv kp) H) : va_P D gCl (wM h r d op nu sz va pi hg ga en nx dn sp kv kp) H := by
  unfold wM at hP ⊢
  simp only [vaP_cons] at hP ⊢
  obtain ⟨a0, a1, a2, a3, a4, a5, a6, a7⟩ := hP
  refine ⟨a0, a1, a2, ?_, ?_, a5, a6, a7⟩
  · show H[r 3]? = some (vp_cell d (4, .inl va))
    rw [← arr_ext h1]
    exact a3
  · show H[r 4]? = some (vp_cell d (8, .inl pi))
    rw [← arr_ext h2]
    exact a4
theorem wX_ext {D : va_G} {H : Heap} {h : Nat} {r : Nat → Nat} {d : ClassId} {sz : Nat} {op nu va va' : vF} {ga pl : Nat} {le pr ne ri : vF} {nx en dn tk hg : Nat} {pi pi' ke kp : vF} (h1 : ∀ j, j < 4 → va' j = va j) (h2 : ∀ j, j < 8 → pi' j = pi j)
    (hP : va_P D gCl (wX h r d sz op nu va' ga pl le pr ne ri nx en dn tk hg pi' ke kp) H) : va_P D gCl (wX h r d sz op nu va ga pl le pr ne ri nx en dn tk hg pi ke kp) H := by
  unfold wX at hP ⊢
  simp only [vaP_cons] at hP ⊢
  obtain ⟨a0, a1, a2, a3, a4, a5, a6, a7, a8, a9, a10, a11⟩ := hP
  refine ⟨a0, a1, a2, ?_, a4, a5, a6, a7, ?_, a9, a10, a11⟩
  · show H[r 3]? = some (vp_cell d (4, .inl va))
    rw [← arr_ext h1]
    exact a3
  · show H[r 15]? = some (vp_cell d (8, .inl pi))
    rw [← arr_ext h2]
    exact a8
theorem stN_go {n : Nat} {op nu : vF} {ga dn nx hg : Nat} {pi va : vF} (h : endN n op ga dn nx hg pi = 0) : stN n op nu (0, ga, dn, nx, hg, pi, va) = goN (cd (op nx)) (nu nx) ga dn nx hg pi va := by
  unfold stN
  exact if_pos h
theorem stN_stop {n : Nat} {op nu : vF} {ga dn nx hg : Nat} {pi va : vF} (h : ¬ endN n op ga dn nx hg pi = 0) : stN n op nu (0, ga, dn, nx, hg, pi, va) = (endN n op ga dn nx hg pi, ga, dn, nx, hg, pi, va) := by
  unfold stN
  exact if_neg h
theorem goN_on {k : Nat} {a : Int32} {ga dn nx hg : Nat} {pi va : vF} (h : ¬ k = 14) : goN k a ga dn nx hg pi va = (0, ga - coN k (pi (hg - 1)), dn + 1, nxN k a nx hg pi, wkH k hg, piN k a (ga - coN k (pi (hg - 1))) hg pi va, wkV k a hg pi va) := by
  unfold goN
  rw [if_neg h]
theorem goN_halt {a : Int32} {ga dn nx hg : Nat} {pi va : vF} : goN 14 a ga dn nx hg pi va = (1, ga - coN 14 (pi (hg - 1)), dn + 1, nx, hg, pi, va) := rfl
theorem nxN_le {k : Nat} {a : Int32} {nx hg : Nat} {pi : vF} (h : nx < 20) (ha : k = 10 ∨ k = 11 → cd a ≤ 20) : nxN k a nx hg pi ≤ 20 := by
  unfold nxN; grind
/-- whether the program asks for gas, from place i on -/
def agN (op : vF) : Nat → Nat → Nat
  | 0, _ => 0
  | j + 1, i => if op i = nI 13 then 1 else agN op j (i + 1)
theorem agN_le (op : vF) : ∀ j i, agN op j i ≤ 1 := by
  intro j
  induction j with
  | zero => intro i; exact Nat.zero_le _
  | succ j ih =>
    intro i
    unfold agN
    split
    · exact Nat.le_refl _
    · exact ih _
theorem and3 {i : Nat} (h : i < 8) : nI i &&& nI 3 = nI (i % 4) := pk_andN (by omega) (m := nI 3) 2 (by decide)
end
section
set_option maxRecDepth 100000
set_option maxHeartbeats 4000000 in
set_option maxRecDepth 100000 in
theorem metM_work (l : Launch) (D : va_G) (d : ClassId) (h : Nat) (r : Nat → Nat) (op : vF) (nu : vF) (sz : Nat) (va : vF) (pi : vF) (hg : Nat) (ga : Nat) (en : Nat) (nx : Nat) (dn : Nat) (sp : Nat) (kv : vF) (kp : vF) (i : Nat) (hi : i < 20) (hk : op i = nI (cd (op i))) (hkt : cd (op i) < 14) (ht : tkN (cd (op i)) ≤ hg) (hp : hg - tkN (cd (op i)) + ptN (cd (op i)) ≤ 8) (hh : hg ≤ 8) (ha : cd (op i) = 8 ∨ cd (op i) = 9 → cd (nu i) < 4 ∧ nu i = nI (cd (nu i))) (hj : cd (op i) = 10 ∨ cd (op i) = 11 → cd (nu i) ≤ 20 ∧ nu i = nI (cd (nu i))) : MetI l yX1_work cX1_work 5 .int D d [.ref h, .int (nI i)] (wM h r d op nu sz va pi hg ga en nx dn sp kv kp) (rmG 2) (fun (a : Int32) (u : Nat × vF × vF) => a = nI (nxN (cd (op i)) (nu i) i hg pi) ∧ u.1 = wkH (cd (op i)) hg ∧ u.2.1 = piN (cd (op i)) (nu i) ga hg pi va ∧ u.2.2 = wkV (cd (op i)) (nu i) hg pi va) (fun u : Nat × vF × vF => wM h r d op nu sz u.2.2 u.2.1 u.1 ga en nx dn sp kv kp) := by
  refine gm_startI (own := RX1) (by decide +kernel) rfl (Nat.le_of_ble_eq_true rfl) ?_
  intro p e s m below meth c A H locs Q ls K hl hP hD hS ret
  have hx := K.1
  have hb := K.2.1
  have hl : lv_has ls 5 [(0, .ref h), (1, .int (nI i))] := hl
  refine lv_aload_n hx hb dX1_work_0 rfl (lv_at hl 0 rfl) ?_
  refine yg_op K hP dX1_work_1 ?_
  refine lv_iload_n hx hb dX1_work_4 rfl (lv_at hl 1 rfl) ?_
  refine yl_op K hP (by omega) dX1_work_5 ?_
  refine gi_tp (y := nI (cd (op i))) hk ?_
  refine lv_istore_n (lv' := [(2, .int (nI (cd (op i)))), (0, .ref h), (1, .int (nI i))]) hx hb dX1_work_6 rfl hl (by decide) rfl (fun ls hl => ?_)
  refine lv_aload_n hx hb dX1_work_7 rfl (lv_at hl 1 rfl) ?_
  refine yg_nu K hP dX1_work_8 ?_
  refine lv_iload_n hx hb dX1_work_11 rfl (lv_at hl 2 rfl) ?_
  refine yl_nu K hP (by omega) dX1_work_12 ?_
  refine lv_istore_n (lv' := [(3, .int (nu i)), (2, .int (nI (cd (op i)))), (0, .ref h), (1, .int (nI i))]) hx hb dX1_work_13 rfl hl (by decide) rfl (fun ls hl => ?_)
  refine lv_iload_n hx hb dX1_work_14 rfl (lv_at hl 1 rfl) ?_
  refine gz_ne (tgt := 26) hx hb dX1_work_15 (by decide) (by omega) (fun c_15 => ?_) (fun c_15 => ?_)
  · refine lv_iload_n hx hb dX1_work_26 rfl (lv_at hl 1 rfl) ?_
    refine lv_iconst (v := nI 4) hx hb dX1_work_27 (by decide) ?_
    refine gb_le (tgt := 37) hx hb dX1_work_28 (by decide) (by omega) (by omega) (fun c_28 => ?_) (fun c_28 => ?_)
    · have q1 : tkN (cd (op i)) = 2 := by unfold tkN; grind
      refine lv_aload_n hx hb dX1_work_37 rfl (lv_at hl 2 rfl) ?_
      refine lv_iload_n hx hb dX1_work_38 rfl (lv_at hl 1 rfl) ?_
      refine gm_callv (As := [.int (nI (cd (op i)))]) (rest := []) (C := RX1) (n := 1) K (metM_operate l D d h r op nu sz va pi hg ga en nx dn sp kv kp (cd (op i)) (nu i) (by omega) (by omega) hh) (lw_V q326 q328 qs21 q28 q329) (by decide +kernel) ⟨by decide, by decide⟩ ⟨rfl, rfl⟩ rfl 1 rfl rfl rfl hP hD hS hl rfl (Nat.le_of_ble_eq_true rfl) dX1_work_39 ⟨Nat.zero_le _, Nat.zero_le _⟩ (fun u_1 H locs hp_1 hP hD hS => ?_)
      obtain ⟨u_1a, u_1b⟩ := u_1
      obtain ⟨e_u_1a, e_u_1b⟩ := hp_1
      have e_u_1a : u_1a = wkH (cd (op i)) hg := e_u_1a
      subst e_u_1a
      have e_u_1b : u_1b = wkP (cd (op i)) (nu i) hg pi va := e_u_1b
      subst e_u_1b
      have hP : va_P D gCl (wM h r d op nu sz va (wkP (cd (op i)) (nu i) hg pi va) (wkH (cd (op i)) hg) ga en nx dn sp kv kp) H := hP
      have hD : va_D A (wM h r d op nu sz va (wkP (cd (op i)) (nu i) hg pi va) (wkH (cd (op i)) hg) ga en nx dn sp kv kp) := hD
      refine lv_goto (tgt := 151) hx hb dX1_work_42 (by decide) ?_
      refine lv_iload_n hx hb dX1_work_151 rfl (lv_at hl 3 rfl) ?_
      refine lv_iconst (v := nI 1) hx hb dX1_work_152 (by decide) ?_
      refine gi_add hx hb dX1_work_153 ?_
      exact ret _ _ (nI (i + 1)) (wkH (cd (op i)) hg, wkP (cd (op i)) (nu i) hg pi va, va) _ _ dX1_work_154 rfl ⟨(show nI (i + 1) = nI (nxN (cd (op i)) (nu i) i hg pi) from by unfold nxN; grind), rfl, (show wkP (cd (op i)) (nu i) hg pi va = piN (cd (op i)) (nu i) ga hg pi va from by unfold piN wkP; grind), (show va = wkV (cd (op i)) (nu i) hg pi va from by unfold wkV; grind)⟩ hP hD hS
    · refine lv_iload_n hx hb dX1_work_31 rfl (lv_at hl 1 rfl) ?_
      refine lv_bipush (v := nI 6) hx hb dX1_work_32 (by decide) ?_
      refine gb_ne (tgt := 45) hx hb dX1_work_34 (by decide) (by omega) (by omega) (fun c_34 => ?_) (fun c_34 => ?_)
      · refine lv_iload_n hx hb dX1_work_45 rfl (lv_at hl 1 rfl) ?_
        refine lv_iconst (v := nI 5) hx hb dX1_work_46 (by decide) ?_
        refine gb_ne (tgt := 68) hx hb dX1_work_47 (by decide) (by omega) (by omega) (fun c_47 => ?_) (fun c_47 => ?_)
        · refine lv_iload_n hx hb dX1_work_68 rfl (lv_at hl 1 rfl) ?_
          refine lv_bipush (v := nI 8) hx hb dX1_work_69 (by decide) ?_
          refine gb_ne (tgt := 87) hx hb dX1_work_71 (by decide) (by omega) (by omega) (fun c_71 => ?_) (fun c_71 => ?_)
          · refine lv_iload_n hx hb dX1_work_87 rfl (lv_at hl 1 rfl) ?_
            refine lv_bipush (v := nI 13) hx hb dX1_work_88 (by decide) ?_
            refine gb_ne (tgt := 104) hx hb dX1_work_90 (by decide) (by omega) (by omega) (fun c_90 => ?_) (fun c_90 => ?_)
            · refine lv_iload_n hx hb dX1_work_104 rfl (lv_at hl 1 rfl) ?_
              refine lv_bipush (v := nI 10) hx hb dX1_work_105 (by decide) ?_
              refine gb_ne (tgt := 112) hx hb dX1_work_107 (by decide) (by omega) (by omega) (fun c_107 => ?_) (fun c_107 => ?_)
              · refine lv_iload_n hx hb dX1_work_112 rfl (lv_at hl 1 rfl) ?_
                refine lv_bipush (v := nI 14) hx hb dX1_work_113 (by decide) ?_
                refine gb_eq (tgt := 151) hx hb dX1_work_115 (by decide) (by omega) (by omega) (fun c_115 => ?_) (fun c_115 => ?_)
                · exfalso; omega
                · have q1 : tkN (cd (op i)) = 1 ∧ ptN (cd (op i)) = 0 := by unfold tkN ptN; grind
                  refine lv_aload_n hx hb dX1_work_118 rfl (lv_at hl 2 rfl) ?_
                  refine gm_calli (As := []) (rest := []) (C := RX1) (n := 0) K (metM_pop l D d h r op nu sz va pi hg ga en nx dn sp kv kp  (by omega) hh) (lw_V q330 q332 qs22 q28 q333) (by decide +kernel) ⟨by decide, by decide⟩ ⟨rfl, rfl⟩ rfl 1 rfl rfl rfl hP hD hS hl rfl (Nat.le_of_ble_eq_true rfl) dX1_work_119 ⟨Nat.zero_le _, Nat.zero_le _⟩ (fun a_2 u_2 H locs hp_2 hP hD hS => ?_)
                  obtain ⟨ea_2, e_u_2⟩ := hp_2
                  have ea_2 : a_2 = pi (hg - 1) := ea_2
                  subst ea_2
                  have e_u_2 : u_2 = hg - 1 := e_u_2
                  subst e_u_2
                  have hP : va_P D gCl (wM h r d op nu sz va pi (hg - 1) ga en nx dn sp kv kp) H := hP
                  have hD : va_D A (wM h r d op nu sz va pi (hg - 1) ga en nx dn sp kv kp) := hD
                  refine lv_istore (lv' := [(4, .int (pi (hg - 1))), (3, .int (nu i)), (2, .int (nI (cd (op i)))), (0, .ref h), (1, .int (nI i))]) hx hb dX1_work_122 hl (by decide) rfl (fun ls hl => ?_)
                  refine lv_iload_n hx hb dX1_work_124 rfl (lv_at hl 2 rfl) ?_
                  refine lv_bipush (v := nI 9) hx hb dX1_work_125 (by decide) ?_
                  refine gb_ne (tgt := 138) hx hb dX1_work_127 (by decide) (by omega) (by omega) (fun c_127 => ?_) (fun c_127 => ?_)
                  · refine lv_iload_n hx hb dX1_work_138 rfl (lv_at hl 2 rfl) ?_
                    refine lv_bipush (v := nI 11) hx hb dX1_work_139 (by decide) ?_
                    refine gb_ne (tgt := 151) hx hb dX1_work_141 (by decide) (by omega) (by omega) (fun c_141 => ?_) (fun c_141 => ?_)
                    · refine lv_iload_n hx hb dX1_work_151 rfl (lv_at hl 4 rfl) ?_
                      refine lv_iconst (v := nI 1) hx hb dX1_work_152 (by decide) ?_
                      refine gi_add hx hb dX1_work_153 ?_
                      exact ret _ _ (nI (i + 1)) (hg - 1, pi, va) _ _ dX1_work_154 rfl ⟨(show nI (i + 1) = nI (nxN (cd (op i)) (nu i) i hg pi) from by unfold nxN; grind), (show hg - 1 = wkH (cd (op i)) hg from by unfold wkH; omega), (show pi = piN (cd (op i)) (nu i) ga hg pi va from by unfold piN wkP; grind), (show va = wkV (cd (op i)) (nu i) hg pi va from by unfold wkV; grind)⟩ hP hD hS
                    · refine lv_iload hx hb dX1_work_144 (lv_at hl 0 rfl) ?_
                      refine lv_if_eq (tgt := 151) hx hb dX1_work_146 (by decide) (fun c_146 => ?_) (fun c_146 => ?_)
                      · refine lv_iload_n hx hb dX1_work_151 rfl (lv_at hl 4 rfl) ?_
                        refine lv_iconst (v := nI 1) hx hb dX1_work_152 (by decide) ?_
                        refine gi_add hx hb dX1_work_153 ?_
                        exact ret _ _ (nI (i + 1)) (hg - 1, pi, va) _ _ dX1_work_154 rfl ⟨(show nI (i + 1) = nI (nxN (cd (op i)) (nu i) i hg pi) from by unfold nxN; grind), (show hg - 1 = wkH (cd (op i)) hg from by unfold wkH; omega), (show pi = piN (cd (op i)) (nu i) ga hg pi va from by unfold piN wkP; grind), (show va = wkV (cd (op i)) (nu i) hg pi va from by unfold wkV; grind)⟩ hP hD hS
                      · refine lv_iload_n hx hb dX1_work_149 rfl (lv_at hl 1 rfl) ?_
                        refine gi_tp (y := nI (cd (nu i))) ((hj (Or.inr c_141)).2) ?_
                        exact ret _ _ (nI (cd (nu i))) (hg - 1, pi, va) _ _ dX1_work_150 rfl ⟨(show nI (cd (nu i)) = nI (nxN (cd (op i)) (nu i) i hg pi) from by unfold nxN; grind), (show hg - 1 = wkH (cd (op i)) hg from by unfold wkH; omega), (show pi = piN (cd (op i)) (nu i) ga hg pi va from by unfold piN wkP; grind), (show va = wkV (cd (op i)) (nu i) hg pi va from by unfold wkV; grind)⟩ hP hD hS
                  · refine lv_aload_n hx hb dX1_work_130 rfl (lv_at hl 3 rfl) ?_
                    refine yg_va K hP dX1_work_131 ?_
                    refine lv_iload_n hx hb dX1_work_134 rfl (lv_at hl 1 rfl) ?_
                    refine gi_tp (y := nI (cd (nu i))) ((ha (Or.inr c_127)).2) ?_
                    refine lv_iload hx hb dX1_work_135 (lv_at hl 0 rfl) ?_
                    refine ys_va K hP hD hS ((ha (Or.inr c_127)).1) dX1_work_137 (fun H locs hP hD hS => ?_)
                    refine lv_iload_n hx hb dX1_work_138 rfl (lv_at hl 2 rfl) ?_
                    refine lv_bipush (v := nI 11) hx hb dX1_work_139 (by decide) ?_
                    refine gb_ne (tgt := 151) hx hb dX1_work_141 (by decide) (by omega) (by omega) (fun c_141 => ?_) (fun c_141 => ?_)
                    · refine lv_iload_n hx hb dX1_work_151 rfl (lv_at hl 4 rfl) ?_
                      refine lv_iconst (v := nI 1) hx hb dX1_work_152 (by decide) ?_
                      refine gi_add hx hb dX1_work_153 ?_
                      exact ret _ _ (nI (i + 1)) (hg - 1, pi, upd va (cd (nu i)) (pi (hg - 1))) _ _ dX1_work_154 rfl ⟨(show nI (i + 1) = nI (nxN (cd (op i)) (nu i) i hg pi) from by unfold nxN; grind), (show hg - 1 = wkH (cd (op i)) hg from by unfold wkH; omega), (show pi = piN (cd (op i)) (nu i) ga hg pi va from by unfold piN wkP; grind), (show upd va (cd (nu i)) (pi (hg - 1)) = wkV (cd (op i)) (nu i) hg pi va from by unfold wkV; grind)⟩ hP hD hS
                    · exfalso; omega
              · have q1 : tkN (cd (op i)) = 0 ∧ ptN (cd (op i)) = 0 := by rw [c_107]; decide
                refine lv_iload_n hx hb dX1_work_110 rfl (lv_at hl 0 rfl) ?_
                refine gi_tp (y := nI (cd (nu i))) ((hj (Or.inl c_107)).2) ?_
                exact ret _ _ (nI (cd (nu i))) (hg, pi, va) _ _ dX1_work_111 rfl ⟨(show nI (cd (nu i)) = nI (nxN (cd (op i)) (nu i) i hg pi) from by unfold nxN; grind), (show hg = wkH (cd (op i)) hg from by unfold wkH; omega), (show pi = piN (cd (op i)) (nu i) ga hg pi va from by unfold piN wkP; grind), (show va = wkV (cd (op i)) (nu i) hg pi va from by unfold wkV; grind)⟩ hP hD hS
            · have q1 : tkN (cd (op i)) = 0 ∧ ptN (cd (op i)) = 1 := by rw [c_90]; decide
              refine lv_aload_n hx hb dX1_work_93 rfl (lv_at hl 2 rfl) ?_
              refine lv_aload_n hx hb dX1_work_94 rfl (lv_at hl 2 rfl) ?_
              refine yg_ga K hP dX1_work_95 ?_
              refine gm_callv (As := [.int (nI ga)]) (rest := []) (C := RX1) (n := 1) K (metM_push l D d h r op nu sz va pi hg ga en nx dn sp kv kp (nI ga) (by omega)) (lw_V q322 q324 qs20 q28 q325) (by decide +kernel) ⟨by decide, by decide⟩ ⟨rfl, rfl⟩ rfl 1 rfl rfl rfl hP hD hS hl rfl (Nat.le_of_ble_eq_true rfl) dX1_work_98 ⟨Nat.zero_le _, Nat.zero_le _⟩ (fun u_3 H locs hp_3 hP hD hS => ?_)
              obtain ⟨u_3a, u_3b⟩ := u_3
              obtain ⟨e_u_3a, e_u_3b⟩ := hp_3
              have e_u_3a : u_3a = hg + 1 := e_u_3a
              subst e_u_3a
              have e_u_3b : u_3b = upd pi hg (nI ga) := e_u_3b
              subst e_u_3b
              have hP : va_P D gCl (wM h r d op nu sz va (upd pi hg (nI ga)) (hg + 1) ga en nx dn sp kv kp) H := hP
              have hD : va_D A (wM h r d op nu sz va (upd pi hg (nI ga)) (hg + 1) ga en nx dn sp kv kp) := hD
              refine lv_goto (tgt := 151) hx hb dX1_work_101 (by decide) ?_
              refine lv_iload_n hx hb dX1_work_151 rfl (lv_at hl 3 rfl) ?_
              refine lv_iconst (v := nI 1) hx hb dX1_work_152 (by decide) ?_
              refine gi_add hx hb dX1_work_153 ?_
              exact ret _ _ (nI (i + 1)) (hg + 1, upd pi hg (nI ga), va) _ _ dX1_work_154 rfl ⟨(show nI (i + 1) = nI (nxN (cd (op i)) (nu i) i hg pi) from by unfold nxN; grind), (show hg + 1 = wkH (cd (op i)) hg from by unfold wkH; omega), (show upd pi hg (nI ga) = piN (cd (op i)) (nu i) ga hg pi va from by unfold piN wkP; grind), (show va = wkV (cd (op i)) (nu i) hg pi va from by unfold wkV; grind)⟩ hP hD hS
          · have q1 : tkN (cd (op i)) = 0 ∧ ptN (cd (op i)) = 1 := by rw [c_71]; decide
            refine lv_aload_n hx hb dX1_work_74 rfl (lv_at hl 2 rfl) ?_
            refine lv_aload_n hx hb dX1_work_75 rfl (lv_at hl 2 rfl) ?_
            refine yg_va K hP dX1_work_76 ?_
            refine lv_iload_n hx hb dX1_work_79 rfl (lv_at hl 0 rfl) ?_
            refine gi_tp (y := nI (cd (nu i))) ((ha (Or.inl c_71)).2) ?_
            refine yl_va K hP ((ha (Or.inl c_71)).1) dX1_work_80 ?_
            refine gm_callv (As := [.int (va (cd (nu i)))]) (rest := []) (C := RX1) (n := 1) K (metM_push l D d h r op nu sz va pi hg ga en nx dn sp kv kp (va (cd (nu i))) (by omega)) (lw_V q322 q324 qs20 q28 q325) (by decide +kernel) ⟨by decide, by decide⟩ ⟨rfl, rfl⟩ rfl 1 rfl rfl rfl hP hD hS hl rfl (Nat.le_of_ble_eq_true rfl) dX1_work_81 ⟨Nat.zero_le _, Nat.zero_le _⟩ (fun u_4 H locs hp_4 hP hD hS => ?_)
            obtain ⟨u_4a, u_4b⟩ := u_4
            obtain ⟨e_u_4a, e_u_4b⟩ := hp_4
            have e_u_4a : u_4a = hg + 1 := e_u_4a
            subst e_u_4a
            have e_u_4b : u_4b = upd pi hg (va (cd (nu i))) := e_u_4b
            subst e_u_4b
            have hP : va_P D gCl (wM h r d op nu sz va (upd pi hg (va (cd (nu i)))) (hg + 1) ga en nx dn sp kv kp) H := hP
            have hD : va_D A (wM h r d op nu sz va (upd pi hg (va (cd (nu i)))) (hg + 1) ga en nx dn sp kv kp) := hD
            refine lv_goto (tgt := 151) hx hb dX1_work_84 (by decide) ?_
            refine lv_iload_n hx hb dX1_work_151 rfl (lv_at hl 3 rfl) ?_
            refine lv_iconst (v := nI 1) hx hb dX1_work_152 (by decide) ?_
            refine gi_add hx hb dX1_work_153 ?_
            exact ret _ _ (nI (i + 1)) (hg + 1, upd pi hg (va (cd (nu i))), va) _ _ dX1_work_154 rfl ⟨(show nI (i + 1) = nI (nxN (cd (op i)) (nu i) i hg pi) from by unfold nxN; grind), (show hg + 1 = wkH (cd (op i)) hg from by unfold wkH; omega), (show upd pi hg (va (cd (nu i))) = piN (cd (op i)) (nu i) ga hg pi va from by unfold piN wkP; grind), (show va = wkV (cd (op i)) (nu i) hg pi va from by unfold wkV; grind)⟩ hP hD hS
        · have q1 : tkN (cd (op i)) = 1 ∧ ptN (cd (op i)) = 2 := by rw [c_47]; decide
          refine lv_aload_n hx hb dX1_work_50 rfl (lv_at hl 2 rfl) ?_
          refine lv_aload_n hx hb dX1_work_51 rfl (lv_at hl 2 rfl) ?_
          refine yg_pi K hP dX1_work_52 ?_
          refine lv_aload_n hx hb dX1_work_55 rfl (lv_at hl 2 rfl) ?_
          refine yg_hg K hP dX1_work_56 ?_
          refine lv_iconst (v := nI 1) hx hb dX1_work_59 (by decide) ?_
          refine gi_sub hx hb (by omega) dX1_work_60 ?_
          refine yl_pi K hP (by omega) dX1_work_61 ?_
          refine gm_callv (As := [.int (pi (hg - 1))]) (rest := []) (C := RX1) (n := 1) K (metM_push l D d h r op nu sz va pi hg ga en nx dn sp kv kp (pi (hg - 1)) (by omega)) (lw_V q322 q324 qs20 q28 q325) (by decide +kernel) ⟨by decide, by decide⟩ ⟨rfl, rfl⟩ rfl 1 rfl rfl rfl hP hD hS hl rfl (Nat.le_of_ble_eq_true rfl) dX1_work_62 ⟨Nat.zero_le _, Nat.zero_le _⟩ (fun u_5 H locs hp_5 hP hD hS => ?_)
          obtain ⟨u_5a, u_5b⟩ := u_5
          obtain ⟨e_u_5a, e_u_5b⟩ := hp_5
          have e_u_5a : u_5a = hg + 1 := e_u_5a
          subst e_u_5a
          have e_u_5b : u_5b = upd pi hg (pi (hg - 1)) := e_u_5b
          subst e_u_5b
          have hP : va_P D gCl (wM h r d op nu sz va (upd pi hg (pi (hg - 1))) (hg + 1) ga en nx dn sp kv kp) H := hP
          have hD : va_D A (wM h r d op nu sz va (upd pi hg (pi (hg - 1))) (hg + 1) ga en nx dn sp kv kp) := hD
          refine lv_goto (tgt := 151) hx hb dX1_work_65 (by decide) ?_
          refine lv_iload_n hx hb dX1_work_151 rfl (lv_at hl 3 rfl) ?_
          refine lv_iconst (v := nI 1) hx hb dX1_work_152 (by decide) ?_
          refine gi_add hx hb dX1_work_153 ?_
          exact ret _ _ (nI (i + 1)) (hg + 1, upd pi hg (pi (hg - 1)), va) _ _ dX1_work_154 rfl ⟨(show nI (i + 1) = nI (nxN (cd (op i)) (nu i) i hg pi) from by unfold nxN; grind), (show hg + 1 = wkH (cd (op i)) hg from by unfold wkH; omega), (show upd pi hg (pi (hg - 1)) = piN (cd (op i)) (nu i) ga hg pi va from by unfold piN wkP; grind), (show va = wkV (cd (op i)) (nu i) hg pi va from by unfold wkV; grind)⟩ hP hD hS
      · have q1 : tkN (cd (op i)) = 2 := by unfold tkN; grind
        refine lv_aload_n hx hb dX1_work_37 rfl (lv_at hl 2 rfl) ?_
        refine lv_iload_n hx hb dX1_work_38 rfl (lv_at hl 1 rfl) ?_
        refine gm_callv (As := [.int (nI (cd (op i)))]) (rest := []) (C := RX1) (n := 1) K (metM_operate l D d h r op nu sz va pi hg ga en nx dn sp kv kp (cd (op i)) (nu i) (by omega) (by omega) hh) (lw_V q326 q328 qs21 q28 q329) (by decide +kernel) ⟨by decide, by decide⟩ ⟨rfl, rfl⟩ rfl 1 rfl rfl rfl hP hD hS hl rfl (Nat.le_of_ble_eq_true rfl) dX1_work_39 ⟨Nat.zero_le _, Nat.zero_le _⟩ (fun u_6 H locs hp_6 hP hD hS => ?_)
        obtain ⟨u_6a, u_6b⟩ := u_6
        obtain ⟨e_u_6a, e_u_6b⟩ := hp_6
        have e_u_6a : u_6a = wkH (cd (op i)) hg := e_u_6a
        subst e_u_6a
        have e_u_6b : u_6b = wkP (cd (op i)) (nu i) hg pi va := e_u_6b
        subst e_u_6b
        have hP : va_P D gCl (wM h r d op nu sz va (wkP (cd (op i)) (nu i) hg pi va) (wkH (cd (op i)) hg) ga en nx dn sp kv kp) H := hP
        have hD : va_D A (wM h r d op nu sz va (wkP (cd (op i)) (nu i) hg pi va) (wkH (cd (op i)) hg) ga en nx dn sp kv kp) := hD
        refine lv_goto (tgt := 151) hx hb dX1_work_42 (by decide) ?_
        refine lv_iload_n hx hb dX1_work_151 rfl (lv_at hl 3 rfl) ?_
        refine lv_iconst (v := nI 1) hx hb dX1_work_152 (by decide) ?_
        refine gi_add hx hb dX1_work_153 ?_
        exact ret _ _ (nI (i + 1)) (wkH (cd (op i)) hg, wkP (cd (op i)) (nu i) hg pi va, va) _ _ dX1_work_154 rfl ⟨(show nI (i + 1) = nI (nxN (cd (op i)) (nu i) i hg pi) from by unfold nxN; grind), rfl, (show wkP (cd (op i)) (nu i) hg pi va = piN (cd (op i)) (nu i) ga hg pi va from by unfold piN wkP; grind), (show va = wkV (cd (op i)) (nu i) hg pi va from by unfold wkV; grind)⟩ hP hD hS
  · have q1 : tkN (cd (op i)) = 0 ∧ ptN (cd (op i)) = 1 := by rw [c_15]; decide
    refine lv_aload_n hx hb dX1_work_18 rfl (lv_at hl 2 rfl) ?_
    refine lv_iload_n hx hb dX1_work_19 rfl (lv_at hl 0 rfl) ?_
    refine gm_callv (As := [.int (nu i)]) (rest := []) (C := RX1) (n := 1) K (metM_push l D d h r op nu sz va pi hg ga en nx dn sp kv kp (nu i) (by omega)) (lw_V q322 q324 qs20 q28 q325) (by decide +kernel) ⟨by decide, by decide⟩ ⟨rfl, rfl⟩ rfl 1 rfl rfl rfl hP hD hS hl rfl (Nat.le_of_ble_eq_true rfl) dX1_work_20 ⟨Nat.zero_le _, Nat.zero_le _⟩ (fun u_7 H locs hp_7 hP hD hS => ?_)
    obtain ⟨u_7a, u_7b⟩ := u_7
    obtain ⟨e_u_7a, e_u_7b⟩ := hp_7
    have e_u_7a : u_7a = hg + 1 := e_u_7a
    subst e_u_7a
    have e_u_7b : u_7b = upd pi hg (nu i) := e_u_7b
    subst e_u_7b
    have hP : va_P D gCl (wM h r d op nu sz va (upd pi hg (nu i)) (hg + 1) ga en nx dn sp kv kp) H := hP
    have hD : va_D A (wM h r d op nu sz va (upd pi hg (nu i)) (hg + 1) ga en nx dn sp kv kp) := hD
    refine lv_goto (tgt := 151) hx hb dX1_work_23 (by decide) ?_
    refine lv_iload_n hx hb dX1_work_151 rfl (lv_at hl 3 rfl) ?_
    refine lv_iconst (v := nI 1) hx hb dX1_work_152 (by decide) ?_
    refine gi_add hx hb dX1_work_153 ?_
    exact ret _ _ (nI (i + 1)) (hg + 1, upd pi hg (nu i), va) _ _ dX1_work_154 rfl ⟨(show nI (i + 1) = nI (nxN (cd (op i)) (nu i) i hg pi) from by unfold nxN; grind), (show hg + 1 = wkH (cd (op i)) hg from by unfold wkH; omega), (show upd pi hg (nu i) = piN (cd (op i)) (nu i) ga hg pi va from by unfold piN wkP; grind), (show va = wkV (cd (op i)) (nu i) hg pi va from by unfold wkV; grind)⟩ hP hD hS
set_option maxHeartbeats 4000000 in
set_option maxRecDepth 100000 in
theorem metM_endAt (l : Launch) (D : va_G) (d : ClassId) (h : Nat) (r : Nat → Nat) (op : vF) (nu : vF) (sz : Nat) (va : vF) (pi : vF) (hg : Nat) (ga : Nat) (en : Nat) (nx : Nat) (dn : Nat) (sp : Nat) (kv : vF) (kp : vF) (i : Nat) (hp : okP sz op nu) (hi : i ≤ 20) (hh : hg ≤ 8) (hd : dn ≤ 300) (hga : ga ≤ 1000000) : MetI l yX1_endAt cX1_endAt 2 .int D d [.ref h, .int (nI i)] (wM h r d op nu sz va pi hg ga en nx dn sp kv kp) (rmG 1) (fun (a : Int32) (_ : Unit) => a = nI (endN sz op ga dn i hg pi)) (fun _ : Unit => wM h r d op nu sz va pi hg ga en nx dn sp kv kp) := by
  refine gm_startI (own := RX1) (by decide +kernel) rfl (Nat.le_of_ble_eq_true rfl) ?_
  intro p e s m below meth c A H locs Q ls K hl hP hD hS ret
  have hx := K.1
  have hb := K.2.1
  have hl : lv_has ls 2 [(0, .ref h), (1, .int (nI i))] := hl
  have hz := hp.1
  refine lv_iload_n hx hb dX1_endAt_0 rfl (lv_at hl 1 rfl) ?_
  refine lv_aload_n hx hb dX1_endAt_1 rfl (lv_at hl 0 rfl) ?_
  refine yg_sz K hP dX1_endAt_2 ?_
  refine gb_lt (tgt := 10) hx hb dX1_endAt_5 (by decide) (by omega) (by omega) (fun c_5 => ?_) (fun c_5 => ?_)
  · refine lv_aload_n hx hb dX1_endAt_10 rfl (lv_at hl 0 rfl) ?_
    refine yg_dn K hP dX1_endAt_11 ?_
    refine lv_sipush (v := nI 300) hx hb dX1_endAt_14 (by decide) ?_
    refine gb_ne (tgt := 22) hx hb dX1_endAt_17 (by decide) (by omega) (by omega) (fun c_17 => ?_) (fun c_17 => ?_)
    · have hI := (hp.2 _ c_5).cd
      refine lv_aload_n hx hb dX1_endAt_22 rfl (lv_at hl 0 rfl) ?_
      refine lv_aload_n hx hb dX1_endAt_23 rfl (lv_at hl 0 rfl) ?_
      refine yg_op K hP dX1_endAt_24 ?_
      refine lv_iload_n hx hb dX1_endAt_27 rfl (lv_at hl 1 rfl) ?_
      refine yl_op K hP (by omega) dX1_endAt_28 ?_
      refine gi_tp (y := nI (cd (op i))) hI.2.1 ?_
      refine gm_calli (As := [.int (nI (cd (op i)))]) (rest := []) (C := RX1) (n := 1) K (metM_traps l D d h r op nu sz va pi hg ga en nx dn sp kv kp (cd (op i)) hI.1 hh) (lw_V q310 q312 qs17 q28 q313) (by decide +kernel) ⟨by decide, by decide⟩ ⟨rfl, rfl⟩ rfl 1 rfl rfl rfl hP hD hS hl rfl (Nat.le_of_ble_eq_true rfl) dX1_endAt_29 ⟨Nat.zero_le _, Nat.zero_le _⟩ (fun a_1 u_1 H locs hp_1 hP hD hS => ?_)
      have ea_1 := hp_1
      have ea_1 : a_1 = nI (trN (cd (op i)) hg) := ea_1
      subst ea_1
      refine gz_eq (tgt := 37) hx hb dX1_endAt_32 (by decide) (trN_lt _ _) (fun c_32 => ?_) (fun c_32 => ?_)
      · have ht : tkN (cd (op i)) ≤ hg := by unfold trN at c_32; grind
        refine lv_aload_n hx hb dX1_endAt_37 rfl (lv_at hl 0 rfl) ?_
        refine lv_aload_n hx hb dX1_endAt_38 rfl (lv_at hl 0 rfl) ?_
        refine yg_op K hP dX1_endAt_39 ?_
        refine lv_iload_n hx hb dX1_endAt_42 rfl (lv_at hl 1 rfl) ?_
        refine yl_op K hP (by omega) dX1_endAt_43 ?_
        refine gi_tp (y := nI (cd (op i))) hI.2.1 ?_
        refine gm_calli (As := [.int (nI (cd (op i)))]) (rest := []) (C := RX1) (n := 1) K (metM_price l D d h r op nu sz va pi hg ga en nx dn sp kv kp (cd (op i)) hI.1 hh (fun q => show tkN 12 ≤ hg from by rw [← q]; exact ht)) (lw_V q314 q316 qs18 q28 q317) (by decide +kernel) ⟨by decide, by decide⟩ ⟨rfl, rfl⟩ rfl 1 rfl rfl rfl hP hD hS hl rfl (Nat.le_of_ble_eq_true rfl) dX1_endAt_44 ⟨Nat.zero_le _, Nat.zero_le _⟩ (fun a_2 u_2 H locs hp_2 hP hD hS => ?_)
        have ea_2 := hp_2
        have ea_2 : a_2 = nI (coN (cd (op i)) (pi (hg - 1))) := ea_2
        subst ea_2
        refine lv_aload_n hx hb dX1_endAt_47 rfl (lv_at hl 0 rfl) ?_
        refine yg_ga K hP dX1_endAt_48 ?_
        refine gb_le (tgt := 58) hx hb dX1_endAt_51 (by decide) (Nat.lt_of_le_of_lt (coN_le _ _) (by decide)) (by omega) (fun c_51 => ?_) (fun c_51 => ?_)
        · refine lv_iconst (v := nI 0) hx hb dX1_endAt_58 (by decide) ?_
          exact ret _ _ (nI 0) () _ _ dX1_endAt_59 rfl (show nI 0 = nI (endN sz op ga dn i hg pi) from by unfold endN; (try unfold trN at c_32); grind) hP hD hS
        · refine lv_iconst (v := nI 4) hx hb dX1_endAt_54 (by decide) ?_
          refine lv_goto (tgt := 59) hx hb dX1_endAt_55 (by decide) ?_
          exact ret _ _ (nI 4) () _ _ dX1_endAt_59 rfl (show nI 4 = nI (endN sz op ga dn i hg pi) from by unfold endN; (try unfold trN at c_32); grind) hP hD hS
      · refine lv_iconst (v := nI 3) hx hb dX1_endAt_35 (by decide) ?_
        exact ret _ _ (nI 3) () _ _ dX1_endAt_36 rfl (show nI 3 = nI (endN sz op ga dn i hg pi) from by unfold endN; (try unfold trN at c_32); grind) hP hD hS
    · refine lv_iconst (v := nI 2) hx hb dX1_endAt_20 (by decide) ?_
      exact ret _ _ (nI 2) () _ _ dX1_endAt_21 rfl (show nI 2 = nI (endN sz op ga dn i hg pi) from by unfold endN; (try unfold trN at c_32); grind) hP hD hS
  · refine lv_iconst (v := nI 1) hx hb dX1_endAt_8 (by decide) ?_
    exact ret _ _ (nI 1) () _ _ dX1_endAt_9 rfl (show nI 1 = nI (endN sz op ga dn i hg pi) from by unfold endN; (try unfold trN at c_32); grind) hP hD hS
set_option maxHeartbeats 4000000 in
set_option maxRecDepth 100000 in
theorem metM_run (l : Launch) (D : va_G) (d : ClassId) (h : Nat) (r : Nat → Nat) (op : vF) (nu : vF) (sz : Nat) (va : vF) (pi : vF) (hg : Nat) (ga : Nat) (en : Nat) (nx : Nat) (dn : Nat) (sp : Nat) (kv : vF) (kp : vF) (hp : okP sz op nu) (hga : ga ≤ 1000000) : MetI l yX1_run cX1_run 2 .int D d [.ref h] (wM h r d op nu sz va pi hg ga en nx dn sp kv kp) (rmG 3) (fun (a : Int32) (u : R7) => a = nI (qE u) ∧ u = rnN sz op nu 301 (0, ga, 0, 0, 0, pi, va)) (fun u : R7 => wM h r d op nu sz (qV u) (qP u) (qH u) (qG u) (qE u) (qN u) (qD u) (ga - qG u) kv kp) := by
  refine gm_startI (own := RX1) (by decide +kernel) rfl (Nat.le_of_ble_eq_true rfl) ?_
  intro p e s m below meth c A H locs Q ls K hl hP hD hS ret
  have hx := K.1
  have hb := K.2.1
  have hl : lv_has ls 2 [(0, .ref h)] := hl
  have hz := hp.1
  have loop : ∀ (f ga1 dn1 nx1 hg1 sp1 : Nat) (pi1 va1 : vF) (H : Heap) (locs : List Loc) (ls : Array Slot), dn1 ≤ 300 → 301 ≤ f + dn1 → ga1 ≤ ga → nx1 ≤ 20 → hg1 ≤ 8 → sp1 = ga - ga1 → rnN sz op nu f (0, ga1, dn1, nx1, hg1, pi1, va1) = rnN sz op nu 301 (0, ga, 0, 0, 0, pi, va) → lv_has ls 2 [(0, .ref h)] → va_P D gCl (wM h r d op nu sz va1 pi1 hg1 ga1 (endN sz op ga1 dn1 nx1 hg1 pi1) nx1 dn1 sp1 kv kp) H → va_D A (wM h r d op nu sz va1 pi1 hg1 ga1 (endN sz op ga1 dn1 nx1 hg1 pi1) nx1 dn1 sp1 kv kp) → va_S A s.heap H locs → W p l e (rmG 3) s m ([.ref h] : List Value).toArray below meth c H locs 0 0 Q (F0 m 29 ls []) := by
    intro f
    induction f with
    | zero =>
      intro ga1 dn1 nx1 hg1 sp1 pi1 va1 H locs ls g1 g2
      exact absurd g2 (by omega)
    | succ f ih =>
      intro ga1 dn1 nx1 hg1 sp1 pi1 va1 H locs ls g1 g2 g3 g4 g5 g6 g7 hl hP hD hS
      refine lv_aload_n hx hb dX1_run_29 rfl (lv_at hl 0 rfl) ?_
      refine yg_en K hP dX1_run_30 ?_
      refine gz_ne (tgt := 129) hx hb dX1_run_33 (by decide) (Nat.lt_of_le_of_lt (endN_le _ _ _ _ _ _ _) (by decide)) (fun c_33 => ?_) (fun c_33 => ?_)
      · refine lv_aload_n hx hb dX1_run_129 rfl (lv_at hl 0 rfl) ?_
        refine yg_en K hP dX1_run_130 ?_
        subst g6
        exact ret _ _ (nI (endN sz op ga1 dn1 nx1 hg1 pi1)) ((endN sz op ga1 dn1 nx1 hg1 pi1, ga1, dn1, nx1, hg1, pi1, va1) : R7) _ _ dX1_run_133 rfl ⟨rfl, by rw [← g7, rnN_go _ rfl, stN_stop c_33, rnN_end _ c_33]⟩ hP hD hS
      · have z0 := c_33
        have z := endN_0 c_33
        have hI := (hp.2 _ z.1).cd
        refine lv_aload_n hx hb dX1_run_36 rfl (lv_at hl 0 rfl) ?_
        refine lv_aload_n hx hb dX1_run_37 rfl (lv_at hl 0 rfl) ?_
        refine yg_op K hP dX1_run_38 ?_
        refine lv_aload_n hx hb dX1_run_41 rfl (lv_at hl 0 rfl) ?_
        refine yg_nx K hP dX1_run_42 ?_
        refine yl_op K hP (by omega) dX1_run_45 ?_
        refine gi_tp (y := nI (cd (op nx1))) hI.2.1 ?_
        refine gm_calli (As := [.int (nI (cd (op nx1)))]) (rest := []) (C := RX1) (n := 1) K (metM_price l D d h r op nu sz va1 pi1 hg1 ga1 (endN sz op ga1 dn1 nx1 hg1 pi1) nx1 dn1 sp1 kv kp (cd (op nx1)) hI.1 g5 (fun q => show tkN 12 ≤ hg1 from by rw [← q]; exact z.2.2.1)) (lw_V q314 q316 qs18 q28 q317) (by decide +kernel) ⟨by decide, by decide⟩ ⟨rfl, rfl⟩ rfl 1 rfl rfl rfl hP hD hS hl rfl (Nat.le_of_ble_eq_true rfl) dX1_run_46 ⟨Nat.zero_le _, Nat.zero_le _⟩ (fun a_1 u_1 H locs hp_1 hP hD hS => ?_)
        have ea_1 := hp_1
        have ea_1 : a_1 = nI (coN (cd (op nx1)) (pi1 (hg1 - 1))) := ea_1
        subst ea_1
        refine lv_istore_n (lv' := [(1, .int (nI (coN (cd (op nx1)) (pi1 (hg1 - 1))))), (0, .ref h)]) hx hb dX1_run_49 rfl hl (by decide) rfl (fun ls hl => ?_)
        refine lv_aload_n hx hb dX1_run_50 rfl (lv_at hl 1 rfl) ?_
        refine lv_aload_n hx hb dX1_run_51 rfl (lv_at hl 1 rfl) ?_
        refine yg_ga K hP dX1_run_52 ?_
        refine lv_iload_n hx hb dX1_run_55 rfl (lv_at hl 0 rfl) ?_
        refine gi_sub hx hb (z.2.2.2.2) dX1_run_56 ?_
        refine yp_ga K hP hD hS dX1_run_57 (fun H locs hP hD hS => ?_)
        refine lv_aload_n hx hb dX1_run_60 rfl (lv_at hl 1 rfl) ?_
        refine lv_aload_n hx hb dX1_run_61 rfl (lv_at hl 1 rfl) ?_
        refine yg_sp K hP dX1_run_62 ?_
        refine lv_iload_n hx hb dX1_run_65 rfl (lv_at hl 0 rfl) ?_
        refine gi_add hx hb dX1_run_66 ?_
        refine yp_sp K hP hD hS dX1_run_67 (fun H locs hP hD hS => ?_)
        refine lv_aload_n hx hb dX1_run_70 rfl (lv_at hl 1 rfl) ?_
        refine lv_dup hx hb dX1_run_71 rfl ?_
        refine yg_dn K hP dX1_run_72 ?_
        refine lv_iconst (v := nI 1) hx hb dX1_run_75 (by decide) ?_
        refine gi_add hx hb dX1_run_76 ?_
        refine yp_dn K hP hD hS dX1_run_77 (fun H locs hP hD hS => ?_)
        refine lv_aload_n hx hb dX1_run_80 rfl (lv_at hl 1 rfl) ?_
        refine yg_op K hP dX1_run_81 ?_
        refine lv_aload_n hx hb dX1_run_84 rfl (lv_at hl 1 rfl) ?_
        refine yg_nx K hP dX1_run_85 ?_
        refine yl_op K hP (by omega) dX1_run_88 ?_
        refine gi_tp (y := nI (cd (op nx1))) hI.2.1 ?_
        refine lv_bipush (v := nI 14) hx hb dX1_run_89 (by decide) ?_
        refine gb_ne (tgt := 102) hx hb dX1_run_91 (by decide) (by omega) (by omega) (fun c_91 => ?_) (fun c_91 => ?_)
        · refine lv_aload_n hx hb dX1_run_102 rfl (lv_at hl 1 rfl) ?_
          refine lv_aload_n hx hb dX1_run_103 rfl (lv_at hl 1 rfl) ?_
          refine lv_aload_n hx hb dX1_run_104 rfl (lv_at hl 1 rfl) ?_
          refine yg_nx K hP dX1_run_105 ?_
          refine gm_calli (As := [.int (nI nx1)]) (rest := [.ref h]) (C := RX1) (n := 1) K (metM_work l D d h r op nu sz va1 pi1 hg1 (ga1 - (coN (cd (op nx1)) (pi1 (hg1 - 1)))) (endN sz op ga1 dn1 nx1 hg1 pi1) nx1 (dn1 + 1) (sp1 + (coN (cd (op nx1)) (pi1 (hg1 - 1)))) kv kp nx1 (by omega) hI.2.1 (by omega) z.2.2.1 z.2.2.2.1 g5 hI.2.2.1 hI.2.2.2) (lw_V q318 q320 qs19 q28 q321) (by decide +kernel) ⟨by decide, by decide⟩ ⟨rfl, rfl⟩ rfl 1 rfl rfl rfl hP hD hS hl rfl (Nat.le_of_ble_eq_true rfl) dX1_run_108 ⟨Nat.zero_le _, Nat.zero_le _⟩ (fun a_2 u_2 H locs hp_2 hP hD hS => ?_)
          obtain ⟨u_2a, u_2b, u_2c⟩ := u_2
          obtain ⟨ea_2, e_u_2a, e_u_2b, e_u_2c⟩ := hp_2
          have ea_2 : a_2 = nI (nxN (cd (op nx1)) (nu nx1) nx1 hg1 pi1) := ea_2
          subst ea_2
          have e_u_2a : u_2a = wkH (cd (op nx1)) hg1 := e_u_2a
          subst e_u_2a
          have e_u_2b : u_2b = piN (cd (op nx1)) (nu nx1) (ga1 - (coN (cd (op nx1)) (pi1 (hg1 - 1)))) hg1 pi1 va1 := e_u_2b
          subst e_u_2b
          have e_u_2c : u_2c = wkV (cd (op nx1)) (nu nx1) hg1 pi1 va1 := e_u_2c
          subst e_u_2c
          have hP : va_P D gCl (wM h r d op nu sz (wkV (cd (op nx1)) (nu nx1) hg1 pi1 va1) (piN (cd (op nx1)) (nu nx1) (ga1 - (coN (cd (op nx1)) (pi1 (hg1 - 1)))) hg1 pi1 va1) (wkH (cd (op nx1)) hg1) (ga1 - (coN (cd (op nx1)) (pi1 (hg1 - 1)))) (endN sz op ga1 dn1 nx1 hg1 pi1) nx1 (dn1 + 1) (sp1 + (coN (cd (op nx1)) (pi1 (hg1 - 1)))) kv kp) H := hP
          have hD : va_D A (wM h r d op nu sz (wkV (cd (op nx1)) (nu nx1) hg1 pi1 va1) (piN (cd (op nx1)) (nu nx1) (ga1 - (coN (cd (op nx1)) (pi1 (hg1 - 1)))) hg1 pi1 va1) (wkH (cd (op nx1)) hg1) (ga1 - (coN (cd (op nx1)) (pi1 (hg1 - 1)))) (endN sz op ga1 dn1 nx1 hg1 pi1) nx1 (dn1 + 1) (sp1 + (coN (cd (op nx1)) (pi1 (hg1 - 1)))) kv kp) := hD
          refine yp_nx K hP hD hS dX1_run_111 (fun H locs hP hD hS => ?_)
          refine lv_aload_n hx hb dX1_run_114 rfl (lv_at hl 1 rfl) ?_
          refine lv_aload_n hx hb dX1_run_115 rfl (lv_at hl 1 rfl) ?_
          refine lv_aload_n hx hb dX1_run_116 rfl (lv_at hl 1 rfl) ?_
          refine yg_nx K hP dX1_run_117 ?_
          refine gm_calli (As := [.int (nI (nxN (cd (op nx1)) (nu nx1) nx1 hg1 pi1))]) (rest := [.ref h]) (C := RX1) (n := 1) K (metM_endAt l D d h r op nu sz (wkV (cd (op nx1)) (nu nx1) hg1 pi1 va1) (piN (cd (op nx1)) (nu nx1) (ga1 - (coN (cd (op nx1)) (pi1 (hg1 - 1)))) hg1 pi1 va1) (wkH (cd (op nx1)) hg1) (ga1 - (coN (cd (op nx1)) (pi1 (hg1 - 1)))) (endN sz op ga1 dn1 nx1 hg1 pi1) (nxN (cd (op nx1)) (nu nx1) nx1 hg1 pi1) (dn1 + 1) (sp1 + (coN (cd (op nx1)) (pi1 (hg1 - 1)))) kv kp (nxN (cd (op nx1)) (nu nx1) nx1 hg1 pi1) hp (nxN_le (by omega) (fun q => (hI.2.2.2 q).1)) z.2.2.2.1 (by omega) (by omega)) (lw_V q306 q308 qs16 q28 q309) (by decide +kernel) ⟨by decide, by decide⟩ ⟨rfl, rfl⟩ rfl 1 rfl rfl rfl hP hD hS hl rfl (Nat.le_of_ble_eq_true rfl) dX1_run_120 ⟨Nat.zero_le _, Nat.zero_le _⟩ (fun a_3 u_3 H locs hp_3 hP hD hS => ?_)
          have ea_3 := hp_3
          have ea_3 : a_3 = nI (endN sz op (ga1 - (coN (cd (op nx1)) (pi1 (hg1 - 1)))) (dn1 + 1) (nxN (cd (op nx1)) (nu nx1) nx1 hg1 pi1) (wkH (cd (op nx1)) hg1) (piN (cd (op nx1)) (nu nx1) (ga1 - (coN (cd (op nx1)) (pi1 (hg1 - 1)))) hg1 pi1 va1)) := ea_3
          subst ea_3
          refine yp_en K hP hD hS dX1_run_123 (fun H locs hP hD hS => ?_)
          refine lv_goto (tgt := 29) hx hb dX1_run_126 (by decide) ?_
          exact ih (ga1 - coN (cd (op nx1)) (pi1 (hg1 - 1))) (dn1 + 1) (nxN (cd (op nx1)) (nu nx1) nx1 hg1 pi1) (wkH (cd (op nx1)) hg1) (sp1 + coN (cd (op nx1)) (pi1 (hg1 - 1))) (piN (cd (op nx1)) (nu nx1) (ga1 - coN (cd (op nx1)) (pi1 (hg1 - 1))) hg1 pi1 va1) (wkV (cd (op nx1)) (nu nx1) hg1 pi1 va1) _ _ _ (by omega) (by omega) (by omega) (nxN_le (by omega) (fun q => (hI.2.2.2 q).1)) z.2.2.2.1 (by omega) (by rw [← g7, rnN_go _ rfl, stN_go z0, goN_on c_91]) (lv_sub hl [1] rfl) hP hD hS
        · refine lv_aload_n hx hb dX1_run_94 rfl (lv_at hl 1 rfl) ?_
          refine lv_iconst (v := nI 1) hx hb dX1_run_95 (by decide) ?_
          refine yp_en K hP hD hS dX1_run_96 (fun H locs hP hD hS => ?_)
          refine lv_goto (tgt := 126) hx hb dX1_run_99 (by decide) ?_
          refine lv_goto (tgt := 29) hx hb dX1_run_126 (by decide) ?_
          refine lv_aload_n hx hb dX1_run_29 rfl (lv_at hl 1 rfl) ?_
          refine yg_en K hP dX1_run_30 ?_
          refine gz_ne (tgt := 129) hx hb dX1_run_33 (by decide) (by decide) (fun c_33 => ?_) (fun c_33 => ?_)
          · refine lv_aload_n hx hb dX1_run_129 rfl (lv_at hl 1 rfl) ?_
            refine yg_en K hP dX1_run_130 ?_
            have esp : sp1 + coN (cd (op nx1)) (pi1 (hg1 - 1)) = ga - (ga1 - coN (cd (op nx1)) (pi1 (hg1 - 1))) := by omega
            rw [esp] at hP hD
            exact ret _ _ (nI 1) ((1, ga1 - coN (cd (op nx1)) (pi1 (hg1 - 1)), dn1 + 1, nx1, hg1, pi1, va1) : R7) _ _ dX1_run_133 rfl ⟨rfl, by rw [← g7, rnN_go _ rfl, stN_go z0, c_91, goN_halt, rnN_end _ Nat.one_ne_zero]⟩ hP hD hS
          · exact absurd c_33 (by decide)
  refine lv_aload_n hx hb dX1_run_0 rfl (lv_at hl 0 rfl) ?_
  refine lv_iconst (v := nI 0) hx hb dX1_run_1 (by decide) ?_
  refine yp_hg K hP hD hS dX1_run_2 (fun H locs hP hD hS => ?_)
  refine lv_aload_n hx hb dX1_run_5 rfl (lv_at hl 0 rfl) ?_
  refine lv_iconst (v := nI 0) hx hb dX1_run_6 (by decide) ?_
  refine yp_dn K hP hD hS dX1_run_7 (fun H locs hP hD hS => ?_)
  refine lv_aload_n hx hb dX1_run_10 rfl (lv_at hl 0 rfl) ?_
  refine lv_iconst (v := nI 0) hx hb dX1_run_11 (by decide) ?_
  refine yp_sp K hP hD hS dX1_run_12 (fun H locs hP hD hS => ?_)
  refine lv_aload_n hx hb dX1_run_15 rfl (lv_at hl 0 rfl) ?_
  refine lv_iconst (v := nI 0) hx hb dX1_run_16 (by decide) ?_
  refine yp_nx K hP hD hS dX1_run_17 (fun H locs hP hD hS => ?_)
  refine lv_aload_n hx hb dX1_run_20 rfl (lv_at hl 0 rfl) ?_
  refine lv_aload_n hx hb dX1_run_21 rfl (lv_at hl 0 rfl) ?_
  refine lv_iconst (v := nI 0) hx hb dX1_run_22 (by decide) ?_
  refine gm_calli (As := [.int (nI 0)]) (rest := [.ref h]) (C := RX1) (n := 1) K (metM_endAt l D d h r op nu sz va pi 0 ga en 0 0 0 kv kp 0 hp (by omega) (by omega) (by omega) hga) (lw_V q306 q308 qs16 q28 q309) (by decide +kernel) ⟨by decide, by decide⟩ ⟨rfl, rfl⟩ rfl 1 rfl rfl rfl hP hD hS hl rfl (Nat.le_of_ble_eq_true rfl) dX1_run_23 ⟨Nat.zero_le _, Nat.zero_le _⟩ (fun a_4 u_4 H locs hp_4 hP hD hS => ?_)
  have ea_4 := hp_4
  have ea_4 : a_4 = nI (endN sz op ga 0 0 0 pi) := ea_4
  subst ea_4
  refine yp_en K hP hD hS dX1_run_26 (fun H locs hP hD hS => ?_)
  exact loop 301 ga 0 0 0 0 pi va _ _ _ (by omega) (by omega) (Nat.le_refl _) (by omega) (by omega) (by omega) rfl hl hP hD hS
set_option maxHeartbeats 4000000 in
set_option maxRecDepth 100000 in
theorem metM_asksGas (l : Launch) (D : va_G) (d : ClassId) (h : Nat) (r : Nat → Nat) (op : vF) (nu : vF) (sz : Nat) (va : vF) (pi : vF) (hg : Nat) (ga : Nat) (en : Nat) (nx : Nat) (dn : Nat) (sp : Nat) (kv : vF) (kp : vF) (hz : sz ≤ 20) : MetI l yX1_asksGas cX1_asksGas 2 .boolean D d [.ref h] (wM h r d op nu sz va pi hg ga en nx dn sp kv kp) (rmG 0) (fun (a : Int32) (_ : Unit) => a = nI (agN op sz 0)) (fun _ : Unit => wM h r d op nu sz va pi hg ga en nx dn sp kv kp) := by
  refine gm_startI (own := RX1) (by decide +kernel) rfl (Nat.le_of_ble_eq_true rfl) ?_
  intro p e s m below meth c A H locs Q ls K hl hP hD hS ret
  have hx := K.1
  have hb := K.2.1
  have hl : lv_has ls 2 [(0, .ref h)] := hl
  have loop : ∀ (j i : Nat) (ls : Array Slot), i + j = sz → agN op j i = agN op sz 0 → lv_has ls 2 [(0, .ref h), (1, .int (nI i))] → W p l e (rmG 0) s m ([.ref h] : List Value).toArray below meth c H locs 0 0 Q (F0 m 2 ls []) := by
    intro j
    induction j with
    | zero =>
      intro i ls g1 g2 hl
      refine lv_iload_n hx hb dX1_asksGas_2 rfl (lv_at hl 1 rfl) ?_
      refine lv_aload_n hx hb dX1_asksGas_3 rfl (lv_at hl 0 rfl) ?_
      refine yg_sz K hP dX1_asksGas_4 ?_
      refine gb_ge (tgt := 29) hx hb dX1_asksGas_7 (by decide) (by omega) (by omega) (fun c_7 => ?_) (fun c_7 => ?_)
      · refine lv_iconst (v := nI 0) hx hb dX1_asksGas_29 (by decide) ?_
        exact ret _ _ (nI 0) () _ _ dX1_asksGas_30 rfl (show nI 0 = nI (agN op sz 0) from by rw [← g2]; rfl) hP hD hS
      · exfalso; omega
    | succ j ih =>
      intro i ls g1 g2 hl
      refine lv_iload_n hx hb dX1_asksGas_2 rfl (lv_at hl 1 rfl) ?_
      refine lv_aload_n hx hb dX1_asksGas_3 rfl (lv_at hl 0 rfl) ?_
      refine yg_sz K hP dX1_asksGas_4 ?_
      refine gb_ge (tgt := 29) hx hb dX1_asksGas_7 (by decide) (by omega) (by omega) (fun c_7 => ?_) (fun c_7 => ?_)
      · exfalso; omega
      · refine lv_aload_n hx hb dX1_asksGas_10 rfl (lv_at hl 0 rfl) ?_
        refine yg_op K hP dX1_asksGas_11 ?_
        refine lv_iload_n hx hb dX1_asksGas_14 rfl (lv_at hl 1 rfl) ?_
        refine yl_op K hP (by omega) dX1_asksGas_15 ?_
        refine lv_bipush (v := nI 13) hx hb dX1_asksGas_16 (by decide) ?_
        refine lv_icmp_ne (tgt := 23) hx hb dX1_asksGas_18 (by decide) (fun c_18 => ?_) (fun c_18 => ?_)
        · refine lv_iinc (v := nI (i + 1)) (lv' := [(1, .int (nI (i + 1))), (0, .ref h)]) hx hb dX1_asksGas_23 hl (k := 1) rfl (nI_1 i) (by decide) rfl (fun ls hl => ?_)
          refine lv_goto (tgt := 2) hx hb dX1_asksGas_26 (by decide) ?_
          exact ih (i + 1) _ (by omega) (by rw [← g2, agN, if_neg c_18]) (lv_sub hl [1, 0] rfl)
        · refine lv_iconst (v := nI 1) hx hb dX1_asksGas_21 (by decide) ?_
          exact ret _ _ (nI 1) () _ _ dX1_asksGas_22 rfl (show nI 1 = nI (agN op sz 0) from by rw [← g2, agN, if_pos c_18]) hP hD hS
  refine lv_iconst (v := nI 0) hx hb dX1_asksGas_0 (by decide) ?_
  refine lv_istore_n (lv' := [(1, .int (nI 0)), (0, .ref h)]) hx hb dX1_asksGas_1 rfl hl (by decide) rfl (fun ls hl => ?_)
  exact loop sz 0 _ (by omega) rfl (lv_sub hl [1, 0] rfl)
set_option maxHeartbeats 4000000 in
set_option maxRecDepth 100000 in
theorem metM_keep (l : Launch) (D : va_G) (d : ClassId) (h : Nat) (r : Nat → Nat) (op : vF) (nu : vF) (sz : Nat) (va : vF) (pi : vF) (hg : Nat) (ga : Nat) (en : Nat) (nx : Nat) (dn : Nat) (sp : Nat) (kv : vF) (kp : vF) : MetV l yX1_keep cX1_keep 2 D d [.ref h] (wM h r d op nu sz va pi hg ga en nx dn sp kv kp) (rmG 0) (fun u : vF × vF => (∀ j, j < 4 → u.1 j = va j) ∧ (∀ j, j < 8 → u.2 j = pi j)) (fun u : vF × vF => wM h r d op nu sz va pi hg ga en nx dn sp u.1 u.2) := by
  refine gm_startV (own := RX1) (by decide +kernel) rfl (Nat.le_of_ble_eq_true rfl) ?_
  intro p e s m below meth c A H locs Q ls K hl hP hD hS ret
  have hx := K.1
  have hb := K.2.1
  have hl : lv_has ls 2 [(0, .ref h)] := hl
  have loop : ∀ (t i : Nat) (f1 f2 : vF) (H : Heap) (locs : List Loc) (ls : Array Slot), i + t = 8 → (∀ j, j < 4 → j < i → f1 j = va j) → (∀ j, j < i → f2 j = pi j) → lv_has ls 2 [(0, .ref h), (1, .int (nI i))] → va_P D gCl (wM h r d op nu sz va pi hg ga en nx dn sp f1 f2) H → va_D A (wM h r d op nu sz va pi hg ga en nx dn sp f1 f2) → va_S A s.heap H locs → W p l e (rmG 0) s m ([.ref h] : List Value).toArray below meth c H locs 0 0 Q (F0 m 2 ls []) := by
    intro t
    induction t with
    | zero =>
      intro i f1 f2 H locs ls g1 g2 g3 hl hP hD hS
      refine lv_iload_n hx hb dX1_keep_2 rfl (lv_at hl 1 rfl) ?_
      refine lv_bipush (v := nI 8) hx hb dX1_keep_3 (by decide) ?_
      refine gb_ge (tgt := 42) hx hb dX1_keep_5 (by decide) (by omega) (by omega) (fun c_5 => ?_) (fun c_5 => ?_)
      · exact ret _ _ (f1, f2) _ _ dX1_keep_42 ⟨fun j hj => g2 j hj (by omega), fun j hj => g3 j (by omega)⟩ hP hD hS
      · exfalso; omega
    | succ t ih =>
      intro i f1 f2 H locs ls g1 g2 g3 hl hP hD hS
      refine lv_iload_n hx hb dX1_keep_2 rfl (lv_at hl 1 rfl) ?_
      refine lv_bipush (v := nI 8) hx hb dX1_keep_3 (by decide) ?_
      refine gb_ge (tgt := 42) hx hb dX1_keep_5 (by decide) (by omega) (by omega) (fun c_5 => ?_) (fun c_5 => ?_)
      · exfalso; omega
      · refine lv_aload_n hx hb dX1_keep_8 rfl (lv_at hl 0 rfl) ?_
        refine yg_kp K hP dX1_keep_9 ?_
        refine lv_iload_n hx hb dX1_keep_12 rfl (lv_at hl 1 rfl) ?_
        refine lv_aload_n hx hb dX1_keep_13 rfl (lv_at hl 0 rfl) ?_
        refine yg_pi K hP dX1_keep_14 ?_
        refine lv_iload_n hx hb dX1_keep_17 rfl (lv_at hl 1 rfl) ?_
        refine yl_pi K hP (by omega) dX1_keep_18 ?_
        refine ys_kp K hP hD hS (by omega) dX1_keep_19 (fun H locs hP hD hS => ?_)
        refine lv_aload_n hx hb dX1_keep_20 rfl (lv_at hl 0 rfl) ?_
        refine yg_kv K hP dX1_keep_21 ?_
        refine lv_iload_n hx hb dX1_keep_24 rfl (lv_at hl 1 rfl) ?_
        refine lv_iconst (v := nI 3) hx hb dX1_keep_25 (by decide) ?_
        refine lv_iand hx hb dX1_keep_26 ?_
        refine gi_tp (y := nI (i % 4)) (and3 (by omega)) ?_
        refine lv_aload_n hx hb dX1_keep_27 rfl (lv_at hl 0 rfl) ?_
        refine yg_va K hP dX1_keep_28 ?_
        refine lv_iload_n hx hb dX1_keep_31 rfl (lv_at hl 1 rfl) ?_
        refine lv_iconst (v := nI 3) hx hb dX1_keep_32 (by decide) ?_
        refine lv_iand hx hb dX1_keep_33 ?_
        refine gi_tp (y := nI (i % 4)) (and3 (by omega)) ?_
        refine yl_va K hP (by omega) dX1_keep_34 ?_
        refine ys_kv K hP hD hS (by omega) dX1_keep_35 (fun H locs hP hD hS => ?_)
        refine lv_iinc (v := nI (i + 1)) (lv' := [(1, .int (nI (i + 1))), (0, .ref h)]) hx hb dX1_keep_36 hl (k := 1) rfl (nI_1 i) (by decide) rfl (fun ls hl => ?_)
        refine lv_goto (tgt := 2) hx hb dX1_keep_39 (by decide) ?_
        refine ih (i + 1) (upd f1 (i % 4) (va (i % 4))) (upd f2 i (pi i)) _ _ _ (by omega) (fun j h1 h2 => ?_) (fun j h1 => ?_) (lv_sub hl [1, 0] rfl) hP hD hS
        · unfold upd
          split
          · rename_i e1; rw [e1]
          · exact g2 j h1 (by omega)
        · unfold upd
          split
          · rename_i e1; rw [e1]
          · exact g3 j (by omega)
  refine lv_iconst (v := nI 0) hx hb dX1_keep_0 (by decide) ?_
  refine lv_istore_n (lv' := [(1, .int (nI 0)), (0, .ref h)]) hx hb dX1_keep_1 rfl hl (by decide) rfl (fun ls hl => ?_)
  exact loop 8 0 _ _ _ _ _ (by omega) (fun j _ h => absurd h (by omega)) (fun j h => absurd h (by omega)) (lv_sub hl [1, 0] rfl) hP hD hS
set_option maxHeartbeats 4000000 in
set_option maxRecDepth 100000 in
theorem metM_giveBack (l : Launch) (D : va_G) (d : ClassId) (h : Nat) (r : Nat → Nat) (op : vF) (nu : vF) (sz : Nat) (va : vF) (pi : vF) (hg : Nat) (ga : Nat) (en : Nat) (nx : Nat) (dn : Nat) (sp : Nat) (kv : vF) (kp : vF) : MetV l yX1_giveBack cX1_giveBack 2 D d [.ref h] (wM h r d op nu sz va pi hg ga en nx dn sp kv kp) (rmG 0) (fun u : vF × vF => (∀ j, j < 4 → u.1 j = kv j) ∧ (∀ j, j < 8 → u.2 j = kp j)) (fun u : vF × vF => wM h r d op nu sz u.1 u.2 hg ga en nx dn sp kv kp) := by
  refine gm_startV (own := RX1) (by decide +kernel) rfl (Nat.le_of_ble_eq_true rfl) ?_
  intro p e s m below meth c A H locs Q ls K hl hP hD hS ret
  have hx := K.1
  have hb := K.2.1
  have hl : lv_has ls 2 [(0, .ref h)] := hl
  have loop : ∀ (t i : Nat) (f1 f2 : vF) (H : Heap) (locs : List Loc) (ls : Array Slot), i + t = 8 → (∀ j, j < 4 → j < i → f1 j = kv j) → (∀ j, j < i → f2 j = kp j) → lv_has ls 2 [(0, .ref h), (1, .int (nI i))] → va_P D gCl (wM h r d op nu sz f1 f2 hg ga en nx dn sp kv kp) H → va_D A (wM h r d op nu sz f1 f2 hg ga en nx dn sp kv kp) → va_S A s.heap H locs → W p l e (rmG 0) s m ([.ref h] : List Value).toArray below meth c H locs 0 0 Q (F0 m 2 ls []) := by
    intro t
    induction t with
    | zero =>
      intro i f1 f2 H locs ls g1 g2 g3 hl hP hD hS
      refine lv_iload_n hx hb dX1_giveBack_2 rfl (lv_at hl 1 rfl) ?_
      refine lv_bipush (v := nI 8) hx hb dX1_giveBack_3 (by decide) ?_
      refine gb_ge (tgt := 42) hx hb dX1_giveBack_5 (by decide) (by omega) (by omega) (fun c_5 => ?_) (fun c_5 => ?_)
      · exact ret _ _ (f1, f2) _ _ dX1_giveBack_42 ⟨fun j hj => g2 j hj (by omega), fun j hj => g3 j (by omega)⟩ hP hD hS
      · exfalso; omega
    | succ t ih =>
      intro i f1 f2 H locs ls g1 g2 g3 hl hP hD hS
      refine lv_iload_n hx hb dX1_giveBack_2 rfl (lv_at hl 1 rfl) ?_
      refine lv_bipush (v := nI 8) hx hb dX1_giveBack_3 (by decide) ?_
      refine gb_ge (tgt := 42) hx hb dX1_giveBack_5 (by decide) (by omega) (by omega) (fun c_5 => ?_) (fun c_5 => ?_)
      · exfalso; omega
      · refine lv_aload_n hx hb dX1_giveBack_8 rfl (lv_at hl 0 rfl) ?_
        refine yg_pi K hP dX1_giveBack_9 ?_
        refine lv_iload_n hx hb dX1_giveBack_12 rfl (lv_at hl 1 rfl) ?_
        refine lv_aload_n hx hb dX1_giveBack_13 rfl (lv_at hl 0 rfl) ?_
        refine yg_kp K hP dX1_giveBack_14 ?_
        refine lv_iload_n hx hb dX1_giveBack_17 rfl (lv_at hl 1 rfl) ?_
        refine yl_kp K hP (by omega) dX1_giveBack_18 ?_
        refine ys_pi K hP hD hS (by omega) dX1_giveBack_19 (fun H locs hP hD hS => ?_)
        refine lv_aload_n hx hb dX1_giveBack_20 rfl (lv_at hl 0 rfl) ?_
        refine yg_va K hP dX1_giveBack_21 ?_
        refine lv_iload_n hx hb dX1_giveBack_24 rfl (lv_at hl 1 rfl) ?_
        refine lv_iconst (v := nI 3) hx hb dX1_giveBack_25 (by decide) ?_
        refine lv_iand hx hb dX1_giveBack_26 ?_
        refine gi_tp (y := nI (i % 4)) (and3 (by omega)) ?_
        refine lv_aload_n hx hb dX1_giveBack_27 rfl (lv_at hl 0 rfl) ?_
        refine yg_kv K hP dX1_giveBack_28 ?_
        refine lv_iload_n hx hb dX1_giveBack_31 rfl (lv_at hl 1 rfl) ?_
        refine lv_iconst (v := nI 3) hx hb dX1_giveBack_32 (by decide) ?_
        refine lv_iand hx hb dX1_giveBack_33 ?_
        refine gi_tp (y := nI (i % 4)) (and3 (by omega)) ?_
        refine yl_kv K hP (by omega) dX1_giveBack_34 ?_
        refine ys_va K hP hD hS (by omega) dX1_giveBack_35 (fun H locs hP hD hS => ?_)
        refine lv_iinc (v := nI (i + 1)) (lv' := [(1, .int (nI (i + 1))), (0, .ref h)]) hx hb dX1_giveBack_36 hl (k := 1) rfl (nI_1 i) (by decide) rfl (fun ls hl => ?_)
        refine lv_goto (tgt := 2) hx hb dX1_giveBack_39 (by decide) ?_
        refine ih (i + 1) (upd f1 (i % 4) (kv (i % 4))) (upd f2 i (kp i)) _ _ _ (by omega) (fun j h1 h2 => ?_) (fun j h1 => ?_) (lv_sub hl [1, 0] rfl) hP hD hS
        · unfold upd
          split
          · rename_i e1; rw [e1]
          · exact g2 j h1 (by omega)
        · unfold upd
          split
          · rename_i e1; rw [e1]
          · exact g3 j (by omega)
  refine lv_iconst (v := nI 0) hx hb dX1_giveBack_0 (by decide) ?_
  refine lv_istore_n (lv' := [(1, .int (nI 0)), (0, .ref h)]) hx hb dX1_giveBack_1 rfl hl (by decide) rfl (fun ls hl => ?_)
  exact loop 8 0 _ _ _ _ _ (by omega) (fun j _ h => absurd h (by omega)) (fun j h => absurd h (by omega)) (lv_sub hl [1, 0] rfl) hP hD hS
set_option maxHeartbeats 4000000 in
set_option maxRecDepth 100000 in
theorem metM_bill (l : Launch) (D : va_G) (d : ClassId) (h : Nat) (r : Nat → Nat) (op : vF) (nu : vF) (sz : Nat) (va : vF) (pi : vF) (hg : Nat) (ga : Nat) (en : Nat) (nx : Nat) (dn : Nat) (sp : Nat) (kv : vF) (kp : vF) (hp : okP sz op nu) : MetI l yX1_bill cX1_bill 8 .int D d [.ref h] (wM h r d op nu sz va pi hg ga en nx dn sp kv kp) (rmG 4) (fun (a : Int32) (_ : vF × vF) => a = if agN op sz 0 = 0 then nI (1000000 - qG (rnN sz op nu 301 (0, 1000000, 0, 0, 0, pi, va))) else -1) (fun u : vF × vF => wM h r d op nu sz va pi hg ga en nx dn sp u.1 u.2) := by
  refine gm_startI (own := RX1) (by decide +kernel) rfl (Nat.le_of_ble_eq_true rfl) ?_
  intro p e s m below meth c A H locs Q ls K hl hP hD hS ret
  have hx := K.1
  have hb := K.2.1
  have hl : lv_has ls 8 [(0, .ref h)] := hl
  have hz := hp.1
  refine lv_aload_n hx hb dX1_bill_0 rfl (lv_at hl 0 rfl) ?_
  refine gm_calli (As := []) (rest := []) (C := RX1) (n := 0) K (metM_asksGas l D d h r op nu sz va pi hg ga en nx dn sp kv kp  hz) (lw_V q362 q364 qs23 q28 q365) (by decide +kernel) ⟨by decide, by decide⟩ ⟨rfl, rfl⟩ rfl 1 rfl rfl rfl hP hD hS hl rfl (Nat.le_of_ble_eq_true rfl) dX1_bill_1 ⟨Nat.zero_le _, Nat.zero_le _⟩ (fun a_1 u_1 H locs hp_1 hP hD hS => ?_)
  have ea_1 := hp_1
  have ea_1 : a_1 = nI (agN op sz 0) := ea_1
  subst ea_1
  refine gz_eq (tgt := 9) hx hb dX1_bill_4 (by decide) (Nat.lt_of_le_of_lt (agN_le _ _ _) (by decide)) (fun c_4 => ?_) (fun c_4 => ?_)
  · refine lv_aload_n hx hb dX1_bill_9 rfl (lv_at hl 0 rfl) ?_
    refine gm_callv (As := []) (rest := []) (C := RX1) (n := 0) K (metM_keep l D d h r op nu sz va pi hg ga en nx dn sp kv kp  ) (lw_V q366 q368 qs24 q28 q369) (by decide +kernel) ⟨by decide, by decide⟩ ⟨rfl, rfl⟩ rfl 1 rfl rfl rfl hP hD hS hl rfl (Nat.le_of_ble_eq_true rfl) dX1_bill_10 ⟨Nat.zero_le _, Nat.zero_le _⟩ (fun u_2 H locs hp_2 hP hD hS => ?_)
    obtain ⟨k1, k2⟩ := u_2
    obtain ⟨e1, e2⟩ := hp_2
    have hP : va_P D gCl (wM h r d op nu sz va pi hg ga en nx dn sp k1 k2) H := hP
    have hD : va_D A (wM h r d op nu sz va pi hg ga en nx dn sp k1 k2) := hD
    refine lv_aload_n hx hb dX1_bill_13 rfl (lv_at hl 0 rfl) ?_
    refine yg_hg K hP dX1_bill_14 ?_
    refine lv_istore_n (lv' := [(1, .int (nI hg)), (0, .ref h)]) hx hb dX1_bill_17 rfl hl (by decide) rfl (fun ls hl => ?_)
    refine lv_aload_n hx hb dX1_bill_18 rfl (lv_at hl 1 rfl) ?_
    refine yg_ga K hP dX1_bill_19 ?_
    refine lv_istore_n (lv' := [(2, .int (nI ga)), (1, .int (nI hg)), (0, .ref h)]) hx hb dX1_bill_22 rfl hl (by decide) rfl (fun ls hl => ?_)
    refine lv_aload_n hx hb dX1_bill_23 rfl (lv_at hl 2 rfl) ?_
    refine yg_en K hP dX1_bill_24 ?_
    refine lv_istore_n (lv' := [(3, .int (nI en)), (2, .int (nI ga)), (1, .int (nI hg)), (0, .ref h)]) hx hb dX1_bill_27 rfl hl (by decide) rfl (fun ls hl => ?_)
    refine lv_aload_n hx hb dX1_bill_28 rfl (lv_at hl 3 rfl) ?_
    refine yg_nx K hP dX1_bill_29 ?_
    refine lv_istore (lv' := [(4, .int (nI nx)), (3, .int (nI en)), (2, .int (nI ga)), (1, .int (nI hg)), (0, .ref h)]) hx hb dX1_bill_32 hl (by decide) rfl (fun ls hl => ?_)
    refine lv_aload_n hx hb dX1_bill_34 rfl (lv_at hl 4 rfl) ?_
    refine yg_dn K hP dX1_bill_35 ?_
    refine lv_istore (lv' := [(5, .int (nI dn)), (4, .int (nI nx)), (3, .int (nI en)), (2, .int (nI ga)), (1, .int (nI hg)), (0, .ref h)]) hx hb dX1_bill_38 hl (by decide) rfl (fun ls hl => ?_)
    refine lv_aload_n hx hb dX1_bill_40 rfl (lv_at hl 5 rfl) ?_
    refine yg_sp K hP dX1_bill_41 ?_
    refine lv_istore (lv' := [(6, .int (nI sp)), (5, .int (nI dn)), (4, .int (nI nx)), (3, .int (nI en)), (2, .int (nI ga)), (1, .int (nI hg)), (0, .ref h)]) hx hb dX1_bill_44 hl (by decide) rfl (fun ls hl => ?_)
    refine lv_aload_n hx hb dX1_bill_46 rfl (lv_at hl 6 rfl) ?_
    refine lv_ldc hx hb K.2.2.2.1 (K.2.2.1 _ q370) dX1_bill_47 ?_
    refine gi_tp (y := nI 1000000) (by decide) ?_
    refine yp_ga K hP hD hS dX1_bill_49 (fun H locs hP hD hS => ?_)
    refine lv_aload_n hx hb dX1_bill_52 rfl (lv_at hl 6 rfl) ?_
    refine gm_calli (As := []) (rest := []) (C := RX1) (n := 0) K (metM_run l D d h r op nu sz va pi hg 1000000 en nx dn sp k1 k2  hp (by decide)) (lw_V q371 q303 q304 q28 q305) (by decide +kernel) ⟨by decide, by decide⟩ ⟨rfl, rfl⟩ rfl 1 rfl rfl rfl hP hD hS hl rfl (Nat.le_of_ble_eq_true rfl) dX1_bill_53 ⟨Nat.zero_le _, Nat.zero_le _⟩ (fun a_3 u_3 H locs hp_3 hP hD hS => ?_)
    obtain ⟨u, eu⟩ : ∃ z, z = u_3 := ⟨_, rfl⟩
    subst eu
    obtain ⟨ea, eu⟩ := hp_3
    subst ea
    have hP : va_P D gCl (wM h r d op nu sz (qV u) (qP u) (qH u) (qG u) (qE u) (qN u) (qD u) (1000000 - qG u) k1 k2) H := hP
    have hD : va_D A (wM h r d op nu sz (qV u) (qP u) (qH u) (qG u) (qE u) (qN u) (qD u) (1000000 - qG u) k1 k2) := hD
    refine lv_pop hx hb dX1_bill_56 rfl ?_
    refine lv_aload_n hx hb dX1_bill_57 rfl (lv_at hl 6 rfl) ?_
    refine yg_sp K hP dX1_bill_58 ?_
    refine lv_istore (lv' := [(7, .int (nI (1000000 - qG u))), (6, .int (nI sp)), (5, .int (nI dn)), (4, .int (nI nx)), (3, .int (nI en)), (2, .int (nI ga)), (1, .int (nI hg)), (0, .ref h)]) hx hb dX1_bill_61 hl (by decide) rfl (fun ls hl => ?_)
    refine lv_aload_n hx hb dX1_bill_63 rfl (lv_at hl 7 rfl) ?_
    refine gm_callv (As := []) (rest := []) (C := RX1) (n := 0) K (metM_giveBack l D d h r op nu sz (qV u) (qP u) (qH u) (qG u) (qE u) (qN u) (qD u) (1000000 - qG u) k1 k2  ) (lw_V q372 q374 qs25 q28 q375) (by decide +kernel) ⟨by decide, by decide⟩ ⟨rfl, rfl⟩ rfl 1 rfl rfl rfl hP hD hS hl rfl (Nat.le_of_ble_eq_true rfl) dX1_bill_64 ⟨Nat.zero_le _, Nat.zero_le _⟩ (fun u_4 H locs hp_4 hP hD hS => ?_)
    obtain ⟨v1, p1⟩ := u_4
    obtain ⟨e3, e4⟩ := hp_4
    have hP : va_P D gCl (wM h r d op nu sz v1 p1 (qH u) (qG u) (qE u) (qN u) (qD u) (1000000 - qG u) k1 k2) H := hP
    have hD : va_D A (wM h r d op nu sz v1 p1 (qH u) (qG u) (qE u) (qN u) (qD u) (1000000 - qG u) k1 k2) := hD
    refine lv_aload_n hx hb dX1_bill_67 rfl (lv_at hl 7 rfl) ?_
    refine lv_iload_n hx hb dX1_bill_68 rfl (lv_at hl 6 rfl) ?_
    refine yp_hg K hP hD hS dX1_bill_69 (fun H locs hP hD hS => ?_)
    refine lv_aload_n hx hb dX1_bill_72 rfl (lv_at hl 7 rfl) ?_
    refine lv_iload_n hx hb dX1_bill_73 rfl (lv_at hl 5 rfl) ?_
    refine yp_ga K hP hD hS dX1_bill_74 (fun H locs hP hD hS => ?_)
    refine lv_aload_n hx hb dX1_bill_77 rfl (lv_at hl 7 rfl) ?_
    refine lv_iload_n hx hb dX1_bill_78 rfl (lv_at hl 4 rfl) ?_
    refine yp_en K hP hD hS dX1_bill_79 (fun H locs hP hD hS => ?_)
    refine lv_aload_n hx hb dX1_bill_82 rfl (lv_at hl 7 rfl) ?_
    refine lv_iload hx hb dX1_bill_83 (lv_at hl 3 rfl) ?_
    refine yp_nx K hP hD hS dX1_bill_85 (fun H locs hP hD hS => ?_)
    refine lv_aload_n hx hb dX1_bill_88 rfl (lv_at hl 7 rfl) ?_
    refine lv_iload hx hb dX1_bill_89 (lv_at hl 2 rfl) ?_
    refine yp_dn K hP hD hS dX1_bill_91 (fun H locs hP hD hS => ?_)
    refine lv_aload_n hx hb dX1_bill_94 rfl (lv_at hl 7 rfl) ?_
    refine lv_iload hx hb dX1_bill_95 (lv_at hl 1 rfl) ?_
    refine yp_sp K hP hD hS dX1_bill_97 (fun H locs hP hD hS => ?_)
    refine lv_iload hx hb dX1_bill_100 (lv_at hl 0 rfl) ?_
    have hP : va_P D gCl (wM h r d op nu sz va pi hg ga en nx dn sp k1 k2) H := wM_ext (fun j hj => (e3 j hj).trans (e1 j hj)) (fun j hj => (e4 j hj).trans (e2 j hj)) hP
    have hD : va_D A (wM h r d op nu sz va pi hg ga en nx dn sp k1 k2) := vaD_fst (ws := wM h r d op nu sz v1 p1 hg ga en nx dn sp k1 k2) rfl hD
    exact ret _ _ (nI (1000000 - qG u)) (k1, k2) _ _ dX1_bill_102 rfl (by rw [if_pos c_4, eu]) hP hD hS
  · refine lv_iconst (v := (-1)) hx hb dX1_bill_7 (by decide) ?_
    exact ret _ _ (-1) (kv, kp) _ _ dX1_bill_8 rfl (by rw [if_neg c_4]) hP hD hS
end
section
set_option maxRecDepth 100000
/-! numbers of the plan -/
theorem le_sub {a b q : Nat} (ha : a < 1000) (hb : b < 1000) (hq : q < 1000) : nI a - nI b ≤ nI q ↔ a ≤ q + b := by
  rw [Int32.le_iff_toInt_le, pk_sub_toInt (by omega) (by omega), nI_toInt (by omega)]
  omega
theorem le_sub0 {a b : Nat} (ha : a < 1000) (hb : b < 1000) : nI a - nI b ≤ 0 ↔ a ≤ b := by
  rw [← nI_0, le_sub ha hb (by decide)]
  omega
theorem sub_ch (a b q : Nat) : nI a - (nI b - nI q) = nI (a + q) - nI b := by
  rw [← nI_add]
  grind
theorem add_ch (a b q : Nat) : nI a + (nI b - nI q) = nI (a + b) - nI q := by
  rw [← nI_add]
  grind
theorem nI_m1 (i : Nat) : nI i + Int32.ofInt (-1) = nI i - nI 1 := by
  rw [Int32.sub_eq_add_neg]
  rfl
/-- whether a stretch is sure to run through -/
def suN (L C N R ga dn hg : Nat) : Nat := if ¬ L = 0 ∧ N ≤ hg ∧ hg + R ≤ 8 ∧ C ≤ ga ∧ dn + L ≤ 300 then 1 else 0
theorem suN_lt (L C N R ga dn hg : Nat) : suN L C N R ga dn hg < 2 ^ 31 := by unfold suN; split <;> decide
set_option maxHeartbeats 4000000 in
set_option maxRecDepth 100000 in
theorem metX_work (l : Launch) (D : va_G) (d : ClassId) (h : Nat) (r : Nat → Nat) (sz : Nat) (op : vF) (nu : vF) (va : vF) (ga : Nat) (pl : Nat) (le : vF) (pr : vF) (ne : vF) (ri : vF) (nx : Nat) (en : Nat) (dn : Nat) (tk : Nat) (hg : Nat) (pi : vF) (ke : vF) (kp : vF) (i : Nat) (hi : i < 20) (hk : op i = nI (cd (op i))) (hkt : cd (op i) < 10) (ht : tkN (cd (op i)) ≤ hg) (hp : hg - tkN (cd (op i)) + ptN (cd (op i)) ≤ 8) (hh : hg ≤ 8) (ha : cd (op i) = 8 ∨ cd (op i) = 9 → cd (nu i) < 4 ∧ nu i = nI (cd (nu i))) : MetV l yX0_work cX0_work 4 D d [.ref h, .int (nI i)] (wX h r d sz op nu va ga pl le pr ne ri nx en dn tk hg pi ke kp) (rmG 1) (fun (u : Nat × vF × vF) => u.1 = wkH (cd (op i)) hg ∧ u.2.1 = wkP (cd (op i)) (nu i) hg pi va ∧ u.2.2 = wkV (cd (op i)) (nu i) hg pi va) (fun u : Nat × vF × vF => wX h r d sz op nu u.2.2 ga pl le pr ne ri nx en dn tk u.1 u.2.1 ke kp) := by
  refine gm_startV (own := RX0) (by decide +kernel) rfl (Nat.le_of_ble_eq_true rfl) ?_
  intro p e s m below meth c A H locs Q ls K hl hP hD hS ret
  have hx := K.1
  have hb := K.2.1
  have hl : lv_has ls 4 [(0, .ref h), (1, .int (nI i))] := hl
  have e21 : 2 ≤ hg → hg - 2 + 1 = hg - 1 := by omega
  refine lv_aload_n hx hb dX0_work_0 rfl (lv_at hl 0 rfl) ?_
  refine xg_op K hP dX0_work_1 ?_
  refine lv_iload_n hx hb dX0_work_4 rfl (lv_at hl 1 rfl) ?_
  refine xl_op K hP (by omega) dX0_work_5 ?_
  refine gi_tp (y := nI (cd (op i))) hk ?_
  refine lv_istore_n (lv' := [(2, .int (nI (cd (op i)))), (0, .ref h), (1, .int (nI i))]) hx hb dX0_work_6 rfl hl (by decide) rfl (fun ls hl => ?_)
  refine lv_iload_n hx hb dX0_work_7 rfl (lv_at hl 0 rfl) ?_
  refine gz_ne (tgt := 24) hx hb dX0_work_8 (by decide) (by omega) (fun c_8 => ?_) (fun c_8 => ?_)
  · refine lv_iload_n hx hb dX0_work_24 rfl (lv_at hl 0 rfl) ?_
    refine lv_iconst (v := nI 4) hx hb dX0_work_25 (by decide) ?_
    refine gb_gt (tgt := 73) hx hb dX0_work_26 (by decide) (by omega) (by omega) (fun c_26 => ?_) (fun c_26 => ?_)
    · refine lv_iload_n hx hb dX0_work_73 rfl (lv_at hl 0 rfl) ?_
      refine lv_iconst (v := nI 5) hx hb dX0_work_74 (by decide) ?_
      refine gb_ne (tgt := 96) hx hb dX0_work_75 (by decide) (by omega) (by omega) (fun c_75 => ?_) (fun c_75 => ?_)
      · refine lv_iload_n hx hb dX0_work_96 rfl (lv_at hl 0 rfl) ?_
        refine lv_bipush (v := nI 6) hx hb dX0_work_97 (by decide) ?_
        refine gb_ne (tgt := 151) hx hb dX0_work_99 (by decide) (by omega) (by omega) (fun c_99 => ?_) (fun c_99 => ?_)
        · refine lv_iload_n hx hb dX0_work_151 rfl (lv_at hl 0 rfl) ?_
          refine lv_bipush (v := nI 8) hx hb dX0_work_152 (by decide) ?_
          refine gb_ne (tgt := 175) hx hb dX0_work_154 (by decide) (by omega) (by omega) (fun c_154 => ?_) (fun c_154 => ?_)
          · have q1 : tkN (cd (op i)) = 1 ∧ ptN (cd (op i)) = 0 := by unfold tkN ptN; grind
            refine lv_aload_n hx hb dX0_work_175 rfl (lv_at hl 1 rfl) ?_
            refine lv_dup hx hb dX0_work_176 rfl ?_
            refine xg_hg K hP dX0_work_177 ?_
            refine lv_iconst (v := nI 1) hx hb dX0_work_180 (by decide) ?_
            refine gi_sub hx hb (by omega) dX0_work_181 ?_
            refine xp_hg K hP hD hS dX0_work_182 (fun H locs hP hD hS => ?_)
            refine lv_iload_n hx hb dX0_work_185 rfl (lv_at hl 0 rfl) ?_
            refine lv_bipush (v := nI 9) hx hb dX0_work_186 (by decide) ?_
            refine gb_ne (tgt := 211) hx hb dX0_work_188 (by decide) (by omega) (by omega) (fun c_188 => ?_) (fun c_188 => ?_)
            · exact ret _ _ (hg - 1, pi, va) _ _ dX0_work_211 ⟨(show hg - 1 = wkH (cd (op i)) hg from by unfold wkH; omega), (show pi = wkP (cd (op i)) (nu i) hg pi va from by unfold wkP; grind), (show va = wkV (cd (op i)) (nu i) hg pi va from by unfold wkV; grind)⟩ hP hD hS
            · refine lv_aload_n hx hb dX0_work_191 rfl (lv_at hl 1 rfl) ?_
              refine xg_va K hP dX0_work_192 ?_
              refine lv_aload_n hx hb dX0_work_195 rfl (lv_at hl 1 rfl) ?_
              refine xg_nu K hP dX0_work_196 ?_
              refine lv_iload_n hx hb dX0_work_199 rfl (lv_at hl 2 rfl) ?_
              refine xl_nu K hP (by omega) dX0_work_200 ?_
              refine gi_tp (y := nI (cd (nu i))) ((ha (Or.inr c_188)).2) ?_
              refine lv_aload_n hx hb dX0_work_201 rfl (lv_at hl 1 rfl) ?_
              refine xg_pi K hP dX0_work_202 ?_
              refine lv_aload_n hx hb dX0_work_205 rfl (lv_at hl 1 rfl) ?_
              refine xg_hg K hP dX0_work_206 ?_
              refine xl_pi K hP (by omega) dX0_work_209 ?_
              refine xs_va K hP hD hS ((ha (Or.inr c_188)).1) dX0_work_210 (fun H locs hP hD hS => ?_)
              exact ret _ _ (hg - 1, pi, upd va (cd (nu i)) (pi (hg - 1))) _ _ dX0_work_211 ⟨(show hg - 1 = wkH (cd (op i)) hg from by unfold wkH; omega), (show pi = wkP (cd (op i)) (nu i) hg pi va from by unfold wkP; grind), (show upd va (cd (nu i)) (pi (hg - 1)) = wkV (cd (op i)) (nu i) hg pi va from by unfold wkV; grind)⟩ hP hD hS
          · have q1 : tkN (cd (op i)) = 0 ∧ ptN (cd (op i)) = 1 := by rw [c_154]; decide
            refine lv_aload_n hx hb dX0_work_157 rfl (lv_at hl 1 rfl) ?_
            refine lv_aload_n hx hb dX0_work_158 rfl (lv_at hl 1 rfl) ?_
            refine xg_va K hP dX0_work_159 ?_
            refine lv_aload_n hx hb dX0_work_162 rfl (lv_at hl 1 rfl) ?_
            refine xg_nu K hP dX0_work_163 ?_
            refine lv_iload_n hx hb dX0_work_166 rfl (lv_at hl 2 rfl) ?_
            refine xl_nu K hP (by omega) dX0_work_167 ?_
            refine gi_tp (y := nI (cd (nu i))) ((ha (Or.inl c_154)).2) ?_
            refine xl_va K hP ((ha (Or.inl c_154)).1) dX0_work_168 ?_
            refine gm_callv (As := [.int (va (cd (nu i)))]) (rest := []) (C := RX0) (n := 1) K (metX_put l D d h r sz op nu va ga pl le pr ne ri nx en dn tk hg pi ke kp (va (cd (nu i))) (by omega)) (lw_V q174 q176 qs11 q27 q177) (by decide +kernel) ⟨by decide, by decide⟩ ⟨rfl, rfl⟩ rfl 0 rfl rfl rfl hP hD hS hl rfl (Nat.le_of_ble_eq_true rfl) dX0_work_169 ⟨Nat.zero_le _, Nat.zero_le _⟩ (fun u_1 H locs hp_1 hP hD hS => ?_)
            obtain ⟨u_1a, u_1b⟩ := u_1
            obtain ⟨e_u_1a, e_u_1b⟩ := hp_1
            have e_u_1a : u_1a = hg + 1 := e_u_1a
            subst e_u_1a
            have e_u_1b : u_1b = upd pi hg (va (cd (nu i))) := e_u_1b
            subst e_u_1b
            have hP : va_P D gCl (wX h r d sz op nu va ga pl le pr ne ri nx en dn tk (hg + 1) (upd pi hg (va (cd (nu i)))) ke kp) H := hP
            have hD : va_D A (wX h r d sz op nu va ga pl le pr ne ri nx en dn tk (hg + 1) (upd pi hg (va (cd (nu i)))) ke kp) := hD
            refine lv_goto (tgt := 211) hx hb dX0_work_172 (by decide) ?_
            exact ret _ _ (hg + 1, upd pi hg (va (cd (nu i))), va) _ _ dX0_work_211 ⟨(show hg + 1 = wkH (cd (op i)) hg from by unfold wkH; omega), (show upd pi hg (va (cd (nu i))) = wkP (cd (op i)) (nu i) hg pi va from by unfold wkP; grind), (show va = wkV (cd (op i)) (nu i) hg pi va from by unfold wkV; grind)⟩ hP hD hS
        · have q1 : tkN (cd (op i)) = 2 ∧ ptN (cd (op i)) = 2 := by rw [c_99]; decide
          refine lv_aload_n hx hb dX0_work_102 rfl (lv_at hl 1 rfl) ?_
          refine xg_pi K hP dX0_work_103 ?_
          refine lv_aload_n hx hb dX0_work_106 rfl (lv_at hl 1 rfl) ?_
          refine xg_hg K hP dX0_work_107 ?_
          refine lv_iconst (v := nI 1) hx hb dX0_work_110 (by decide) ?_
          refine gi_sub hx hb (by omega) dX0_work_111 ?_
          refine xl_pi K hP (by omega) dX0_work_112 ?_
          refine lv_istore_n (lv' := [(3, .int (pi (hg - 1))), (2, .int (nI (cd (op i)))), (0, .ref h), (1, .int (nI i))]) hx hb dX0_work_113 rfl hl (by decide) rfl (fun ls hl => ?_)
          refine lv_aload_n hx hb dX0_work_114 rfl (lv_at hl 2 rfl) ?_
          refine xg_pi K hP dX0_work_115 ?_
          refine lv_aload_n hx hb dX0_work_118 rfl (lv_at hl 2 rfl) ?_
          refine xg_hg K hP dX0_work_119 ?_
          refine lv_iconst (v := nI 1) hx hb dX0_work_122 (by decide) ?_
          refine gi_sub hx hb (by omega) dX0_work_123 ?_
          refine lv_aload_n hx hb dX0_work_124 rfl (lv_at hl 2 rfl) ?_
          refine xg_pi K hP dX0_work_125 ?_
          refine lv_aload_n hx hb dX0_work_128 rfl (lv_at hl 2 rfl) ?_
          refine xg_hg K hP dX0_work_129 ?_
          refine lv_iconst (v := nI 2) hx hb dX0_work_132 (by decide) ?_
          refine gi_sub hx hb (by omega) dX0_work_133 ?_
          refine xl_pi K hP (by omega) dX0_work_134 ?_
          refine xs_pi K hP hD hS (by omega) dX0_work_135 (fun H locs hP hD hS => ?_)
          refine lv_aload_n hx hb dX0_work_136 rfl (lv_at hl 2 rfl) ?_
          refine xg_pi K hP dX0_work_137 ?_
          refine lv_aload_n hx hb dX0_work_140 rfl (lv_at hl 2 rfl) ?_
          refine xg_hg K hP dX0_work_141 ?_
          refine lv_iconst (v := nI 2) hx hb dX0_work_144 (by decide) ?_
          refine gi_sub hx hb (by omega) dX0_work_145 ?_
          refine lv_iload_n hx hb dX0_work_146 rfl (lv_at hl 0 rfl) ?_
          refine xs_pi K hP hD hS (by omega) dX0_work_147 (fun H locs hP hD hS => ?_)
          refine lv_goto (tgt := 211) hx hb dX0_work_148 (by decide) ?_
          exact ret _ _ (hg, upd (upd pi (hg - 1) (pi (hg - 2))) (hg - 2) (pi (hg - 1)), va) _ _ dX0_work_211 ⟨(show hg = wkH (cd (op i)) hg from by unfold wkH; omega), (show upd (upd pi (hg - 1) (pi (hg - 2))) (hg - 2) (pi (hg - 1)) = wkP (cd (op i)) (nu i) hg pi va from by unfold wkP; grind), (show va = wkV (cd (op i)) (nu i) hg pi va from by unfold wkV; grind)⟩ hP hD hS
      · have q1 : tkN (cd (op i)) = 1 ∧ ptN (cd (op i)) = 2 := by rw [c_75]; decide
        refine lv_aload_n hx hb dX0_work_78 rfl (lv_at hl 1 rfl) ?_
        refine lv_aload_n hx hb dX0_work_79 rfl (lv_at hl 1 rfl) ?_
        refine xg_pi K hP dX0_work_80 ?_
        refine lv_aload_n hx hb dX0_work_83 rfl (lv_at hl 1 rfl) ?_
        refine xg_hg K hP dX0_work_84 ?_
        refine lv_iconst (v := nI 1) hx hb dX0_work_87 (by decide) ?_
        refine gi_sub hx hb (by omega) dX0_work_88 ?_
        refine xl_pi K hP (by omega) dX0_work_89 ?_
        refine gm_callv (As := [.int (pi (hg - 1))]) (rest := []) (C := RX0) (n := 1) K (metX_put l D d h r sz op nu va ga pl le pr ne ri nx en dn tk hg pi ke kp (pi (hg - 1)) (by omega)) (lw_V q174 q176 qs11 q27 q177) (by decide +kernel) ⟨by decide, by decide⟩ ⟨rfl, rfl⟩ rfl 0 rfl rfl rfl hP hD hS hl rfl (Nat.le_of_ble_eq_true rfl) dX0_work_90 ⟨Nat.zero_le _, Nat.zero_le _⟩ (fun u_2 H locs hp_2 hP hD hS => ?_)
        obtain ⟨u_2a, u_2b⟩ := u_2
        obtain ⟨e_u_2a, e_u_2b⟩ := hp_2
        have e_u_2a : u_2a = hg + 1 := e_u_2a
        subst e_u_2a
        have e_u_2b : u_2b = upd pi hg (pi (hg - 1)) := e_u_2b
        subst e_u_2b
        have hP : va_P D gCl (wX h r d sz op nu va ga pl le pr ne ri nx en dn tk (hg + 1) (upd pi hg (pi (hg - 1))) ke kp) H := hP
        have hD : va_D A (wX h r d sz op nu va ga pl le pr ne ri nx en dn tk (hg + 1) (upd pi hg (pi (hg - 1))) ke kp) := hD
        refine lv_goto (tgt := 211) hx hb dX0_work_93 (by decide) ?_
        exact ret _ _ (hg + 1, upd pi hg (pi (hg - 1)), va) _ _ dX0_work_211 ⟨(show hg + 1 = wkH (cd (op i)) hg from by unfold wkH; omega), (show upd pi hg (pi (hg - 1)) = wkP (cd (op i)) (nu i) hg pi va from by unfold wkP; grind), (show va = wkV (cd (op i)) (nu i) hg pi va from by unfold wkV; grind)⟩ hP hD hS
    · have q1 : tkN (cd (op i)) = 2 ∧ ptN (cd (op i)) = 1 := by unfold tkN ptN; grind
      refine lv_aload_n hx hb dX0_work_29 rfl (lv_at hl 1 rfl) ?_
      refine lv_aload_n hx hb dX0_work_30 rfl (lv_at hl 1 rfl) ?_
      refine xg_hg K hP dX0_work_31 ?_
      refine lv_iconst (v := nI 2) hx hb dX0_work_34 (by decide) ?_
      refine gi_sub hx hb (by omega) dX0_work_35 ?_
      refine xp_hg K hP hD hS dX0_work_36 (fun H locs hP hD hS => ?_)
      refine lv_aload_n hx hb dX0_work_39 rfl (lv_at hl 1 rfl) ?_
      refine lv_iload_n hx hb dX0_work_40 rfl (lv_at hl 0 rfl) ?_
      refine lv_aload_n hx hb dX0_work_41 rfl (lv_at hl 1 rfl) ?_
      refine xg_pi K hP dX0_work_42 ?_
      refine lv_aload_n hx hb dX0_work_45 rfl (lv_at hl 1 rfl) ?_
      refine xg_hg K hP dX0_work_46 ?_
      refine xl_pi K hP (by omega) dX0_work_49 ?_
      refine lv_aload_n hx hb dX0_work_50 rfl (lv_at hl 1 rfl) ?_
      refine xg_pi K hP dX0_work_51 ?_
      refine lv_aload_n hx hb dX0_work_54 rfl (lv_at hl 1 rfl) ?_
      refine xg_hg K hP dX0_work_55 ?_
      refine lv_iconst (v := nI 1) hx hb dX0_work_58 (by decide) ?_
      refine gi_add hx hb dX0_work_59 ?_
      refine gi_tp (y := nI (hg - 1)) (by rw [e21 (by omega)]) ?_
      refine xl_pi K hP (by omega) dX0_work_60 ?_
      refine gm_calli (As := [.int (nI (cd (op i))), .int (pi (hg - 2)), .int (pi (hg - 1))]) (rest := []) (C := RX0) (n := 3) K (metX_combined l D d h r sz op nu va ga pl le pr ne ri nx en dn tk (hg - 2) pi ke kp (cd (op i)) (pi (hg - 2)) (pi (hg - 1)) (by omega)) (lw_V q178 q180 qs12 q27 q181) (by decide +kernel) ⟨by decide, by decide⟩ ⟨rfl, rfl⟩ rfl 0 rfl rfl rfl hP hD hS hl rfl (Nat.le_of_ble_eq_true rfl) dX0_work_61 ⟨Nat.zero_le _, Nat.zero_le _⟩ (fun a_3 u_3 H locs hp_3 hP hD hS => ?_)
      have ea_3 := hp_3
      have ea_3 : a_3 = cbI (cd (op i)) (pi (hg - 2)) (pi (hg - 1)) := ea_3
      subst ea_3
      refine lv_istore_n (lv' := [(3, .int (cbI (cd (op i)) (pi (hg - 2)) (pi (hg - 1)))), (2, .int (nI (cd (op i)))), (0, .ref h), (1, .int (nI i))]) hx hb dX0_work_64 rfl hl (by decide) rfl (fun ls hl => ?_)
      refine lv_aload_n hx hb dX0_work_65 rfl (lv_at hl 2 rfl) ?_
      refine lv_iload_n hx hb dX0_work_66 rfl (lv_at hl 0 rfl) ?_
      refine gm_callv (As := [.int (cbI (cd (op i)) (pi (hg - 2)) (pi (hg - 1)))]) (rest := []) (C := RX0) (n := 1) K (metX_put l D d h r sz op nu va ga pl le pr ne ri nx en dn tk (hg - 2) pi ke kp (cbI (cd (op i)) (pi (hg - 2)) (pi (hg - 1))) (by omega)) (lw_V q174 q176 qs11 q27 q177) (by decide +kernel) ⟨by decide, by decide⟩ ⟨rfl, rfl⟩ rfl 0 rfl rfl rfl hP hD hS hl rfl (Nat.le_of_ble_eq_true rfl) dX0_work_67 ⟨Nat.zero_le _, Nat.zero_le _⟩ (fun u_4 H locs hp_4 hP hD hS => ?_)
      obtain ⟨u_4a, u_4b⟩ := u_4
      obtain ⟨e_u_4a, e_u_4b⟩ := hp_4
      have e_u_4a : u_4a = (hg - 2) + 1 := e_u_4a
      subst e_u_4a
      have e_u_4b : u_4b = upd pi (hg - 2) (cbI (cd (op i)) (pi (hg - 2)) (pi (hg - 1))) := e_u_4b
      subst e_u_4b
      have hP : va_P D gCl (wX h r d sz op nu va ga pl le pr ne ri nx en dn tk ((hg - 2) + 1) (upd pi (hg - 2) (cbI (cd (op i)) (pi (hg - 2)) (pi (hg - 1)))) ke kp) H := hP
      have hD : va_D A (wX h r d sz op nu va ga pl le pr ne ri nx en dn tk ((hg - 2) + 1) (upd pi (hg - 2) (cbI (cd (op i)) (pi (hg - 2)) (pi (hg - 1)))) ke kp) := hD
      refine lv_goto (tgt := 211) hx hb dX0_work_70 (by decide) ?_
      exact ret _ _ ((hg - 2) + 1, upd pi (hg - 2) (cbI (cd (op i)) (pi (hg - 2)) (pi (hg - 1))), va) _ _ dX0_work_211 ⟨(show (hg - 2) + 1 = wkH (cd (op i)) hg from by unfold wkH; omega), (show upd pi (hg - 2) (cbI (cd (op i)) (pi (hg - 2)) (pi (hg - 1))) = wkP (cd (op i)) (nu i) hg pi va from by unfold wkP; grind), (show va = wkV (cd (op i)) (nu i) hg pi va from by unfold wkV; grind)⟩ hP hD hS
  · have q1 : tkN (cd (op i)) = 0 ∧ ptN (cd (op i)) = 1 := by rw [c_8]; decide
    refine lv_aload_n hx hb dX0_work_11 rfl (lv_at hl 1 rfl) ?_
    refine lv_aload_n hx hb dX0_work_12 rfl (lv_at hl 1 rfl) ?_
    refine xg_nu K hP dX0_work_13 ?_
    refine lv_iload_n hx hb dX0_work_16 rfl (lv_at hl 2 rfl) ?_
    refine xl_nu K hP (by omega) dX0_work_17 ?_
    refine gm_callv (As := [.int (nu i)]) (rest := []) (C := RX0) (n := 1) K (metX_put l D d h r sz op nu va ga pl le pr ne ri nx en dn tk hg pi ke kp (nu i) (by omega)) (lw_V q174 q176 qs11 q27 q177) (by decide +kernel) ⟨by decide, by decide⟩ ⟨rfl, rfl⟩ rfl 0 rfl rfl rfl hP hD hS hl rfl (Nat.le_of_ble_eq_true rfl) dX0_work_18 ⟨Nat.zero_le _, Nat.zero_le _⟩ (fun u_5 H locs hp_5 hP hD hS => ?_)
    obtain ⟨u_5a, u_5b⟩ := u_5
    obtain ⟨e_u_5a, e_u_5b⟩ := hp_5
    have e_u_5a : u_5a = hg + 1 := e_u_5a
    subst e_u_5a
    have e_u_5b : u_5b = upd pi hg (nu i) := e_u_5b
    subst e_u_5b
    have hP : va_P D gCl (wX h r d sz op nu va ga pl le pr ne ri nx en dn tk (hg + 1) (upd pi hg (nu i)) ke kp) H := hP
    have hD : va_D A (wX h r d sz op nu va ga pl le pr ne ri nx en dn tk (hg + 1) (upd pi hg (nu i)) ke kp) := hD
    refine lv_goto (tgt := 211) hx hb dX0_work_21 (by decide) ?_
    exact ret _ _ (hg + 1, upd pi hg (nu i), va) _ _ dX0_work_211 ⟨(show hg + 1 = wkH (cd (op i)) hg from by unfold wkH; omega), (show upd pi hg (nu i) = wkP (cd (op i)) (nu i) hg pi va from by unfold wkP; grind), (show va = wkV (cd (op i)) (nu i) hg pi va from by unfold wkV; grind)⟩ hP hD hS
set_option maxHeartbeats 4000000 in
set_option maxRecDepth 100000 in
theorem metX_workBreak (l : Launch) (D : va_G) (d : ClassId) (h : Nat) (r : Nat → Nat) (sz : Nat) (op : vF) (nu : vF) (va : vF) (ga : Nat) (pl : Nat) (le : vF) (pr : vF) (ne : vF) (ri : vF) (nx : Nat) (en : Nat) (dn : Nat) (tk : Nat) (hg : Nat) (pi : vF) (ke : vF) (kp : vF) (i : Nat) (hi : i < 20) (hk : op i = nI (cd (op i))) (hkt : cd (op i) < 15) (ht : tkN (cd (op i)) ≤ hg) (hp : hg - tkN (cd (op i)) + ptN (cd (op i)) ≤ 8) (hh : hg ≤ 8) (hk10 : 10 ≤ cd (op i)) (hj : cd (op i) = 10 ∨ cd (op i) = 11 → cd (nu i) ≤ 20 ∧ nu i = nI (cd (nu i))) : MetV l yX0_workBreak cX0_workBreak 3 D d [.ref h, .int (nI i)] (wX h r d sz op nu va ga pl le pr ne ri nx en dn tk hg pi ke kp) (rmG 1) (fun (u : Nat × Nat × vF × Nat) => u.1 = nxN (cd (op i)) (nu i) i hg pi ∧ u.2.1 = wkH (cd (op i)) hg ∧ u.2.2.1 = piN (cd (op i)) (nu i) ga hg pi va ∧ u.2.2.2 = if cd (op i) = 14 then 1 else en) (fun u : Nat × Nat × vF × Nat => wX h r d sz op nu va ga pl le pr ne ri u.1 u.2.2.2 dn tk u.2.1 u.2.2.1 ke kp) := by
  refine gm_startV (own := RX0) (by decide +kernel) rfl (Nat.le_of_ble_eq_true rfl) ?_
  intro p e s m below meth c A H locs Q ls K hl hP hD hS ret
  have hx := K.1
  have hb := K.2.1
  have hl : lv_has ls 3 [(0, .ref h), (1, .int (nI i))] := hl
  refine lv_aload_n hx hb dX0_workBreak_0 rfl (lv_at hl 0 rfl) ?_
  refine xg_op K hP dX0_workBreak_1 ?_
  refine lv_iload_n hx hb dX0_workBreak_4 rfl (lv_at hl 1 rfl) ?_
  refine xl_op K hP (by omega) dX0_workBreak_5 ?_
  refine gi_tp (y := nI (cd (op i))) hk ?_
  refine lv_istore_n (lv' := [(2, .int (nI (cd (op i)))), (0, .ref h), (1, .int (nI i))]) hx hb dX0_workBreak_6 rfl hl (by decide) rfl (fun ls hl => ?_)
  refine lv_aload_n hx hb dX0_workBreak_7 rfl (lv_at hl 1 rfl) ?_
  refine lv_iload_n hx hb dX0_workBreak_8 rfl (lv_at hl 2 rfl) ?_
  refine lv_iconst (v := nI 1) hx hb dX0_workBreak_9 (by decide) ?_
  refine gi_add hx hb dX0_workBreak_10 ?_
  refine xp_nx K hP hD hS dX0_workBreak_11 (fun H locs hP hD hS => ?_)
  refine lv_iload_n hx hb dX0_workBreak_14 rfl (lv_at hl 0 rfl) ?_
  refine lv_bipush (v := nI 10) hx hb dX0_workBreak_15 (by decide) ?_
  refine gb_ne (tgt := 33) hx hb dX0_workBreak_17 (by decide) (by omega) (by omega) (fun c_17 => ?_) (fun c_17 => ?_)
  · refine lv_iload_n hx hb dX0_workBreak_33 rfl (lv_at hl 0 rfl) ?_
    refine lv_bipush (v := nI 11) hx hb dX0_workBreak_34 (by decide) ?_
    refine gb_ne (tgt := 74) hx hb dX0_workBreak_36 (by decide) (by omega) (by omega) (fun c_36 => ?_) (fun c_36 => ?_)
    · refine lv_iload_n hx hb dX0_workBreak_74 rfl (lv_at hl 0 rfl) ?_
      refine lv_bipush (v := nI 12) hx hb dX0_workBreak_75 (by decide) ?_
      refine gb_ne (tgt := 93) hx hb dX0_workBreak_77 (by decide) (by omega) (by omega) (fun c_77 => ?_) (fun c_77 => ?_)
      · refine lv_iload_n hx hb dX0_workBreak_93 rfl (lv_at hl 0 rfl) ?_
        refine lv_bipush (v := nI 13) hx hb dX0_workBreak_94 (by decide) ?_
        refine gb_ne (tgt := 110) hx hb dX0_workBreak_96 (by decide) (by omega) (by omega) (fun c_96 => ?_) (fun c_96 => ?_)
        · have q1 : tkN (cd (op i)) = 0 ∧ ptN (cd (op i)) = 0 := by unfold tkN ptN; grind
          refine lv_aload_n hx hb dX0_workBreak_110 rfl (lv_at hl 1 rfl) ?_
          refine lv_iload_n hx hb dX0_workBreak_111 rfl (lv_at hl 2 rfl) ?_
          refine xp_nx K hP hD hS dX0_workBreak_112 (fun H locs hP hD hS => ?_)
          refine lv_aload_n hx hb dX0_workBreak_115 rfl (lv_at hl 1 rfl) ?_
          refine lv_iconst (v := nI 1) hx hb dX0_workBreak_116 (by decide) ?_
          refine xp_en K hP hD hS dX0_workBreak_117 (fun H locs hP hD hS => ?_)
          exact ret _ _ (i, hg, pi, 1) _ _ dX0_workBreak_120 ⟨(show i = nxN (cd (op i)) (nu i) i hg pi from by unfold nxN; grind), (show hg = wkH (cd (op i)) hg from by unfold wkH; omega), (show pi = piN (cd (op i)) (nu i) ga hg pi va from by unfold piN wkP; grind), (show 1 = if cd (op i) = 14 then 1 else en from by grind)⟩ hP hD hS
        · have q1 : tkN (cd (op i)) = 0 ∧ ptN (cd (op i)) = 1 := by rw [c_96]; decide
          refine lv_aload_n hx hb dX0_workBreak_99 rfl (lv_at hl 1 rfl) ?_
          refine lv_aload_n hx hb dX0_workBreak_100 rfl (lv_at hl 1 rfl) ?_
          refine xg_ga K hP dX0_workBreak_101 ?_
          refine gm_callv (As := [.int (nI ga)]) (rest := []) (C := RX0) (n := 1) K (metX_put l D d h r sz op nu va ga pl le pr ne ri (i + 1) en dn tk hg pi ke kp (nI ga) (by omega)) (lw_V q174 q176 qs11 q27 q177) (by decide +kernel) ⟨by decide, by decide⟩ ⟨rfl, rfl⟩ rfl 0 rfl rfl rfl hP hD hS hl rfl (Nat.le_of_ble_eq_true rfl) dX0_workBreak_104 ⟨Nat.zero_le _, Nat.zero_le _⟩ (fun u_1 H locs hp_1 hP hD hS => ?_)
          obtain ⟨u_1a, u_1b⟩ := u_1
          obtain ⟨e_u_1a, e_u_1b⟩ := hp_1
          have e_u_1a : u_1a = hg + 1 := e_u_1a
          subst e_u_1a
          have e_u_1b : u_1b = upd pi hg (nI ga) := e_u_1b
          subst e_u_1b
          have hP : va_P D gCl (wX h r d sz op nu va ga pl le pr ne ri (i + 1) en dn tk (hg + 1) (upd pi hg (nI ga)) ke kp) H := hP
          have hD : va_D A (wX h r d sz op nu va ga pl le pr ne ri (i + 1) en dn tk (hg + 1) (upd pi hg (nI ga)) ke kp) := hD
          refine lv_goto (tgt := 120) hx hb dX0_workBreak_107 (by decide) ?_
          exact ret _ _ (i + 1, hg + 1, upd pi hg (nI ga), en) _ _ dX0_workBreak_120 ⟨(show i + 1 = nxN (cd (op i)) (nu i) i hg pi from by unfold nxN; grind), (show hg + 1 = wkH (cd (op i)) hg from by unfold wkH; omega), (show upd pi hg (nI ga) = piN (cd (op i)) (nu i) ga hg pi va from by unfold piN wkP; grind), (show en = if cd (op i) = 14 then 1 else en from by grind)⟩ hP hD hS
      · have q1 : tkN (cd (op i)) = 1 ∧ ptN (cd (op i)) = 0 := by rw [c_77]; decide
        refine lv_aload_n hx hb dX0_workBreak_80 rfl (lv_at hl 1 rfl) ?_
        refine lv_dup hx hb dX0_workBreak_81 rfl ?_
        refine xg_hg K hP dX0_workBreak_82 ?_
        refine lv_iconst (v := nI 1) hx hb dX0_workBreak_85 (by decide) ?_
        refine gi_sub hx hb (by omega) dX0_workBreak_86 ?_
        refine xp_hg K hP hD hS dX0_workBreak_87 (fun H locs hP hD hS => ?_)
        refine lv_goto (tgt := 120) hx hb dX0_workBreak_90 (by decide) ?_
        exact ret _ _ (i + 1, hg - 1, pi, en) _ _ dX0_workBreak_120 ⟨(show i + 1 = nxN (cd (op i)) (nu i) i hg pi from by unfold nxN; grind), (show hg - 1 = wkH (cd (op i)) hg from by unfold wkH; omega), (show pi = piN (cd (op i)) (nu i) ga hg pi va from by unfold piN wkP; grind), (show en = if cd (op i) = 14 then 1 else en from by grind)⟩ hP hD hS
    · have q1 : tkN (cd (op i)) = 1 ∧ ptN (cd (op i)) = 0 := by rw [c_36]; decide
      refine lv_aload_n hx hb dX0_workBreak_39 rfl (lv_at hl 1 rfl) ?_
      refine lv_dup hx hb dX0_workBreak_40 rfl ?_
      refine xg_hg K hP dX0_workBreak_41 ?_
      refine lv_iconst (v := nI 1) hx hb dX0_workBreak_44 (by decide) ?_
      refine gi_sub hx hb (by omega) dX0_workBreak_45 ?_
      refine xp_hg K hP hD hS dX0_workBreak_46 (fun H locs hP hD hS => ?_)
      refine lv_aload_n hx hb dX0_workBreak_49 rfl (lv_at hl 1 rfl) ?_
      refine xg_pi K hP dX0_workBreak_50 ?_
      refine lv_aload_n hx hb dX0_workBreak_53 rfl (lv_at hl 1 rfl) ?_
      refine xg_hg K hP dX0_workBreak_54 ?_
      refine xl_pi K hP (by omega) dX0_workBreak_57 ?_
      refine lv_if_eq (tgt := 120) hx hb dX0_workBreak_58 (by decide) (fun c_58 => ?_) (fun c_58 => ?_)
      · exact ret _ _ (i + 1, hg - 1, pi, en) _ _ dX0_workBreak_120 ⟨(show i + 1 = nxN (cd (op i)) (nu i) i hg pi from by unfold nxN; grind), (show hg - 1 = wkH (cd (op i)) hg from by unfold wkH; omega), (show pi = piN (cd (op i)) (nu i) ga hg pi va from by unfold piN wkP; grind), (show en = if cd (op i) = 14 then 1 else en from by grind)⟩ hP hD hS
      · refine lv_aload_n hx hb dX0_workBreak_61 rfl (lv_at hl 1 rfl) ?_
        refine lv_aload_n hx hb dX0_workBreak_62 rfl (lv_at hl 1 rfl) ?_
        refine xg_nu K hP dX0_workBreak_63 ?_
        refine lv_iload_n hx hb dX0_workBreak_66 rfl (lv_at hl 2 rfl) ?_
        refine xl_nu K hP (by omega) dX0_workBreak_67 ?_
        refine gi_tp (y := nI (cd (nu i))) ((hj (Or.inr c_36)).2) ?_
        refine xp_nx K hP hD hS dX0_workBreak_68 (fun H locs hP hD hS => ?_)
        refine lv_goto (tgt := 120) hx hb dX0_workBreak_71 (by decide) ?_
        exact ret _ _ (cd (nu i), hg - 1, pi, en) _ _ dX0_workBreak_120 ⟨(show cd (nu i) = nxN (cd (op i)) (nu i) i hg pi from by unfold nxN; grind), (show hg - 1 = wkH (cd (op i)) hg from by unfold wkH; omega), (show pi = piN (cd (op i)) (nu i) ga hg pi va from by unfold piN wkP; grind), (show en = if cd (op i) = 14 then 1 else en from by grind)⟩ hP hD hS
  · have q1 : tkN (cd (op i)) = 0 ∧ ptN (cd (op i)) = 0 := by rw [c_17]; decide
    refine lv_aload_n hx hb dX0_workBreak_20 rfl (lv_at hl 1 rfl) ?_
    refine lv_aload_n hx hb dX0_workBreak_21 rfl (lv_at hl 1 rfl) ?_
    refine xg_nu K hP dX0_workBreak_22 ?_
    refine lv_iload_n hx hb dX0_workBreak_25 rfl (lv_at hl 2 rfl) ?_
    refine xl_nu K hP (by omega) dX0_workBreak_26 ?_
    refine gi_tp (y := nI (cd (nu i))) ((hj (Or.inl c_17)).2) ?_
    refine xp_nx K hP hD hS dX0_workBreak_27 (fun H locs hP hD hS => ?_)
    refine lv_goto (tgt := 120) hx hb dX0_workBreak_30 (by decide) ?_
    exact ret _ _ (cd (nu i), hg, pi, en) _ _ dX0_workBreak_120 ⟨(show cd (nu i) = nxN (cd (op i)) (nu i) i hg pi from by unfold nxN; grind), (show hg = wkH (cd (op i)) hg from by unfold wkH; omega), (show pi = piN (cd (op i)) (nu i) ga hg pi va from by unfold piN wkP; grind), (show en = if cd (op i) = 14 then 1 else en from by grind)⟩ hP hD hS
set_option maxHeartbeats 4000000 in
set_option maxRecDepth 100000 in
theorem metX_step (l : Launch) (D : va_G) (d : ClassId) (h : Nat) (r : Nat → Nat) (sz : Nat) (op : vF) (nu : vF) (va : vF) (ga : Nat) (pl : Nat) (le : vF) (pr : vF) (ne : vF) (ri : vF) (nx : Nat) (en : Nat) (dn : Nat) (tk : Nat) (hg : Nat) (pi : vF) (ke : vF) (kp : vF) (hp : okP sz op nu) (hn : nx < sz) (hd : dn < 300) (hh : hg ≤ 8) (hga : ga ≤ 1000000) (he : en = 0) : MetV l yX0_step cX0_step 4 D d [.ref h] (wX h r d sz op nu va ga pl le pr ne ri nx en dn tk hg pi ke kp) (rmG 2) (fun u : R7 => u = stN sz op nu (0, ga, dn, nx, hg, pi, va)) (fun u : R7 => wX h r d sz op nu (qV u) (qG u) pl le pr ne ri (qN u) (qE u) (qD u) tk (qH u) (qP u) ke kp) := by
  refine gm_startV (own := RX0) (by decide +kernel) rfl (Nat.le_of_ble_eq_true rfl) ?_
  intro p e s m below meth c A H locs Q ls K hl hP hD hS ret
  have hx := K.1
  have hb := K.2.1
  have hl : lv_has ls 4 [(0, .ref h)] := hl
  subst he
  have hz := hp.1
  have hI := (hp.2 _ hn).cd
  have b1 := tkN_le (cd (op nx))
  have b2 := ptN_le (cd (op nx))
  have b3 := prN_le (cd (op nx))
  have b4 := spN_lt (pi (hg - 1))
  refine lv_aload_n hx hb dX0_step_0 rfl (lv_at hl 0 rfl) ?_
  refine xg_nx K hP dX0_step_1 ?_
  refine lv_istore_n (lv' := [(1, .int (nI nx)), (0, .ref h)]) hx hb dX0_step_4 rfl hl (by decide) rfl (fun ls hl => ?_)
  refine lv_aload_n hx hb dX0_step_5 rfl (lv_at hl 1 rfl) ?_
  refine xg_op K hP dX0_step_6 ?_
  refine lv_iload_n hx hb dX0_step_9 rfl (lv_at hl 0 rfl) ?_
  refine xl_op K hP (by omega) dX0_step_10 ?_
  refine gi_tp (y := nI (cd (op nx))) hI.2.1 ?_
  refine lv_istore_n (lv' := [(2, .int (nI (cd (op nx)))), (1, .int (nI nx)), (0, .ref h)]) hx hb dX0_step_11 rfl hl (by decide) rfl (fun ls hl => ?_)
  refine lv_aload_n hx hb dX0_step_12 rfl (lv_at hl 2 rfl) ?_
  refine xg_hg K hP dX0_step_13 ?_
  refine lv_aload_n hx hb dX0_step_16 rfl (lv_at hl 2 rfl) ?_
  refine lv_iload_n hx hb dX0_step_17 rfl (lv_at hl 0 rfl) ?_
  refine gm_calli (As := [.int (nI (cd (op nx)))]) (rest := [.int (nI hg)]) (C := RX0) (n := 1) K (metX_takes l D d h r sz op nu va ga pl le pr ne ri nx 0 dn tk hg pi ke kp (cd (op nx)) hI.1) (lw_V q154 q156 qs6 q27 q157) (by decide +kernel) ⟨by decide, by decide⟩ ⟨rfl, rfl⟩ rfl 0 rfl rfl rfl hP hD hS hl rfl (Nat.le_of_ble_eq_true rfl) dX0_step_18 ⟨Nat.zero_le _, Nat.zero_le _⟩ (fun a_1 u_1 H locs hp_1 hP hD hS => ?_)
  have ea_1 := hp_1
  have ea_1 : a_1 = nI (tkN (cd (op nx))) := ea_1
  subst ea_1
  refine gb_lt (tgt := 45) hx hb dX0_step_21 (by decide) (by omega) (by omega) (fun c_21 => ?_) (fun c_21 => ?_)
  · have he2 : endN sz op ga dn nx hg pi = 3 := by unfold endN; grind
    refine lv_aload_n hx hb dX0_step_45 rfl (lv_at hl 2 rfl) ?_
    refine lv_iconst (v := nI 3) hx hb dX0_step_46 (by decide) ?_
    refine xp_en K hP hD hS dX0_step_47 (fun H locs hP hD hS => ?_)
    exact ret _ _ ((3, ga, dn, nx, hg, pi, va) : R7) _ _ dX0_step_50 (by rw [stN_stop (by rw [he2]; decide), he2]) hP hD hS
  · refine lv_aload_n hx hb dX0_step_24 rfl (lv_at hl 2 rfl) ?_
    refine xg_hg K hP dX0_step_25 ?_
    refine lv_aload_n hx hb dX0_step_28 rfl (lv_at hl 2 rfl) ?_
    refine lv_iload_n hx hb dX0_step_29 rfl (lv_at hl 0 rfl) ?_
    refine gm_calli (As := [.int (nI (cd (op nx)))]) (rest := [.int (nI hg)]) (C := RX0) (n := 1) K (metX_takes l D d h r sz op nu va ga pl le pr ne ri nx 0 dn tk hg pi ke kp (cd (op nx)) hI.1) (lw_V q154 q156 qs6 q27 q157) (by decide +kernel) ⟨by decide, by decide⟩ ⟨rfl, rfl⟩ rfl 0 rfl rfl rfl hP hD hS hl rfl (Nat.le_of_ble_eq_true rfl) dX0_step_30 ⟨Nat.zero_le _, Nat.zero_le _⟩ (fun a_2 u_2 H locs hp_2 hP hD hS => ?_)
    have ea_2 := hp_2
    have ea_2 : a_2 = nI (tkN (cd (op nx))) := ea_2
    subst ea_2
    refine gi_sub hx hb (by omega) dX0_step_33 ?_
    refine lv_aload_n hx hb dX0_step_34 rfl (lv_at hl 2 rfl) ?_
    refine lv_iload_n hx hb dX0_step_35 rfl (lv_at hl 0 rfl) ?_
    refine gm_calli (As := [.int (nI (cd (op nx)))]) (rest := [.int (nI (hg - (tkN (cd (op nx)))))]) (C := RX0) (n := 1) K (metX_puts l D d h r sz op nu va ga pl le pr ne ri nx 0 dn tk hg pi ke kp (cd (op nx)) hI.1) (lw_V q150 q152 qs5 q27 q153) (by decide +kernel) ⟨by decide, by decide⟩ ⟨rfl, rfl⟩ rfl 0 rfl rfl rfl hP hD hS hl rfl (Nat.le_of_ble_eq_true rfl) dX0_step_36 ⟨Nat.zero_le _, Nat.zero_le _⟩ (fun a_3 u_3 H locs hp_3 hP hD hS => ?_)
    have ea_3 := hp_3
    have ea_3 : a_3 = nI (ptN (cd (op nx))) := ea_3
    subst ea_3
    refine gi_add hx hb dX0_step_39 ?_
    refine lv_bipush (v := nI 8) hx hb dX0_step_40 (by decide) ?_
    refine gb_le (tgt := 51) hx hb dX0_step_42 (by decide) (by omega) (by omega) (fun c_42 => ?_) (fun c_42 => ?_)
    · refine lv_aload_n hx hb dX0_step_51 rfl (lv_at hl 2 rfl) ?_
      refine lv_iload_n hx hb dX0_step_52 rfl (lv_at hl 0 rfl) ?_
      refine gm_calli (As := [.int (nI (cd (op nx)))]) (rest := []) (C := RX0) (n := 1) K (metX_priceOf l D d h r sz op nu va ga pl le pr ne ri nx 0 dn tk hg pi ke kp (cd (op nx)) hI.1) (lw_V q158 q160 qs7 q27 q161) (by decide +kernel) ⟨by decide, by decide⟩ ⟨rfl, rfl⟩ rfl 0 rfl rfl rfl hP hD hS hl rfl (Nat.le_of_ble_eq_true rfl) dX0_step_53 ⟨Nat.zero_le _, Nat.zero_le _⟩ (fun a_4 u_4 H locs hp_4 hP hD hS => ?_)
      have ea_4 := hp_4
      have ea_4 : a_4 = nI (prN (cd (op nx))) := ea_4
      subst ea_4
      refine lv_istore_n (lv' := [(3, .int (nI (prN (cd (op nx))))), (2, .int (nI (cd (op nx)))), (1, .int (nI nx)), (0, .ref h)]) hx hb dX0_step_56 rfl hl (by decide) rfl (fun ls hl => ?_)
      refine lv_iload_n hx hb dX0_step_57 rfl (lv_at hl 1 rfl) ?_
      refine lv_bipush (v := nI 12) hx hb dX0_step_58 (by decide) ?_
      refine gb_ne (tgt := 80) hx hb dX0_step_60 (by decide) (by omega) (by omega) (fun c_60 => ?_) (fun c_60 => ?_)
      · have hc : coN (cd (op nx)) (pi (hg - 1)) = prN (cd (op nx)) := by unfold coN; rw [if_neg c_60]
        refine lv_iload_n hx hb dX0_step_80 rfl (lv_at hl 0 rfl) ?_
        refine lv_aload_n hx hb dX0_step_81 rfl (lv_at hl 3 rfl) ?_
        refine xg_ga K hP dX0_step_82 ?_
        refine gb_le (tgt := 94) hx hb dX0_step_85 (by decide) (by omega) (by omega) (fun c_85 => ?_) (fun c_85 => ?_)
        · have he2 : endN sz op ga dn nx hg pi = 0 := by unfold endN; grind
          refine lv_aload_n hx hb dX0_step_94 rfl (lv_at hl 3 rfl) ?_
          refine lv_aload_n hx hb dX0_step_95 rfl (lv_at hl 3 rfl) ?_
          refine xg_ga K hP dX0_step_96 ?_
          refine lv_iload_n hx hb dX0_step_99 rfl (lv_at hl 0 rfl) ?_
          refine gi_sub hx hb (by omega) dX0_step_100 ?_
          refine xp_ga K hP hD hS dX0_step_101 (fun H locs hP hD hS => ?_)
          refine lv_aload_n hx hb dX0_step_104 rfl (lv_at hl 3 rfl) ?_
          refine lv_dup hx hb dX0_step_105 rfl ?_
          refine xg_dn K hP dX0_step_106 ?_
          refine lv_iconst (v := nI 1) hx hb dX0_step_109 (by decide) ?_
          refine gi_add hx hb dX0_step_110 ?_
          refine xp_dn K hP hD hS dX0_step_111 (fun H locs hP hD hS => ?_)
          refine lv_aload_n hx hb dX0_step_114 rfl (lv_at hl 3 rfl) ?_
          refine lv_iload_n hx hb dX0_step_115 rfl (lv_at hl 1 rfl) ?_
          refine gm_calli (As := [.int (nI (cd (op nx)))]) (rest := []) (C := RX0) (n := 1) K (metX_breaks l D d h r sz op nu va (ga - (prN (cd (op nx)))) pl le pr ne ri nx 0 (dn + 1) tk hg pi ke kp (cd (op nx)) hI.1) (lw_V q146 q148 qs4 q27 q149) (by decide +kernel) ⟨by decide, by decide⟩ ⟨rfl, rfl⟩ rfl 0 rfl rfl rfl hP hD hS hl rfl (Nat.le_of_ble_eq_true rfl) dX0_step_116 ⟨Nat.zero_le _, Nat.zero_le _⟩ (fun a_5 u_5 H locs hp_5 hP hD hS => ?_)
          have ea_5 := hp_5
          have ea_5 : a_5 = nI (brN (cd (op nx))) := ea_5
          subst ea_5
          refine gz_eq (tgt := 130) hx hb dX0_step_119 (by decide) (brN_lt _) (fun c_119 => ?_) (fun c_119 => ?_)
          · have hbr : cd (op nx) < 10 := by unfold brN at c_119; grind
            refine lv_aload_n hx hb dX0_step_130 rfl (lv_at hl 3 rfl) ?_
            refine lv_iload_n hx hb dX0_step_131 rfl (lv_at hl 2 rfl) ?_
            refine gm_callv (As := [.int (nI nx)]) (rest := []) (C := RX0) (n := 1) K (metX_work l D d h r sz op nu va (ga - (prN (cd (op nx)))) pl le pr ne ri nx 0 (dn + 1) tk hg pi ke kp nx (by omega) hI.2.1 hbr (by omega) (by omega) hh hI.2.2.1) (lw_V q170 q172 qs10 q27 q173) (by decide +kernel) ⟨by decide, by decide⟩ ⟨rfl, rfl⟩ rfl 0 rfl rfl rfl hP hD hS hl rfl (Nat.le_of_ble_eq_true rfl) dX0_step_132 ⟨Nat.zero_le _, Nat.zero_le _⟩ (fun u_6 H locs hp_6 hP hD hS => ?_)
            obtain ⟨u_6a, u_6b, u_6c⟩ := u_6
            obtain ⟨e_u_6a, e_u_6b, e_u_6c⟩ := hp_6
            have e_u_6a : u_6a = wkH (cd (op nx)) hg := e_u_6a
            subst e_u_6a
            have e_u_6b : u_6b = wkP (cd (op nx)) (nu nx) hg pi va := e_u_6b
            subst e_u_6b
            have e_u_6c : u_6c = wkV (cd (op nx)) (nu nx) hg pi va := e_u_6c
            subst e_u_6c
            have hP : va_P D gCl (wX h r d sz op nu (wkV (cd (op nx)) (nu nx) hg pi va) (ga - (prN (cd (op nx)))) pl le pr ne ri nx 0 (dn + 1) tk (wkH (cd (op nx)) hg) (wkP (cd (op nx)) (nu nx) hg pi va) ke kp) H := hP
            have hD : va_D A (wX h r d sz op nu (wkV (cd (op nx)) (nu nx) hg pi va) (ga - (prN (cd (op nx)))) pl le pr ne ri nx 0 (dn + 1) tk (wkH (cd (op nx)) hg) (wkP (cd (op nx)) (nu nx) hg pi va) ke kp) := hD
            refine lv_aload_n hx hb dX0_step_135 rfl (lv_at hl 3 rfl) ?_
            refine lv_iload_n hx hb dX0_step_136 rfl (lv_at hl 2 rfl) ?_
            refine lv_iconst (v := nI 1) hx hb dX0_step_137 (by decide) ?_
            refine gi_add hx hb dX0_step_138 ?_
            refine xp_nx K hP hD hS dX0_step_139 (fun H locs hP hD hS => ?_)
            exact ret _ _ ((0, ga - (prN (cd (op nx))), dn + 1, nx + 1, wkH (cd (op nx)) hg, wkP (cd (op nx)) (nu nx) hg pi va, wkV (cd (op nx)) (nu nx) hg pi va) : R7) _ _ dX0_step_142 (by rw [stN_go he2, goN_low hbr]) hP hD hS
          · have hbr : 10 ≤ cd (op nx) := by unfold brN at c_119; grind
            refine lv_aload_n hx hb dX0_step_122 rfl (lv_at hl 3 rfl) ?_
            refine lv_iload_n hx hb dX0_step_123 rfl (lv_at hl 2 rfl) ?_
            refine gm_callv (As := [.int (nI nx)]) (rest := []) (C := RX0) (n := 1) K (metX_workBreak l D d h r sz op nu va (ga - (prN (cd (op nx)))) pl le pr ne ri nx 0 (dn + 1) tk hg pi ke kp nx (by omega) hI.2.1 (by omega) (by omega) (by omega) hh hbr hI.2.2.2) (lw_V q186 q188 qs14 q27 q189) (by decide +kernel) ⟨by decide, by decide⟩ ⟨rfl, rfl⟩ rfl 0 rfl rfl rfl hP hD hS hl rfl (Nat.le_of_ble_eq_true rfl) dX0_step_124 ⟨Nat.zero_le _, Nat.zero_le _⟩ (fun u_7 H locs hp_7 hP hD hS => ?_)
            obtain ⟨u_7a, u_7b, u_7c, u_7d⟩ := u_7
            obtain ⟨e_u_7a, e_u_7b, e_u_7c, e_u_7d⟩ := hp_7
            have e_u_7a : u_7a = nxN (cd (op nx)) (nu nx) nx hg pi := e_u_7a
            subst e_u_7a
            have e_u_7b : u_7b = wkH (cd (op nx)) hg := e_u_7b
            subst e_u_7b
            have e_u_7c : u_7c = piN (cd (op nx)) (nu nx) (ga - (prN (cd (op nx)))) hg pi va := e_u_7c
            subst e_u_7c
            have e_u_7d : u_7d = if cd (op nx) = 14 then 1 else 0 := e_u_7d
            subst e_u_7d
            have hP : va_P D gCl (wX h r d sz op nu va (ga - (prN (cd (op nx)))) pl le pr ne ri (nxN (cd (op nx)) (nu nx) nx hg pi) (if cd (op nx) = 14 then 1 else 0) (dn + 1) tk (wkH (cd (op nx)) hg) (piN (cd (op nx)) (nu nx) (ga - (prN (cd (op nx)))) hg pi va) ke kp) H := hP
            have hD : va_D A (wX h r d sz op nu va (ga - (prN (cd (op nx)))) pl le pr ne ri (nxN (cd (op nx)) (nu nx) nx hg pi) (if cd (op nx) = 14 then 1 else 0) (dn + 1) tk (wkH (cd (op nx)) hg) (piN (cd (op nx)) (nu nx) (ga - (prN (cd (op nx)))) hg pi va) ke kp) := hD
            refine lv_goto (tgt := 142) hx hb dX0_step_127 (by decide) ?_
            exact ret _ _ ((if cd (op nx) = 14 then 1 else 0, ga - (prN (cd (op nx))), dn + 1, nxN (cd (op nx)) (nu nx) nx hg pi, wkH (cd (op nx)) hg, piN (cd (op nx)) (nu nx) (ga - (prN (cd (op nx)))) hg pi va, va) : R7) _ _ dX0_step_142 (by rw [stN_go he2]; unfold goN; rw [hc, show wkV (cd (op nx)) (nu nx) hg pi va = va from by unfold wkV; exact if_neg (by omega)]) hP hD hS
        · have he2 : endN sz op ga dn nx hg pi = 4 := by unfold endN; grind
          refine lv_aload_n hx hb dX0_step_88 rfl (lv_at hl 3 rfl) ?_
          refine lv_iconst (v := nI 4) hx hb dX0_step_89 (by decide) ?_
          refine xp_en K hP hD hS dX0_step_90 (fun H locs hP hD hS => ?_)
          exact ret _ _ ((4, ga, dn, nx, hg, pi, va) : R7) _ _ dX0_step_93 (by rw [stN_stop (by rw [he2]; decide), he2]) hP hD hS
      · have hc : coN (cd (op nx)) (pi (hg - 1)) = prN (cd (op nx)) + spN (pi (hg - 1)) := by unfold coN; rw [if_pos c_60, c_60]; rfl
        have b5 : tkN (cd (op nx)) = 1 := by rw [c_60]; rfl
        refine lv_iload_n hx hb dX0_step_63 rfl (lv_at hl 0 rfl) ?_
        refine lv_aload_n hx hb dX0_step_64 rfl (lv_at hl 3 rfl) ?_
        refine xg_pi K hP dX0_step_65 ?_
        refine lv_aload_n hx hb dX0_step_68 rfl (lv_at hl 3 rfl) ?_
        refine xg_hg K hP dX0_step_69 ?_
        refine lv_iconst (v := nI 1) hx hb dX0_step_72 (by decide) ?_
        refine gi_sub hx hb (by omega) dX0_step_73 ?_
        refine xl_pi K hP (by omega) dX0_step_74 ?_
        refine lv_bipush (v := nI 15) hx hb dX0_step_75 (by decide) ?_
        refine lv_iand hx hb dX0_step_77 ?_
        refine gi_tp (y := nI (spN (pi (hg - 1)))) (spN_and _) ?_
        refine gi_add hx hb dX0_step_78 ?_
        refine lv_istore_n (lv' := [(3, .int (nI ((prN (cd (op nx))) + (spN (pi (hg - 1)))))), (2, .int (nI (cd (op nx)))), (1, .int (nI nx)), (0, .ref h)]) hx hb dX0_step_79 rfl hl (by decide) rfl (fun ls hl => ?_)
        refine lv_iload_n hx hb dX0_step_80 rfl (lv_at hl 0 rfl) ?_
        refine lv_aload_n hx hb dX0_step_81 rfl (lv_at hl 3 rfl) ?_
        refine xg_ga K hP dX0_step_82 ?_
        refine gb_le (tgt := 94) hx hb dX0_step_85 (by decide) (by omega) (by omega) (fun c_85 => ?_) (fun c_85 => ?_)
        · have he2 : endN sz op ga dn nx hg pi = 0 := by unfold endN; grind
          refine lv_aload_n hx hb dX0_step_94 rfl (lv_at hl 3 rfl) ?_
          refine lv_aload_n hx hb dX0_step_95 rfl (lv_at hl 3 rfl) ?_
          refine xg_ga K hP dX0_step_96 ?_
          refine lv_iload_n hx hb dX0_step_99 rfl (lv_at hl 0 rfl) ?_
          refine gi_sub hx hb (by omega) dX0_step_100 ?_
          refine xp_ga K hP hD hS dX0_step_101 (fun H locs hP hD hS => ?_)
          refine lv_aload_n hx hb dX0_step_104 rfl (lv_at hl 3 rfl) ?_
          refine lv_dup hx hb dX0_step_105 rfl ?_
          refine xg_dn K hP dX0_step_106 ?_
          refine lv_iconst (v := nI 1) hx hb dX0_step_109 (by decide) ?_
          refine gi_add hx hb dX0_step_110 ?_
          refine xp_dn K hP hD hS dX0_step_111 (fun H locs hP hD hS => ?_)
          refine lv_aload_n hx hb dX0_step_114 rfl (lv_at hl 3 rfl) ?_
          refine lv_iload_n hx hb dX0_step_115 rfl (lv_at hl 1 rfl) ?_
          refine gm_calli (As := [.int (nI (cd (op nx)))]) (rest := []) (C := RX0) (n := 1) K (metX_breaks l D d h r sz op nu va (ga - ((prN (cd (op nx))) + (spN (pi (hg - 1))))) pl le pr ne ri nx 0 (dn + 1) tk hg pi ke kp (cd (op nx)) hI.1) (lw_V q146 q148 qs4 q27 q149) (by decide +kernel) ⟨by decide, by decide⟩ ⟨rfl, rfl⟩ rfl 0 rfl rfl rfl hP hD hS hl rfl (Nat.le_of_ble_eq_true rfl) dX0_step_116 ⟨Nat.zero_le _, Nat.zero_le _⟩ (fun a_8 u_8 H locs hp_8 hP hD hS => ?_)
          have ea_8 := hp_8
          have ea_8 : a_8 = nI (brN (cd (op nx))) := ea_8
          subst ea_8
          refine gz_eq (tgt := 130) hx hb dX0_step_119 (by decide) (brN_lt _) (fun c_119 => ?_) (fun c_119 => ?_)
          · exfalso; unfold brN at c_119; grind
          · have hbr : 10 ≤ cd (op nx) := by unfold brN at c_119; grind
            refine lv_aload_n hx hb dX0_step_122 rfl (lv_at hl 3 rfl) ?_
            refine lv_iload_n hx hb dX0_step_123 rfl (lv_at hl 2 rfl) ?_
            refine gm_callv (As := [.int (nI nx)]) (rest := []) (C := RX0) (n := 1) K (metX_workBreak l D d h r sz op nu va (ga - ((prN (cd (op nx))) + (spN (pi (hg - 1))))) pl le pr ne ri nx 0 (dn + 1) tk hg pi ke kp nx (by omega) hI.2.1 (by omega) (by omega) (by omega) hh hbr hI.2.2.2) (lw_V q186 q188 qs14 q27 q189) (by decide +kernel) ⟨by decide, by decide⟩ ⟨rfl, rfl⟩ rfl 0 rfl rfl rfl hP hD hS hl rfl (Nat.le_of_ble_eq_true rfl) dX0_step_124 ⟨Nat.zero_le _, Nat.zero_le _⟩ (fun u_9 H locs hp_9 hP hD hS => ?_)
            obtain ⟨u_9a, u_9b, u_9c, u_9d⟩ := u_9
            obtain ⟨e_u_9a, e_u_9b, e_u_9c, e_u_9d⟩ := hp_9
            have e_u_9a : u_9a = nxN (cd (op nx)) (nu nx) nx hg pi := e_u_9a
            subst e_u_9a
            have e_u_9b : u_9b = wkH (cd (op nx)) hg := e_u_9b
            subst e_u_9b
            have e_u_9c : u_9c = piN (cd (op nx)) (nu nx) (ga - ((prN (cd (op nx))) + (spN (pi (hg - 1))))) hg pi va := e_u_9c
            subst e_u_9c
            have e_u_9d : u_9d = if cd (op nx) = 14 then 1 else 0 := e_u_9d
            subst e_u_9d
            have hP : va_P D gCl (wX h r d sz op nu va (ga - ((prN (cd (op nx))) + (spN (pi (hg - 1))))) pl le pr ne ri (nxN (cd (op nx)) (nu nx) nx hg pi) (if cd (op nx) = 14 then 1 else 0) (dn + 1) tk (wkH (cd (op nx)) hg) (piN (cd (op nx)) (nu nx) (ga - ((prN (cd (op nx))) + (spN (pi (hg - 1))))) hg pi va) ke kp) H := hP
            have hD : va_D A (wX h r d sz op nu va (ga - ((prN (cd (op nx))) + (spN (pi (hg - 1))))) pl le pr ne ri (nxN (cd (op nx)) (nu nx) nx hg pi) (if cd (op nx) = 14 then 1 else 0) (dn + 1) tk (wkH (cd (op nx)) hg) (piN (cd (op nx)) (nu nx) (ga - ((prN (cd (op nx))) + (spN (pi (hg - 1))))) hg pi va) ke kp) := hD
            refine lv_goto (tgt := 142) hx hb dX0_step_127 (by decide) ?_
            exact ret _ _ ((if cd (op nx) = 14 then 1 else 0, ga - ((prN (cd (op nx))) + (spN (pi (hg - 1)))), dn + 1, nxN (cd (op nx)) (nu nx) nx hg pi, wkH (cd (op nx)) hg, piN (cd (op nx)) (nu nx) (ga - ((prN (cd (op nx))) + (spN (pi (hg - 1))))) hg pi va, va) : R7) _ _ dX0_step_142 (by rw [stN_go he2]; unfold goN; rw [hc, show wkV (cd (op nx)) (nu nx) hg pi va = va from by unfold wkV; exact if_neg (by omega)]) hP hD hS
        · have he2 : endN sz op ga dn nx hg pi = 4 := by unfold endN; grind
          refine lv_aload_n hx hb dX0_step_88 rfl (lv_at hl 3 rfl) ?_
          refine lv_iconst (v := nI 4) hx hb dX0_step_89 (by decide) ?_
          refine xp_en K hP hD hS dX0_step_90 (fun H locs hP hD hS => ?_)
          exact ret _ _ ((4, ga, dn, nx, hg, pi, va) : R7) _ _ dX0_step_93 (by rw [stN_stop (by rw [he2]; decide), he2]) hP hD hS
    · have he2 : endN sz op ga dn nx hg pi = 3 := by unfold endN; grind
      refine lv_aload_n hx hb dX0_step_45 rfl (lv_at hl 2 rfl) ?_
      refine lv_iconst (v := nI 3) hx hb dX0_step_46 (by decide) ?_
      refine xp_en K hP hD hS dX0_step_47 (fun H locs hP hD hS => ?_)
      exact ret _ _ ((3, ga, dn, nx, hg, pi, va) : R7) _ _ dX0_step_50 (by rw [stN_stop (by rw [he2]; decide), he2]) hP hD hS
set_option maxHeartbeats 4000000 in
set_option maxRecDepth 100000 in
theorem metX_sure (l : Launch) (D : va_G) (d : ClassId) (h : Nat) (r : Nat → Nat) (sz : Nat) (op : vF) (nu : vF) (va : vF) (ga : Nat) (pl : Nat) (le : vF) (pr : vF) (ne : vF) (ri : vF) (nx : Nat) (en : Nat) (dn : Nat) (tk : Nat) (hg : Nat) (pi : vF) (ke : vF) (kp : vF) (j : Nat) (hj : nx + j = sz) (hz : sz ≤ 20) (r1 : le nx = nI (sL op j nx)) (r2 : pr nx = nI (sC op j nx)) (r3 : ne nx = nI (sN op j nx)) (r4 : ri nx = nI (sR op j nx)) (hh : hg ≤ 8) (hga : ga ≤ 1000000) (hd : dn ≤ 300) : MetI l yX0_sure cX0_sure 2 .boolean D d [.ref h] (wX h r d sz op nu va ga pl le pr ne ri nx en dn tk hg pi ke kp) (rmG 0) (fun (a : Int32) (_ : Unit) => a = nI (suN (sL op j nx) (sC op j nx) (sN op j nx) (sR op j nx) ga dn hg)) (fun _ : Unit => wX h r d sz op nu va ga pl le pr ne ri nx en dn tk hg pi ke kp) := by
  refine gm_startI (own := RX0) (by decide +kernel) rfl (Nat.le_of_ble_eq_true rfl) ?_
  intro p e s m below meth c A H locs Q ls K hl hP hD hS ret
  have hx := K.1
  have hb := K.2.1
  have hl : lv_has ls 2 [(0, .ref h)] := hl
  have b1 := sL_le op j nx
  have b2 := sC_le op j nx
  have b3 := sN_le op j nx
  have b4 := sR_le op j nx
  refine lv_aload_n hx hb dX0_sure_0 rfl (lv_at hl 0 rfl) ?_
  refine xg_nx K hP dX0_sure_1 ?_
  refine lv_istore_n (lv' := [(1, .int (nI nx)), (0, .ref h)]) hx hb dX0_sure_4 rfl hl (by decide) rfl (fun ls hl => ?_)
  refine lv_aload_n hx hb dX0_sure_5 rfl (lv_at hl 1 rfl) ?_
  refine xg_le K hP dX0_sure_6 ?_
  refine lv_iload_n hx hb dX0_sure_9 rfl (lv_at hl 0 rfl) ?_
  refine xl_le K hP (by omega) dX0_sure_10 ?_
  refine gi_tp (y := nI (sL op j nx)) r1 ?_
  refine gz_eq (tgt := 43) hx hb dX0_sure_11 (by decide) (by omega) (fun c_11 => ?_) (fun c_11 => ?_)
  · refine lv_iconst (v := nI 0) hx hb dX0_sure_43 (by decide) ?_
    exact ret _ _ (nI 0) () _ _ dX0_sure_44 rfl (show nI 0 = nI (suN (sL op j nx) (sC op j nx) (sN op j nx) (sR op j nx) ga dn hg) from by unfold suN; grind) hP hD hS
  · refine lv_aload_n hx hb dX0_sure_14 rfl (lv_at hl 1 rfl) ?_
    refine xg_hg K hP dX0_sure_15 ?_
    refine lv_aload_n hx hb dX0_sure_18 rfl (lv_at hl 1 rfl) ?_
    refine xg_ne K hP dX0_sure_19 ?_
    refine lv_iload_n hx hb dX0_sure_22 rfl (lv_at hl 0 rfl) ?_
    refine xl_ne K hP (by omega) dX0_sure_23 ?_
    refine gi_tp (y := nI (sN op j nx)) r3 ?_
    refine gb_lt (tgt := 43) hx hb dX0_sure_24 (by decide) (by omega) (by omega) (fun c_24 => ?_) (fun c_24 => ?_)
    · refine lv_iconst (v := nI 0) hx hb dX0_sure_43 (by decide) ?_
      exact ret _ _ (nI 0) () _ _ dX0_sure_44 rfl (show nI 0 = nI (suN (sL op j nx) (sC op j nx) (sN op j nx) (sR op j nx) ga dn hg) from by unfold suN; grind) hP hD hS
    · refine lv_aload_n hx hb dX0_sure_27 rfl (lv_at hl 1 rfl) ?_
      refine xg_hg K hP dX0_sure_28 ?_
      refine lv_aload_n hx hb dX0_sure_31 rfl (lv_at hl 1 rfl) ?_
      refine xg_ri K hP dX0_sure_32 ?_
      refine lv_iload_n hx hb dX0_sure_35 rfl (lv_at hl 0 rfl) ?_
      refine xl_ri K hP (by omega) dX0_sure_36 ?_
      refine gi_tp (y := nI (sR op j nx)) r4 ?_
      refine gi_add hx hb dX0_sure_37 ?_
      refine lv_bipush (v := nI 8) hx hb dX0_sure_38 (by decide) ?_
      refine gb_le (tgt := 45) hx hb dX0_sure_40 (by decide) (by omega) (by omega) (fun c_40 => ?_) (fun c_40 => ?_)
      · refine lv_aload_n hx hb dX0_sure_45 rfl (lv_at hl 1 rfl) ?_
        refine xg_pr K hP dX0_sure_46 ?_
        refine lv_iload_n hx hb dX0_sure_49 rfl (lv_at hl 0 rfl) ?_
        refine xl_pr K hP (by omega) dX0_sure_50 ?_
        refine gi_tp (y := nI (sC op j nx)) r2 ?_
        refine lv_aload_n hx hb dX0_sure_51 rfl (lv_at hl 1 rfl) ?_
        refine xg_ga K hP dX0_sure_52 ?_
        refine gb_gt (tgt := 79) hx hb dX0_sure_55 (by decide) (by omega) (by omega) (fun c_55 => ?_) (fun c_55 => ?_)
        · refine lv_iconst (v := nI 0) hx hb dX0_sure_79 (by decide) ?_
          exact ret _ _ (nI 0) () _ _ dX0_sure_80 rfl (show nI 0 = nI (suN (sL op j nx) (sC op j nx) (sN op j nx) (sR op j nx) ga dn hg) from by unfold suN; grind) hP hD hS
        · refine lv_aload_n hx hb dX0_sure_58 rfl (lv_at hl 1 rfl) ?_
          refine xg_dn K hP dX0_sure_59 ?_
          refine lv_aload_n hx hb dX0_sure_62 rfl (lv_at hl 1 rfl) ?_
          refine xg_le K hP dX0_sure_63 ?_
          refine lv_iload_n hx hb dX0_sure_66 rfl (lv_at hl 0 rfl) ?_
          refine xl_le K hP (by omega) dX0_sure_67 ?_
          refine gi_tp (y := nI (sL op j nx)) r1 ?_
          refine gi_add hx hb dX0_sure_68 ?_
          refine lv_sipush (v := nI 300) hx hb dX0_sure_69 (by decide) ?_
          refine gb_gt (tgt := 79) hx hb dX0_sure_72 (by decide) (by omega) (by omega) (fun c_72 => ?_) (fun c_72 => ?_)
          · refine lv_iconst (v := nI 0) hx hb dX0_sure_79 (by decide) ?_
            exact ret _ _ (nI 0) () _ _ dX0_sure_80 rfl (show nI 0 = nI (suN (sL op j nx) (sC op j nx) (sN op j nx) (sR op j nx) ga dn hg) from by unfold suN; grind) hP hD hS
          · refine lv_iconst (v := nI 1) hx hb dX0_sure_75 (by decide) ?_
            refine lv_goto (tgt := 80) hx hb dX0_sure_76 (by decide) ?_
            exact ret _ _ (nI 1) () _ _ dX0_sure_80 rfl (show nI 1 = nI (suN (sL op j nx) (sC op j nx) (sN op j nx) (sR op j nx) ga dn hg) from by unfold suN; grind) hP hD hS
      · refine lv_iconst (v := nI 0) hx hb dX0_sure_43 (by decide) ?_
        exact ret _ _ (nI 0) () _ _ dX0_sure_44 rfl (show nI 0 = nI (suN (sL op j nx) (sC op j nx) (sN op j nx) (sR op j nx) ga dn hg) from by unfold suN; grind) hP hD hS
set_option maxHeartbeats 4000000 in
set_option maxRecDepth 100000 in
theorem metX_runStretch (l : Launch) (D : va_G) (d : ClassId) (h : Nat) (r : Nat → Nat) (sz : Nat) (op : vF) (nu : vF) (va : vF) (ga : Nat) (pl : Nat) (le : vF) (pr : vF) (ne : vF) (ri : vF) (nx : Nat) (en : Nat) (dn : Nat) (tk : Nat) (hg : Nat) (pi : vF) (ke : vF) (kp : vF) (j : Nat) (hj : nx + j = sz) (hz : sz ≤ 20) (r1 : le nx = nI (sL op j nx)) (r2 : pr nx = nI (sC op j nx)) (r3 : ne nx = nI (sN op j nx)) (r4 : ri nx = nI (sR op j nx)) (hh : hg ≤ 8) (hga : ga ≤ 1000000) (hd : dn ≤ 300) (hp : okP sz op nu) (s1 : sN op j nx ≤ hg) (s2 : hg + sR op j nx ≤ 8) (s3 : sC op j nx ≤ ga) (s4 : dn + sL op j nx ≤ 300) : MetV l yX0_runStretch cX0_runStretch 4 D d [.ref h] (wX h r d sz op nu va ga pl le pr ne ri nx en dn tk hg pi ke kp) (rmG 2) (fun (u : Nat × Nat × Nat × Nat × vF × vF) => u.1 = ga - sC op j nx ∧ u.2.1 = dn + sL op j nx ∧ u.2.2.1 = nx + sL op j nx ∧ u.2.2.2.1 = (wks op nu (sL op j nx) nx (hg, pi, va)).1 ∧ u.2.2.2.2.1 = (wks op nu (sL op j nx) nx (hg, pi, va)).2.1 ∧ u.2.2.2.2.2 = (wks op nu (sL op j nx) nx (hg, pi, va)).2.2) (fun u : Nat × Nat × Nat × Nat × vF × vF => wX h r d sz op nu u.2.2.2.2.2 u.1 pl le pr ne ri u.2.2.1 en u.2.1 tk u.2.2.2.1 u.2.2.2.2.1 ke kp) := by
  refine gm_startV (own := RX0) (by decide +kernel) rfl (Nat.le_of_ble_eq_true rfl) ?_
  intro p e s m below meth c A H locs Q ls K hl hP hD hS ret
  have hx := K.1
  have hb := K.2.1
  have hl : lv_has ls 4 [(0, .ref h)] := hl
  have b1 := sL_le op j nx
  have b2 := sC_le op j nx
  have b3 := sN_le op j nx
  have b4 := sR_le op j nx
  have loop : ∀ (q i : Nat) (x1 : Nat × vF × vF) (H : Heap) (locs : List Loc) (ls : Array Slot), i + q = sz → i + sL op q i = nx + sL op j nx → sN op q i ≤ x1.1 → x1.1 + sR op q i ≤ 8 → wks op nu (sL op q i) i x1 = wks op nu (sL op j nx) nx (hg, pi, va) → lv_has ls 4 [(0, .ref h), (1, .int (nI nx)), (2, .int (nI (sL op j nx))), (3, .int (nI i))] → va_P D gCl (wX h r d sz op nu x1.2.2 (ga - sC op j nx) pl le pr ne ri nx en (dn + sL op j nx) tk x1.1 x1.2.1 ke kp) H → va_D A (wX h r d sz op nu x1.2.2 (ga - sC op j nx) pl le pr ne ri nx en (dn + sL op j nx) tk x1.1 x1.2.1 ke kp) → va_S A s.heap H locs → W p l e (rmG 2) s m ([.ref h] : List Value).toArray below meth c H locs 0 0 Q (F0 m 39 ls []) := by
    intro q
    induction q with
    | zero =>
      intro i x1 H locs ls g1 g2 g3 g4 g5 hl hP hD hS
      have g2 : i + 0 = nx + sL op j nx := g2
      have g5 : x1 = wks op nu (sL op j nx) nx (hg, pi, va) := g5
      refine lv_iload_n hx hb dX0_runStretch_39 rfl (lv_at hl 3 rfl) ?_
      refine lv_iload_n hx hb dX0_runStretch_40 rfl (lv_at hl 1 rfl) ?_
      refine lv_iload_n hx hb dX0_runStretch_41 rfl (lv_at hl 2 rfl) ?_
      refine gi_add hx hb dX0_runStretch_42 ?_
      refine gb_ge (tgt := 57) hx hb dX0_runStretch_43 (by decide) (by omega) (by omega) (fun c_43 => ?_) (fun c_43 => ?_)
      · refine lv_aload_n hx hb dX0_runStretch_57 rfl (lv_at hl 0 rfl) ?_
        refine lv_iload_n hx hb dX0_runStretch_58 rfl (lv_at hl 1 rfl) ?_
        refine lv_iload_n hx hb dX0_runStretch_59 rfl (lv_at hl 2 rfl) ?_
        refine gi_add hx hb dX0_runStretch_60 ?_
        refine xp_nx K hP hD hS dX0_runStretch_61 (fun H locs hP hD hS => ?_)
        exact ret _ _ ((ga - sC op j nx), (dn + sL op j nx), (nx + (sL op j nx)), x1.1, x1.2.1, x1.2.2) _ _ dX0_runStretch_64 ⟨rfl, rfl, rfl, (show x1.1 = _ by rw [← g5]), (show x1.2.1 = _ by rw [← g5]), (show x1.2.2 = _ by rw [← g5])⟩ hP hD hS
      · exfalso; omega
    | succ q ih =>
      intro i x1 H locs ls g1 g2 g3 g4 g5 hl hP hD hS
      by_cases hk : 10 ≤ cd (op i)
      · have e0 : sL op (q + 1) i = 0 := by rw [sL, if_pos hk]
        rw [e0] at g2 g5
        have g5 : x1 = wks op nu (sL op j nx) nx (hg, pi, va) := g5
        refine lv_iload_n hx hb dX0_runStretch_39 rfl (lv_at hl 3 rfl) ?_
        refine lv_iload_n hx hb dX0_runStretch_40 rfl (lv_at hl 1 rfl) ?_
        refine lv_iload_n hx hb dX0_runStretch_41 rfl (lv_at hl 2 rfl) ?_
        refine gi_add hx hb dX0_runStretch_42 ?_
        refine gb_ge (tgt := 57) hx hb dX0_runStretch_43 (by decide) (by omega) (by omega) (fun c_43 => ?_) (fun c_43 => ?_)
        · refine lv_aload_n hx hb dX0_runStretch_57 rfl (lv_at hl 0 rfl) ?_
          refine lv_iload_n hx hb dX0_runStretch_58 rfl (lv_at hl 1 rfl) ?_
          refine lv_iload_n hx hb dX0_runStretch_59 rfl (lv_at hl 2 rfl) ?_
          refine gi_add hx hb dX0_runStretch_60 ?_
          refine xp_nx K hP hD hS dX0_runStretch_61 (fun H locs hP hD hS => ?_)
          exact ret _ _ ((ga - sC op j nx), (dn + sL op j nx), (nx + (sL op j nx)), x1.1, x1.2.1, x1.2.2) _ _ dX0_runStretch_64 ⟨rfl, rfl, rfl, (show x1.1 = _ by rw [← g5]), (show x1.2.1 = _ by rw [← g5]), (show x1.2.2 = _ by rw [← g5])⟩ hP hD hS
        · exfalso; omega
      · have e0 : sL op (q + 1) i = sL op q (i + 1) + 1 := by rw [sL, if_neg hk]
        have e3 : sN op (q + 1) i = max (sN op q (i + 1) + tkN (cd (op i)) - ptN (cd (op i))) (tkN (cd (op i))) := by rw [sN, if_neg hk]
        have e4 : sR op (q + 1) i = max (sR op q (i + 1) + ptN (cd (op i)) - tkN (cd (op i))) (ptN (cd (op i)) - tkN (cd (op i))) := by rw [sR, if_neg hk]
        rw [e0] at g2 g5
        rw [e3] at g3
        rw [e4] at g4
        have hI := (hp.2 i (by omega)).cd
        refine lv_iload_n hx hb dX0_runStretch_39 rfl (lv_at hl 3 rfl) ?_
        refine lv_iload_n hx hb dX0_runStretch_40 rfl (lv_at hl 1 rfl) ?_
        refine lv_iload_n hx hb dX0_runStretch_41 rfl (lv_at hl 2 rfl) ?_
        refine gi_add hx hb dX0_runStretch_42 ?_
        refine gb_ge (tgt := 57) hx hb dX0_runStretch_43 (by decide) (by omega) (by omega) (fun c_43 => ?_) (fun c_43 => ?_)
        · exfalso; omega
        · refine lv_aload_n hx hb dX0_runStretch_46 rfl (lv_at hl 0 rfl) ?_
          refine lv_iload_n hx hb dX0_runStretch_47 rfl (lv_at hl 3 rfl) ?_
          refine gm_callv (As := [.int (nI i)]) (rest := []) (C := RX0) (n := 1) K (metX_work l D d h r sz op nu x1.2.2 (ga - sC op j nx) pl le pr ne ri nx en (dn + sL op j nx) tk x1.1 x1.2.1 ke kp i (by omega) hI.2.1 (by omega) (by omega) (by omega) (by omega) hI.2.2.1) (lw_V q170 q172 qs10 q27 q173) (by decide +kernel) ⟨by decide, by decide⟩ ⟨rfl, rfl⟩ rfl 0 rfl rfl rfl hP hD hS hl rfl (Nat.le_of_ble_eq_true rfl) dX0_runStretch_48 ⟨Nat.zero_le _, Nat.zero_le _⟩ (fun u_1 H locs hp_1 hP hD hS => ?_)
          obtain ⟨u_1a, u_1b, u_1c⟩ := u_1
          obtain ⟨e_u_1a, e_u_1b, e_u_1c⟩ := hp_1
          have e_u_1a : u_1a = wkH (cd (op i)) x1.1 := e_u_1a
          subst e_u_1a
          have e_u_1b : u_1b = wkP (cd (op i)) (nu i) x1.1 x1.2.1 x1.2.2 := e_u_1b
          subst e_u_1b
          have e_u_1c : u_1c = wkV (cd (op i)) (nu i) x1.1 x1.2.1 x1.2.2 := e_u_1c
          subst e_u_1c
          have hP : va_P D gCl (wX h r d sz op nu (wkV (cd (op i)) (nu i) x1.1 x1.2.1 x1.2.2) (ga - sC op j nx) pl le pr ne ri nx en (dn + sL op j nx) tk (wkH (cd (op i)) x1.1) (wkP (cd (op i)) (nu i) x1.1 x1.2.1 x1.2.2) ke kp) H := hP
          have hD : va_D A (wX h r d sz op nu (wkV (cd (op i)) (nu i) x1.1 x1.2.1 x1.2.2) (ga - sC op j nx) pl le pr ne ri nx en (dn + sL op j nx) tk (wkH (cd (op i)) x1.1) (wkP (cd (op i)) (nu i) x1.1 x1.2.1 x1.2.2) ke kp) := hD
          refine lv_iinc (v := nI (i + 1)) (lv' := [(3, .int (nI (i + 1))), (0, .ref h), (1, .int (nI nx)), (2, .int (nI (sL op j nx)))]) hx hb dX0_runStretch_51 hl (k := 3) rfl (nI_1 i) (by decide) rfl (fun ls hl => ?_)
          refine lv_goto (tgt := 39) hx hb dX0_runStretch_54 (by decide) ?_
          exact ih (i + 1) (wkH (cd (op i)) x1.1, wkP (cd (op i)) (nu i) x1.1 x1.2.1 x1.2.2, wkV (cd (op i)) (nu i) x1.1 x1.2.1 x1.2.2) _ _ _ (by omega) (by omega) (by unfold wkH; omega) (by unfold wkH; omega) g5 (lv_sub hl [1, 2, 3, 0] rfl) hP hD hS
  refine lv_aload_n hx hb dX0_runStretch_0 rfl (lv_at hl 0 rfl) ?_
  refine xg_nx K hP dX0_runStretch_1 ?_
  refine lv_istore_n (lv' := [(1, .int (nI nx)), (0, .ref h)]) hx hb dX0_runStretch_4 rfl hl (by decide) rfl (fun ls hl => ?_)
  refine lv_aload_n hx hb dX0_runStretch_5 rfl (lv_at hl 1 rfl) ?_
  refine xg_le K hP dX0_runStretch_6 ?_
  refine lv_iload_n hx hb dX0_runStretch_9 rfl (lv_at hl 0 rfl) ?_
  refine xl_le K hP (by omega) dX0_runStretch_10 ?_
  refine gi_tp (y := nI (sL op j nx)) r1 ?_
  refine lv_istore_n (lv' := [(2, .int (nI (sL op j nx))), (1, .int (nI nx)), (0, .ref h)]) hx hb dX0_runStretch_11 rfl hl (by decide) rfl (fun ls hl => ?_)
  refine lv_aload_n hx hb dX0_runStretch_12 rfl (lv_at hl 2 rfl) ?_
  refine lv_aload_n hx hb dX0_runStretch_13 rfl (lv_at hl 2 rfl) ?_
  refine xg_ga K hP dX0_runStretch_14 ?_
  refine lv_aload_n hx hb dX0_runStretch_17 rfl (lv_at hl 2 rfl) ?_
  refine xg_pr K hP dX0_runStretch_18 ?_
  refine lv_iload_n hx hb dX0_runStretch_21 rfl (lv_at hl 1 rfl) ?_
  refine xl_pr K hP (by omega) dX0_runStretch_22 ?_
  refine gi_tp (y := nI (sC op j nx)) r2 ?_
  refine gi_sub hx hb (by omega) dX0_runStretch_23 ?_
  refine xp_ga K hP hD hS dX0_runStretch_24 (fun H locs hP hD hS => ?_)
  refine lv_aload_n hx hb dX0_runStretch_27 rfl (lv_at hl 2 rfl) ?_
  refine lv_aload_n hx hb dX0_runStretch_28 rfl (lv_at hl 2 rfl) ?_
  refine xg_dn K hP dX0_runStretch_29 ?_
  refine lv_iload_n hx hb dX0_runStretch_32 rfl (lv_at hl 0 rfl) ?_
  refine gi_add hx hb dX0_runStretch_33 ?_
  refine xp_dn K hP hD hS dX0_runStretch_34 (fun H locs hP hD hS => ?_)
  refine lv_iload_n hx hb dX0_runStretch_37 rfl (lv_at hl 1 rfl) ?_
  refine lv_istore_n (lv' := [(3, .int (nI nx)), (2, .int (nI (sL op j nx))), (1, .int (nI nx)), (0, .ref h)]) hx hb dX0_runStretch_38 rfl hl (by decide) rfl (fun ls hl => ?_)
  exact loop j nx (hg, pi, va) _ _ _ hj rfl s1 s2 rfl (lv_sub hl [3, 2, 1, 0] rfl) hP hD hS
end
section
set_option maxRecDepth 100000
theorem okQ_step {t n : Nat} {op le pr ne ri : vF} (g : okQ (t + 1) n op le pr ne ri) (ht : t < n) : okQ t n op (upd le t (nI (sL op (n - (t + 1) + 1) t))) (upd pr t (nI (sC op (n - (t + 1) + 1) t))) (upd ne t (nI (sN op (n - (t + 1) + 1) t))) (upd ri t (nI (sR op (n - (t + 1) + 1) t))) := by
  intro i j h1 h2
  by_cases hi : i = t
  · subst hi
    rw [pk_us, pk_us, pk_us, pk_us, show n - (i + 1) + 1 = j by omega]
    exact ⟨rfl, rfl, rfl, rfl⟩
  · rw [pk_un hi, pk_un hi, pk_un hi, pk_un hi]
    exact g i j (by omega) h2
theorem okQ_top {n : Nat} {op le pr ne ri : vF} : okQ n n op (upd le n (nI 0)) (upd pr n (nI 0)) (upd ne n (nI 0)) (upd ri n (nI 0)) := by
  intro i j h1 h2
  obtain rfl : j = 0 := by omega
  obtain rfl : i = n := by omega
  rw [pk_us, pk_us, pk_us, pk_us]
  exact ⟨rfl, rfl, rfl, rfl⟩
theorem nI_down (t : Nat) : nI (t + 1) - nI 1 = nI t := by
  rw [pk_sub (by omega), Nat.add_sub_cancel]
theorem wks_le {op nu : vF} : ∀ (j i : Nat) (x : Nat × vF × vF), sN op j i ≤ x.1 → x.1 + sR op j i ≤ 8 → (wks op nu (sL op j i) i x).1 ≤ 8 := by
  intro j
  induction j with
  | zero => intro i x h1 h2; exact Nat.le_trans (Nat.le_add_right _ _) h2
  | succ j ih =>
    intro i x h1 h2
    by_cases hk : 10 ≤ cd (op i)
    · rw [sL, if_pos hk]
      exact Nat.le_trans (Nat.le_add_right _ _) h2
    · rw [sL, if_neg hk]
      rw [sN, if_neg hk] at h1
      rw [sR, if_neg hk] at h2
      exact ih (i + 1) _ (by unfold wkH; omega) (by unfold wkH; omega)
set_option maxHeartbeats 4000000 in
set_option maxRecDepth 100000 in
theorem metX_planAt (l : Launch) (D : va_G) (d : ClassId) (h : Nat) (r : Nat → Nat) (sz : Nat) (op : vF) (nu : vF) (va : vF) (ga : Nat) (pl : Nat) (le : vF) (pr : vF) (ne : vF) (ri : vF) (nx : Nat) (en : Nat) (dn : Nat) (tk : Nat) (hg : Nat) (pi : vF) (ke : vF) (kp : vF) (i : Nat) (j : Nat) (hij : i + (j + 1) = sz) (hz : sz ≤ 20) (hk : op i = nI (cd (op i))) (hk14 : cd (op i) ≤ 14) (r1 : le (i + 1) = nI (sL op j (i + 1))) (r2 : pr (i + 1) = nI (sC op j (i + 1))) (r3 : ne (i + 1) = nI (sN op j (i + 1))) (r4 : ri (i + 1) = nI (sR op j (i + 1))) : MetV l yX0_planAt cX0_planAt 8 D d [.ref h, .int (nI i)] (wX h r d sz op nu va ga pl le pr ne ri nx en dn tk hg pi ke kp) (rmG 1) (fun (u : vF × vF × vF × vF) => u.1 = upd le i (nI (sL op (j + 1) i)) ∧ u.2.1 = upd pr i (nI (sC op (j + 1) i)) ∧ u.2.2.1 = upd ne i (nI (sN op (j + 1) i)) ∧ u.2.2.2 = upd ri i (nI (sR op (j + 1) i))) (fun u : vF × vF × vF × vF => wX h r d sz op nu va ga pl u.1 u.2.1 u.2.2.1 u.2.2.2 nx en dn tk hg pi ke kp) := by
  refine gm_startV (own := RX0) (by decide +kernel) rfl (Nat.le_of_ble_eq_true rfl) ?_
  intro p e s m below meth c A H locs Q ls K hl hP hD hS ret
  have hx := K.1
  have hb := K.2.1
  have hl : lv_has ls 8 [(0, .ref h), (1, .int (nI i))] := hl
  have b1 := sL_le op j (i + 1)
  have b2 := sC_le op j (i + 1)
  have b3 := sN_le op j (i + 1)
  have b4 := sR_le op j (i + 1)
  have b5 := tkN_le (cd (op i))
  have b6 := ptN_le (cd (op i))
  refine lv_aload_n hx hb dX0_planAt_0 rfl (lv_at hl 0 rfl) ?_
  refine xg_op K hP dX0_planAt_1 ?_
  refine lv_iload_n hx hb dX0_planAt_4 rfl (lv_at hl 1 rfl) ?_
  refine xl_op K hP (by omega) dX0_planAt_5 ?_
  refine gi_tp (y := nI (cd (op i))) hk ?_
  refine lv_istore_n (lv' := [(2, .int (nI (cd (op i)))), (0, .ref h), (1, .int (nI i))]) hx hb dX0_planAt_6 rfl hl (by decide) rfl (fun ls hl => ?_)
  refine lv_aload_n hx hb dX0_planAt_7 rfl (lv_at hl 1 rfl) ?_
  refine lv_iload_n hx hb dX0_planAt_8 rfl (lv_at hl 0 rfl) ?_
  refine gm_calli (As := [.int (nI (cd (op i)))]) (rest := []) (C := RX0) (n := 1) K (metX_breaks l D d h r sz op nu va ga pl le pr ne ri nx en dn tk hg pi ke kp (cd (op i)) hk14) (lw_V q146 q148 qs4 q27 q149) (by decide +kernel) ⟨by decide, by decide⟩ ⟨rfl, rfl⟩ rfl 0 rfl rfl rfl hP hD hS hl rfl (Nat.le_of_ble_eq_true rfl) dX0_planAt_9 ⟨Nat.zero_le _, Nat.zero_le _⟩ (fun a_1 u_1 H locs hp_1 hP hD hS => ?_)
  have ea_1 := hp_1
  have ea_1 : a_1 = nI (brN (cd (op i))) := ea_1
  subst ea_1
  refine gz_eq (tgt := 44) hx hb dX0_planAt_12 (by decide) (brN_lt _) (fun c_12 => ?_) (fun c_12 => ?_)
  · have hbr : ¬ 10 ≤ cd (op i) := by unfold brN at c_12; grind
    refine lv_aload_n hx hb dX0_planAt_44 rfl (lv_at hl 1 rfl) ?_
    refine lv_iload_n hx hb dX0_planAt_45 rfl (lv_at hl 0 rfl) ?_
    refine gm_calli (As := [.int (nI (cd (op i)))]) (rest := []) (C := RX0) (n := 1) K (metX_puts l D d h r sz op nu va ga pl le pr ne ri nx en dn tk hg pi ke kp (cd (op i)) hk14) (lw_V q150 q152 qs5 q27 q153) (by decide +kernel) ⟨by decide, by decide⟩ ⟨rfl, rfl⟩ rfl 0 rfl rfl rfl hP hD hS hl rfl (Nat.le_of_ble_eq_true rfl) dX0_planAt_46 ⟨Nat.zero_le _, Nat.zero_le _⟩ (fun a_2 u_2 H locs hp_2 hP hD hS => ?_)
    have ea_2 := hp_2
    have ea_2 : a_2 = nI (ptN (cd (op i))) := ea_2
    subst ea_2
    refine lv_aload_n hx hb dX0_planAt_49 rfl (lv_at hl 1 rfl) ?_
    refine lv_iload_n hx hb dX0_planAt_50 rfl (lv_at hl 0 rfl) ?_
    refine gm_calli (As := [.int (nI (cd (op i)))]) (rest := [.int (nI (ptN (cd (op i))))]) (C := RX0) (n := 1) K (metX_takes l D d h r sz op nu va ga pl le pr ne ri nx en dn tk hg pi ke kp (cd (op i)) hk14) (lw_V q154 q156 qs6 q27 q157) (by decide +kernel) ⟨by decide, by decide⟩ ⟨rfl, rfl⟩ rfl 0 rfl rfl rfl hP hD hS hl rfl (Nat.le_of_ble_eq_true rfl) dX0_planAt_51 ⟨Nat.zero_le _, Nat.zero_le _⟩ (fun a_3 u_3 H locs hp_3 hP hD hS => ?_)
    have ea_3 := hp_3
    have ea_3 : a_3 = nI (tkN (cd (op i))) := ea_3
    subst ea_3
    refine lv_isub hx hb dX0_planAt_54 ?_
    refine lv_istore_n (lv' := [(3, .int ((nI (ptN (cd (op i)))) - (nI (tkN (cd (op i)))))), (2, .int (nI (cd (op i)))), (0, .ref h), (1, .int (nI i))]) hx hb dX0_planAt_55 rfl hl (by decide) rfl (fun ls hl => ?_)
    refine lv_aload_n hx hb dX0_planAt_56 rfl (lv_at hl 2 rfl) ?_
    refine xg_le K hP dX0_planAt_57 ?_
    refine lv_iload_n hx hb dX0_planAt_60 rfl (lv_at hl 3 rfl) ?_
    refine lv_aload_n hx hb dX0_planAt_61 rfl (lv_at hl 2 rfl) ?_
    refine xg_le K hP dX0_planAt_62 ?_
    refine lv_iload_n hx hb dX0_planAt_65 rfl (lv_at hl 3 rfl) ?_
    refine lv_iconst (v := nI 1) hx hb dX0_planAt_66 (by decide) ?_
    refine gi_add hx hb dX0_planAt_67 ?_
    refine xl_le K hP (by omega) dX0_planAt_68 ?_
    refine gi_tp (y := nI (sL op j (i + 1))) r1 ?_
    refine lv_iconst (v := nI 1) hx hb dX0_planAt_69 (by decide) ?_
    refine gi_add hx hb dX0_planAt_70 ?_
    refine xs_le K hP hD hS (by omega) dX0_planAt_71 (fun H locs hP hD hS => ?_)
    refine lv_aload_n hx hb dX0_planAt_72 rfl (lv_at hl 2 rfl) ?_
    refine xg_pr K hP dX0_planAt_73 ?_
    refine lv_iload_n hx hb dX0_planAt_76 rfl (lv_at hl 3 rfl) ?_
    refine lv_aload_n hx hb dX0_planAt_77 rfl (lv_at hl 2 rfl) ?_
    refine xg_pr K hP dX0_planAt_78 ?_
    refine lv_iload_n hx hb dX0_planAt_81 rfl (lv_at hl 3 rfl) ?_
    refine lv_iconst (v := nI 1) hx hb dX0_planAt_82 (by decide) ?_
    refine gi_add hx hb dX0_planAt_83 ?_
    refine xl_pr K hP (by omega) dX0_planAt_84 ?_
    refine gi_tp (y := nI (sC op j (i + 1))) r2 ?_
    refine lv_aload_n hx hb dX0_planAt_85 rfl (lv_at hl 2 rfl) ?_
    refine lv_iload_n hx hb dX0_planAt_86 rfl (lv_at hl 1 rfl) ?_
    refine gm_calli (As := [.int (nI (cd (op i)))]) (rest := [.int (nI (sC op j (i + 1))), .int (nI i), .ref (r 7)]) (C := RX0) (n := 1) K (metX_priceOf l D d h r sz op nu va ga pl (upd le i (nI ((sL op j (i + 1)) + 1))) pr ne ri nx en dn tk hg pi ke kp (cd (op i)) hk14) (lw_V q158 q160 qs7 q27 q161) (by decide +kernel) ⟨by decide, by decide⟩ ⟨rfl, rfl⟩ rfl 0 rfl rfl rfl hP hD hS hl rfl (Nat.le_of_ble_eq_true rfl) dX0_planAt_87 ⟨Nat.zero_le _, Nat.zero_le _⟩ (fun a_4 u_4 H locs hp_4 hP hD hS => ?_)
    have ea_4 := hp_4
    have ea_4 : a_4 = nI (prN (cd (op i))) := ea_4
    subst ea_4
    refine gi_add hx hb dX0_planAt_90 ?_
    refine xs_pr K hP hD hS (by omega) dX0_planAt_91 (fun H locs hP hD hS => ?_)
    refine lv_aload_n hx hb dX0_planAt_92 rfl (lv_at hl 2 rfl) ?_
    refine xg_ne K hP dX0_planAt_93 ?_
    refine lv_iload_n hx hb dX0_planAt_96 rfl (lv_at hl 3 rfl) ?_
    refine lv_iconst (v := nI 1) hx hb dX0_planAt_97 (by decide) ?_
    refine gi_add hx hb dX0_planAt_98 ?_
    refine xl_ne K hP (by omega) dX0_planAt_99 ?_
    refine gi_tp (y := nI (sN op j (i + 1))) r3 ?_
    refine lv_iload_n hx hb dX0_planAt_100 rfl (lv_at hl 0 rfl) ?_
    refine lv_isub hx hb dX0_planAt_101 ?_
    refine gi_tp (y := nI (sN op j (i + 1) + tkN (cd (op i))) - nI (ptN (cd (op i)))) (sub_ch _ _ _) ?_
    refine lv_istore (lv' := [(4, .int (nI (sN op j (i + 1) + tkN (cd (op i))) - nI (ptN (cd (op i))))), (3, .int ((nI (ptN (cd (op i)))) - (nI (tkN (cd (op i)))))), (2, .int (nI (cd (op i)))), (0, .ref h), (1, .int (nI i))]) hx hb dX0_planAt_102 hl (by decide) rfl (fun ls hl => ?_)
    refine lv_aload_n hx hb dX0_planAt_104 rfl (lv_at hl 3 rfl) ?_
    refine lv_iload_n hx hb dX0_planAt_105 rfl (lv_at hl 2 rfl) ?_
    refine gm_calli (As := [.int (nI (cd (op i)))]) (rest := []) (C := RX0) (n := 1) K (metX_takes l D d h r sz op nu va ga pl (upd le i (nI ((sL op j (i + 1)) + 1))) (upd pr i (nI ((sC op j (i + 1)) + (prN (cd (op i)))))) ne ri nx en dn tk hg pi ke kp (cd (op i)) hk14) (lw_V q154 q156 qs6 q27 q157) (by decide +kernel) ⟨by decide, by decide⟩ ⟨rfl, rfl⟩ rfl 0 rfl rfl rfl hP hD hS hl rfl (Nat.le_of_ble_eq_true rfl) dX0_planAt_106 ⟨Nat.zero_le _, Nat.zero_le _⟩ (fun a_5 u_5 H locs hp_5 hP hD hS => ?_)
    have ea_5 := hp_5
    have ea_5 : a_5 = nI (tkN (cd (op i))) := ea_5
    subst ea_5
    refine lv_istore (lv' := [(5, .int (nI (tkN (cd (op i))))), (4, .int (nI (sN op j (i + 1) + tkN (cd (op i))) - nI (ptN (cd (op i))))), (3, .int ((nI (ptN (cd (op i)))) - (nI (tkN (cd (op i)))))), (2, .int (nI (cd (op i)))), (0, .ref h), (1, .int (nI i))]) hx hb dX0_planAt_109 hl (by decide) rfl (fun ls hl => ?_)
    refine lv_aload_n hx hb dX0_planAt_111 rfl (lv_at hl 4 rfl) ?_
    refine xg_ne K hP dX0_planAt_112 ?_
    refine lv_iload_n hx hb dX0_planAt_115 rfl (lv_at hl 5 rfl) ?_
    refine lv_iload hx hb dX0_planAt_116 (lv_at hl 1 rfl) ?_
    refine lv_iload hx hb dX0_planAt_118 (lv_at hl 0 rfl) ?_
    refine lv_icmp_le (tgt := 128) hx hb dX0_planAt_120 (by decide) (fun c_120 => ?_) (fun c_120 => ?_)
    · have z1 := (le_sub (by omega) (by omega) (by omega)).mp c_120
      refine lv_iload hx hb dX0_planAt_128 (lv_at hl 0 rfl) ?_
      refine xs_ne K hP hD hS (by omega) dX0_planAt_130 (fun H locs hP hD hS => ?_)
      refine lv_aload_n hx hb dX0_planAt_131 rfl (lv_at hl 4 rfl) ?_
      refine xg_ri K hP dX0_planAt_132 ?_
      refine lv_iload_n hx hb dX0_planAt_135 rfl (lv_at hl 5 rfl) ?_
      refine lv_iconst (v := nI 1) hx hb dX0_planAt_136 (by decide) ?_
      refine gi_add hx hb dX0_planAt_137 ?_
      refine xl_ri K hP (by omega) dX0_planAt_138 ?_
      refine gi_tp (y := nI (sR op j (i + 1))) r4 ?_
      refine lv_iload_n hx hb dX0_planAt_139 rfl (lv_at hl 2 rfl) ?_
      refine lv_iadd hx hb dX0_planAt_140 ?_
      refine gi_tp (y := nI (sR op j (i + 1) + ptN (cd (op i))) - nI (tkN (cd (op i)))) (add_ch _ _ _) ?_
      refine lv_istore (lv' := [(6, .int (nI (sR op j (i + 1) + ptN (cd (op i))) - nI (tkN (cd (op i))))), (5, .int (nI (tkN (cd (op i))))), (4, .int (nI (sN op j (i + 1) + tkN (cd (op i))) - nI (ptN (cd (op i))))), (3, .int ((nI (ptN (cd (op i)))) - (nI (tkN (cd (op i)))))), (2, .int (nI (cd (op i)))), (0, .ref h), (1, .int (nI i))]) hx hb dX0_planAt_141 hl (by decide) rfl (fun ls hl => ?_)
      refine lv_iload_n hx hb dX0_planAt_143 rfl (lv_at hl 3 rfl) ?_
      refine lv_if_le (tgt := 151) hx hb dX0_planAt_144 (by decide) (fun c_144 => ?_) (fun c_144 => ?_)
      · have z2 := (le_sub0 (by omega) (by omega)).mp c_144
        refine lv_iconst (v := nI 0) hx hb dX0_planAt_151 (by decide) ?_
        refine gi_tp (y := nI (ptN (cd (op i)) - tkN (cd (op i)))) (by rw [show ptN (cd (op i)) - tkN (cd (op i)) = 0 by omega]) ?_
        refine lv_istore (lv' := [(7, .int (nI (ptN (cd (op i)) - tkN (cd (op i))))), (6, .int (nI (sR op j (i + 1) + ptN (cd (op i))) - nI (tkN (cd (op i))))), (5, .int (nI (tkN (cd (op i))))), (4, .int (nI (sN op j (i + 1) + tkN (cd (op i))) - nI (ptN (cd (op i))))), (3, .int ((nI (ptN (cd (op i)))) - (nI (tkN (cd (op i)))))), (2, .int (nI (cd (op i)))), (0, .ref h), (1, .int (nI i))]) hx hb dX0_planAt_152 hl (by decide) rfl (fun ls hl => ?_)
        refine lv_aload_n hx hb dX0_planAt_154 rfl (lv_at hl 6 rfl) ?_
        refine xg_ri K hP dX0_planAt_155 ?_
        refine lv_iload_n hx hb dX0_planAt_158 rfl (lv_at hl 7 rfl) ?_
        refine lv_iload hx hb dX0_planAt_159 (lv_at hl 1 rfl) ?_
        refine lv_iload hx hb dX0_planAt_161 (lv_at hl 0 rfl) ?_
        refine lv_icmp_le (tgt := 171) hx hb dX0_planAt_163 (by decide) (fun c_163 => ?_) (fun c_163 => ?_)
        · have z3 := (le_sub (by omega) (by omega) (by omega)).mp c_163
          refine lv_iload hx hb dX0_planAt_171 (lv_at hl 0 rfl) ?_
          refine xs_ri K hP hD hS (by omega) dX0_planAt_173 (fun H locs hP hD hS => ?_)
          exact ret _ _ (upd le i (nI ((sL op j (i + 1)) + 1)), upd pr i (nI ((sC op j (i + 1)) + (prN (cd (op i))))), upd ne i (nI (tkN (cd (op i)))), upd ri i (nI (ptN (cd (op i)) - tkN (cd (op i))))) _ _ dX0_planAt_174 ⟨(show upd le i (nI ((sL op j (i + 1)) + 1)) = upd le i (nI (sL op (j + 1) i)) from by rw [sL, if_neg hbr]), (show upd pr i (nI ((sC op j (i + 1)) + (prN (cd (op i))))) = upd pr i (nI (sC op (j + 1) i)) from by rw [sC, if_neg hbr]), (show upd ne i (nI (tkN (cd (op i)))) = upd ne i (nI (sN op (j + 1) i)) from by (try rw [pk_sub (by omega)]); congr 2; rw [sN, if_neg hbr]; omega), (show upd ri i (nI (ptN (cd (op i)) - tkN (cd (op i)))) = upd ri i (nI (sR op (j + 1) i)) from by (try rw [pk_sub (by omega)]); congr 2; rw [sR, if_neg hbr]; omega)⟩ hP hD hS
        · have z3 : ¬ sR op j (i + 1) + ptN (cd (op i)) ≤ ptN (cd (op i)) - tkN (cd (op i)) + tkN (cd (op i)) := fun q => c_163 ((le_sub (by omega) (by omega) (by omega)).mpr q)
          refine lv_iload hx hb dX0_planAt_166 (lv_at hl 1 rfl) ?_
          refine lv_goto (tgt := 173) hx hb dX0_planAt_168 (by decide) ?_
          refine xs_ri K hP hD hS (by omega) dX0_planAt_173 (fun H locs hP hD hS => ?_)
          exact ret _ _ (upd le i (nI ((sL op j (i + 1)) + 1)), upd pr i (nI ((sC op j (i + 1)) + (prN (cd (op i))))), upd ne i (nI (tkN (cd (op i)))), upd ri i (nI (sR op j (i + 1) + ptN (cd (op i))) - nI (tkN (cd (op i))))) _ _ dX0_planAt_174 ⟨(show upd le i (nI ((sL op j (i + 1)) + 1)) = upd le i (nI (sL op (j + 1) i)) from by rw [sL, if_neg hbr]), (show upd pr i (nI ((sC op j (i + 1)) + (prN (cd (op i))))) = upd pr i (nI (sC op (j + 1) i)) from by rw [sC, if_neg hbr]), (show upd ne i (nI (tkN (cd (op i)))) = upd ne i (nI (sN op (j + 1) i)) from by (try rw [pk_sub (by omega)]); congr 2; rw [sN, if_neg hbr]; omega), (show upd ri i (nI (sR op j (i + 1) + ptN (cd (op i))) - nI (tkN (cd (op i)))) = upd ri i (nI (sR op (j + 1) i)) from by (try rw [pk_sub (by omega)]); congr 2; rw [sR, if_neg hbr]; omega)⟩ hP hD hS
      · have z2 : ¬ ptN (cd (op i)) ≤ tkN (cd (op i)) := fun q => c_144 ((le_sub0 (by omega) (by omega)).mpr q)
        refine lv_iload_n hx hb dX0_planAt_147 rfl (lv_at hl 3 rfl) ?_
        refine gi_tp (y := nI (ptN (cd (op i)) - tkN (cd (op i)))) (pk_sub (by omega)) ?_
        refine lv_goto (tgt := 152) hx hb dX0_planAt_148 (by decide) ?_
        refine lv_istore (lv' := [(7, .int (nI (ptN (cd (op i)) - tkN (cd (op i))))), (6, .int (nI (sR op j (i + 1) + ptN (cd (op i))) - nI (tkN (cd (op i))))), (5, .int (nI (tkN (cd (op i))))), (4, .int (nI (sN op j (i + 1) + tkN (cd (op i))) - nI (ptN (cd (op i))))), (3, .int ((nI (ptN (cd (op i)))) - (nI (tkN (cd (op i)))))), (2, .int (nI (cd (op i)))), (0, .ref h), (1, .int (nI i))]) hx hb dX0_planAt_152 hl (by decide) rfl (fun ls hl => ?_)
        refine lv_aload_n hx hb dX0_planAt_154 rfl (lv_at hl 6 rfl) ?_
        refine xg_ri K hP dX0_planAt_155 ?_
        refine lv_iload_n hx hb dX0_planAt_158 rfl (lv_at hl 7 rfl) ?_
        refine lv_iload hx hb dX0_planAt_159 (lv_at hl 1 rfl) ?_
        refine lv_iload hx hb dX0_planAt_161 (lv_at hl 0 rfl) ?_
        refine lv_icmp_le (tgt := 171) hx hb dX0_planAt_163 (by decide) (fun c_163 => ?_) (fun c_163 => ?_)
        · have z3 := (le_sub (by omega) (by omega) (by omega)).mp c_163
          refine lv_iload hx hb dX0_planAt_171 (lv_at hl 0 rfl) ?_
          refine xs_ri K hP hD hS (by omega) dX0_planAt_173 (fun H locs hP hD hS => ?_)
          exact ret _ _ (upd le i (nI ((sL op j (i + 1)) + 1)), upd pr i (nI ((sC op j (i + 1)) + (prN (cd (op i))))), upd ne i (nI (tkN (cd (op i)))), upd ri i (nI (ptN (cd (op i)) - tkN (cd (op i))))) _ _ dX0_planAt_174 ⟨(show upd le i (nI ((sL op j (i + 1)) + 1)) = upd le i (nI (sL op (j + 1) i)) from by rw [sL, if_neg hbr]), (show upd pr i (nI ((sC op j (i + 1)) + (prN (cd (op i))))) = upd pr i (nI (sC op (j + 1) i)) from by rw [sC, if_neg hbr]), (show upd ne i (nI (tkN (cd (op i)))) = upd ne i (nI (sN op (j + 1) i)) from by (try rw [pk_sub (by omega)]); congr 2; rw [sN, if_neg hbr]; omega), (show upd ri i (nI (ptN (cd (op i)) - tkN (cd (op i)))) = upd ri i (nI (sR op (j + 1) i)) from by (try rw [pk_sub (by omega)]); congr 2; rw [sR, if_neg hbr]; omega)⟩ hP hD hS
        · have z3 : ¬ sR op j (i + 1) + ptN (cd (op i)) ≤ ptN (cd (op i)) - tkN (cd (op i)) + tkN (cd (op i)) := fun q => c_163 ((le_sub (by omega) (by omega) (by omega)).mpr q)
          refine lv_iload hx hb dX0_planAt_166 (lv_at hl 1 rfl) ?_
          refine lv_goto (tgt := 173) hx hb dX0_planAt_168 (by decide) ?_
          refine xs_ri K hP hD hS (by omega) dX0_planAt_173 (fun H locs hP hD hS => ?_)
          exact ret _ _ (upd le i (nI ((sL op j (i + 1)) + 1)), upd pr i (nI ((sC op j (i + 1)) + (prN (cd (op i))))), upd ne i (nI (tkN (cd (op i)))), upd ri i (nI (sR op j (i + 1) + ptN (cd (op i))) - nI (tkN (cd (op i))))) _ _ dX0_planAt_174 ⟨(show upd le i (nI ((sL op j (i + 1)) + 1)) = upd le i (nI (sL op (j + 1) i)) from by rw [sL, if_neg hbr]), (show upd pr i (nI ((sC op j (i + 1)) + (prN (cd (op i))))) = upd pr i (nI (sC op (j + 1) i)) from by rw [sC, if_neg hbr]), (show upd ne i (nI (tkN (cd (op i)))) = upd ne i (nI (sN op (j + 1) i)) from by (try rw [pk_sub (by omega)]); congr 2; rw [sN, if_neg hbr]; omega), (show upd ri i (nI (sR op j (i + 1) + ptN (cd (op i))) - nI (tkN (cd (op i)))) = upd ri i (nI (sR op (j + 1) i)) from by (try rw [pk_sub (by omega)]); congr 2; rw [sR, if_neg hbr]; omega)⟩ hP hD hS
    · have z1 : ¬ sN op j (i + 1) + tkN (cd (op i)) ≤ tkN (cd (op i)) + ptN (cd (op i)) := fun q => c_120 ((le_sub (by omega) (by omega) (by omega)).mpr q)
      refine lv_iload hx hb dX0_planAt_123 (lv_at hl 1 rfl) ?_
      refine lv_goto (tgt := 130) hx hb dX0_planAt_125 (by decide) ?_
      refine xs_ne K hP hD hS (by omega) dX0_planAt_130 (fun H locs hP hD hS => ?_)
      refine lv_aload_n hx hb dX0_planAt_131 rfl (lv_at hl 4 rfl) ?_
      refine xg_ri K hP dX0_planAt_132 ?_
      refine lv_iload_n hx hb dX0_planAt_135 rfl (lv_at hl 5 rfl) ?_
      refine lv_iconst (v := nI 1) hx hb dX0_planAt_136 (by decide) ?_
      refine gi_add hx hb dX0_planAt_137 ?_
      refine xl_ri K hP (by omega) dX0_planAt_138 ?_
      refine gi_tp (y := nI (sR op j (i + 1))) r4 ?_
      refine lv_iload_n hx hb dX0_planAt_139 rfl (lv_at hl 2 rfl) ?_
      refine lv_iadd hx hb dX0_planAt_140 ?_
      refine gi_tp (y := nI (sR op j (i + 1) + ptN (cd (op i))) - nI (tkN (cd (op i)))) (add_ch _ _ _) ?_
      refine lv_istore (lv' := [(6, .int (nI (sR op j (i + 1) + ptN (cd (op i))) - nI (tkN (cd (op i))))), (5, .int (nI (tkN (cd (op i))))), (4, .int (nI (sN op j (i + 1) + tkN (cd (op i))) - nI (ptN (cd (op i))))), (3, .int ((nI (ptN (cd (op i)))) - (nI (tkN (cd (op i)))))), (2, .int (nI (cd (op i)))), (0, .ref h), (1, .int (nI i))]) hx hb dX0_planAt_141 hl (by decide) rfl (fun ls hl => ?_)
      refine lv_iload_n hx hb dX0_planAt_143 rfl (lv_at hl 3 rfl) ?_
      refine lv_if_le (tgt := 151) hx hb dX0_planAt_144 (by decide) (fun c_144 => ?_) (fun c_144 => ?_)
      · have z2 := (le_sub0 (by omega) (by omega)).mp c_144
        refine lv_iconst (v := nI 0) hx hb dX0_planAt_151 (by decide) ?_
        refine gi_tp (y := nI (ptN (cd (op i)) - tkN (cd (op i)))) (by rw [show ptN (cd (op i)) - tkN (cd (op i)) = 0 by omega]) ?_
        refine lv_istore (lv' := [(7, .int (nI (ptN (cd (op i)) - tkN (cd (op i))))), (6, .int (nI (sR op j (i + 1) + ptN (cd (op i))) - nI (tkN (cd (op i))))), (5, .int (nI (tkN (cd (op i))))), (4, .int (nI (sN op j (i + 1) + tkN (cd (op i))) - nI (ptN (cd (op i))))), (3, .int ((nI (ptN (cd (op i)))) - (nI (tkN (cd (op i)))))), (2, .int (nI (cd (op i)))), (0, .ref h), (1, .int (nI i))]) hx hb dX0_planAt_152 hl (by decide) rfl (fun ls hl => ?_)
        refine lv_aload_n hx hb dX0_planAt_154 rfl (lv_at hl 6 rfl) ?_
        refine xg_ri K hP dX0_planAt_155 ?_
        refine lv_iload_n hx hb dX0_planAt_158 rfl (lv_at hl 7 rfl) ?_
        refine lv_iload hx hb dX0_planAt_159 (lv_at hl 1 rfl) ?_
        refine lv_iload hx hb dX0_planAt_161 (lv_at hl 0 rfl) ?_
        refine lv_icmp_le (tgt := 171) hx hb dX0_planAt_163 (by decide) (fun c_163 => ?_) (fun c_163 => ?_)
        · have z3 := (le_sub (by omega) (by omega) (by omega)).mp c_163
          refine lv_iload hx hb dX0_planAt_171 (lv_at hl 0 rfl) ?_
          refine xs_ri K hP hD hS (by omega) dX0_planAt_173 (fun H locs hP hD hS => ?_)
          exact ret _ _ (upd le i (nI ((sL op j (i + 1)) + 1)), upd pr i (nI ((sC op j (i + 1)) + (prN (cd (op i))))), upd ne i (nI (sN op j (i + 1) + tkN (cd (op i))) - nI (ptN (cd (op i)))), upd ri i (nI (ptN (cd (op i)) - tkN (cd (op i))))) _ _ dX0_planAt_174 ⟨(show upd le i (nI ((sL op j (i + 1)) + 1)) = upd le i (nI (sL op (j + 1) i)) from by rw [sL, if_neg hbr]), (show upd pr i (nI ((sC op j (i + 1)) + (prN (cd (op i))))) = upd pr i (nI (sC op (j + 1) i)) from by rw [sC, if_neg hbr]), (show upd ne i (nI (sN op j (i + 1) + tkN (cd (op i))) - nI (ptN (cd (op i)))) = upd ne i (nI (sN op (j + 1) i)) from by (try rw [pk_sub (by omega)]); congr 2; rw [sN, if_neg hbr]; omega), (show upd ri i (nI (ptN (cd (op i)) - tkN (cd (op i)))) = upd ri i (nI (sR op (j + 1) i)) from by (try rw [pk_sub (by omega)]); congr 2; rw [sR, if_neg hbr]; omega)⟩ hP hD hS
        · have z3 : ¬ sR op j (i + 1) + ptN (cd (op i)) ≤ ptN (cd (op i)) - tkN (cd (op i)) + tkN (cd (op i)) := fun q => c_163 ((le_sub (by omega) (by omega) (by omega)).mpr q)
          refine lv_iload hx hb dX0_planAt_166 (lv_at hl 1 rfl) ?_
          refine lv_goto (tgt := 173) hx hb dX0_planAt_168 (by decide) ?_
          refine xs_ri K hP hD hS (by omega) dX0_planAt_173 (fun H locs hP hD hS => ?_)
          exact ret _ _ (upd le i (nI ((sL op j (i + 1)) + 1)), upd pr i (nI ((sC op j (i + 1)) + (prN (cd (op i))))), upd ne i (nI (sN op j (i + 1) + tkN (cd (op i))) - nI (ptN (cd (op i)))), upd ri i (nI (sR op j (i + 1) + ptN (cd (op i))) - nI (tkN (cd (op i))))) _ _ dX0_planAt_174 ⟨(show upd le i (nI ((sL op j (i + 1)) + 1)) = upd le i (nI (sL op (j + 1) i)) from by rw [sL, if_neg hbr]), (show upd pr i (nI ((sC op j (i + 1)) + (prN (cd (op i))))) = upd pr i (nI (sC op (j + 1) i)) from by rw [sC, if_neg hbr]), (show upd ne i (nI (sN op j (i + 1) + tkN (cd (op i))) - nI (ptN (cd (op i)))) = upd ne i (nI (sN op (j + 1) i)) from by (try rw [pk_sub (by omega)]); congr 2; rw [sN, if_neg hbr]; omega), (show upd ri i (nI (sR op j (i + 1) + ptN (cd (op i))) - nI (tkN (cd (op i)))) = upd ri i (nI (sR op (j + 1) i)) from by (try rw [pk_sub (by omega)]); congr 2; rw [sR, if_neg hbr]; omega)⟩ hP hD hS
      · have z2 : ¬ ptN (cd (op i)) ≤ tkN (cd (op i)) := fun q => c_144 ((le_sub0 (by omega) (by omega)).mpr q)
        refine lv_iload_n hx hb dX0_planAt_147 rfl (lv_at hl 3 rfl) ?_
        refine gi_tp (y := nI (ptN (cd (op i)) - tkN (cd (op i)))) (pk_sub (by omega)) ?_
        refine lv_goto (tgt := 152) hx hb dX0_planAt_148 (by decide) ?_
        refine lv_istore (lv' := [(7, .int (nI (ptN (cd (op i)) - tkN (cd (op i))))), (6, .int (nI (sR op j (i + 1) + ptN (cd (op i))) - nI (tkN (cd (op i))))), (5, .int (nI (tkN (cd (op i))))), (4, .int (nI (sN op j (i + 1) + tkN (cd (op i))) - nI (ptN (cd (op i))))), (3, .int ((nI (ptN (cd (op i)))) - (nI (tkN (cd (op i)))))), (2, .int (nI (cd (op i)))), (0, .ref h), (1, .int (nI i))]) hx hb dX0_planAt_152 hl (by decide) rfl (fun ls hl => ?_)
        refine lv_aload_n hx hb dX0_planAt_154 rfl (lv_at hl 6 rfl) ?_
        refine xg_ri K hP dX0_planAt_155 ?_
        refine lv_iload_n hx hb dX0_planAt_158 rfl (lv_at hl 7 rfl) ?_
        refine lv_iload hx hb dX0_planAt_159 (lv_at hl 1 rfl) ?_
        refine lv_iload hx hb dX0_planAt_161 (lv_at hl 0 rfl) ?_
        refine lv_icmp_le (tgt := 171) hx hb dX0_planAt_163 (by decide) (fun c_163 => ?_) (fun c_163 => ?_)
        · have z3 := (le_sub (by omega) (by omega) (by omega)).mp c_163
          refine lv_iload hx hb dX0_planAt_171 (lv_at hl 0 rfl) ?_
          refine xs_ri K hP hD hS (by omega) dX0_planAt_173 (fun H locs hP hD hS => ?_)
          exact ret _ _ (upd le i (nI ((sL op j (i + 1)) + 1)), upd pr i (nI ((sC op j (i + 1)) + (prN (cd (op i))))), upd ne i (nI (sN op j (i + 1) + tkN (cd (op i))) - nI (ptN (cd (op i)))), upd ri i (nI (ptN (cd (op i)) - tkN (cd (op i))))) _ _ dX0_planAt_174 ⟨(show upd le i (nI ((sL op j (i + 1)) + 1)) = upd le i (nI (sL op (j + 1) i)) from by rw [sL, if_neg hbr]), (show upd pr i (nI ((sC op j (i + 1)) + (prN (cd (op i))))) = upd pr i (nI (sC op (j + 1) i)) from by rw [sC, if_neg hbr]), (show upd ne i (nI (sN op j (i + 1) + tkN (cd (op i))) - nI (ptN (cd (op i)))) = upd ne i (nI (sN op (j + 1) i)) from by (try rw [pk_sub (by omega)]); congr 2; rw [sN, if_neg hbr]; omega), (show upd ri i (nI (ptN (cd (op i)) - tkN (cd (op i)))) = upd ri i (nI (sR op (j + 1) i)) from by (try rw [pk_sub (by omega)]); congr 2; rw [sR, if_neg hbr]; omega)⟩ hP hD hS
        · have z3 : ¬ sR op j (i + 1) + ptN (cd (op i)) ≤ ptN (cd (op i)) - tkN (cd (op i)) + tkN (cd (op i)) := fun q => c_163 ((le_sub (by omega) (by omega) (by omega)).mpr q)
          refine lv_iload hx hb dX0_planAt_166 (lv_at hl 1 rfl) ?_
          refine lv_goto (tgt := 173) hx hb dX0_planAt_168 (by decide) ?_
          refine xs_ri K hP hD hS (by omega) dX0_planAt_173 (fun H locs hP hD hS => ?_)
          exact ret _ _ (upd le i (nI ((sL op j (i + 1)) + 1)), upd pr i (nI ((sC op j (i + 1)) + (prN (cd (op i))))), upd ne i (nI (sN op j (i + 1) + tkN (cd (op i))) - nI (ptN (cd (op i)))), upd ri i (nI (sR op j (i + 1) + ptN (cd (op i))) - nI (tkN (cd (op i))))) _ _ dX0_planAt_174 ⟨(show upd le i (nI ((sL op j (i + 1)) + 1)) = upd le i (nI (sL op (j + 1) i)) from by rw [sL, if_neg hbr]), (show upd pr i (nI ((sC op j (i + 1)) + (prN (cd (op i))))) = upd pr i (nI (sC op (j + 1) i)) from by rw [sC, if_neg hbr]), (show upd ne i (nI (sN op j (i + 1) + tkN (cd (op i))) - nI (ptN (cd (op i)))) = upd ne i (nI (sN op (j + 1) i)) from by (try rw [pk_sub (by omega)]); congr 2; rw [sN, if_neg hbr]; omega), (show upd ri i (nI (sR op j (i + 1) + ptN (cd (op i))) - nI (tkN (cd (op i)))) = upd ri i (nI (sR op (j + 1) i)) from by (try rw [pk_sub (by omega)]); congr 2; rw [sR, if_neg hbr]; omega)⟩ hP hD hS
  · have hbr : 10 ≤ cd (op i) := by unfold brN at c_12; grind
    refine lv_aload_n hx hb dX0_planAt_15 rfl (lv_at hl 1 rfl) ?_
    refine xg_le K hP dX0_planAt_16 ?_
    refine lv_iload_n hx hb dX0_planAt_19 rfl (lv_at hl 2 rfl) ?_
    refine lv_iconst (v := nI 0) hx hb dX0_planAt_20 (by decide) ?_
    refine xs_le K hP hD hS (by omega) dX0_planAt_21 (fun H locs hP hD hS => ?_)
    refine lv_aload_n hx hb dX0_planAt_22 rfl (lv_at hl 1 rfl) ?_
    refine xg_pr K hP dX0_planAt_23 ?_
    refine lv_iload_n hx hb dX0_planAt_26 rfl (lv_at hl 2 rfl) ?_
    refine lv_iconst (v := nI 0) hx hb dX0_planAt_27 (by decide) ?_
    refine xs_pr K hP hD hS (by omega) dX0_planAt_28 (fun H locs hP hD hS => ?_)
    refine lv_aload_n hx hb dX0_planAt_29 rfl (lv_at hl 1 rfl) ?_
    refine xg_ne K hP dX0_planAt_30 ?_
    refine lv_iload_n hx hb dX0_planAt_33 rfl (lv_at hl 2 rfl) ?_
    refine lv_iconst (v := nI 0) hx hb dX0_planAt_34 (by decide) ?_
    refine xs_ne K hP hD hS (by omega) dX0_planAt_35 (fun H locs hP hD hS => ?_)
    refine lv_aload_n hx hb dX0_planAt_36 rfl (lv_at hl 1 rfl) ?_
    refine xg_ri K hP dX0_planAt_37 ?_
    refine lv_iload_n hx hb dX0_planAt_40 rfl (lv_at hl 2 rfl) ?_
    refine lv_iconst (v := nI 0) hx hb dX0_planAt_41 (by decide) ?_
    refine xs_ri K hP hD hS (by omega) dX0_planAt_42 (fun H locs hP hD hS => ?_)
    exact ret _ _ (upd le i (nI 0), upd pr i (nI 0), upd ne i (nI 0), upd ri i (nI 0)) _ _ dX0_planAt_43 ⟨(show upd le i (nI 0) = upd le i (nI (sL op (j + 1) i)) from by rw [sL, if_pos hbr]), (show upd pr i (nI 0) = upd pr i (nI (sC op (j + 1) i)) from by rw [sC, if_pos hbr]), (show upd ne i (nI 0) = upd ne i (nI (sN op (j + 1) i)) from by rw [sN, if_pos hbr]), (show upd ri i (nI 0) = upd ri i (nI (sR op (j + 1) i)) from by rw [sR, if_pos hbr])⟩ hP hD hS
set_option maxHeartbeats 4000000 in
set_option maxRecDepth 100000 in
theorem metX_plan (l : Launch) (D : va_G) (d : ClassId) (h : Nat) (r : Nat → Nat) (sz : Nat) (op : vF) (nu : vF) (va : vF) (ga : Nat) (pl : Nat) (le : vF) (pr : vF) (ne : vF) (ri : vF) (nx : Nat) (en : Nat) (dn : Nat) (tk : Nat) (hg : Nat) (pi : vF) (ke : vF) (kp : vF) (hp : okP sz op nu) (hpl : pl = 0 ∨ (pl = 1 ∧ okQ 0 sz op le pr ne ri)) : MetV l yX0_plan cX0_plan 2 D d [.ref h] (wX h r d sz op nu va ga pl le pr ne ri nx en dn tk hg pi ke kp) (rmG 2) (fun u : vF × vF × vF × vF => okQ 0 sz op u.1 u.2.1 u.2.2.1 u.2.2.2) (fun u : vF × vF × vF × vF => wX h r d sz op nu va ga 1 u.1 u.2.1 u.2.2.1 u.2.2.2 nx en dn tk hg pi ke kp) := by
  refine gm_startV (own := RX0) (by decide +kernel) rfl (Nat.le_of_ble_eq_true rfl) ?_
  intro p e s m below meth c A H locs Q ls K hl hP hD hS ret
  have hx := K.1
  have hb := K.2.1
  have hl : lv_has ls 2 [(0, .ref h)] := hl
  have hz := hp.1
  have hpl2 : pl < 2 := by rcases hpl with q | q; omega; have := q.1; omega
  have loop : ∀ (t : Nat) (f1 f2 f3 f4 : vF) (H : Heap) (locs : List Loc) (ls : Array Slot), t ≤ sz → okQ t sz op f1 f2 f3 f4 → lv_has ls 2 [(0, .ref h), (1, .int (nI t - nI 1))] → va_P D gCl (wX h r d sz op nu va ga pl f1 f2 f3 f4 nx en dn tk hg pi ke kp) H → va_D A (wX h r d sz op nu va ga pl f1 f2 f3 f4 nx en dn tk hg pi ke kp) → va_S A s.heap H locs → W p l e (rmG 2) s m ([.ref h] : List Value).toArray below meth c H locs 0 0 Q (F0 m 55 ls []) := by
    intro t
    induction t with
    | zero =>
      intro f1 f2 f3 f4 H locs ls g1 g2 hl hP hD hS
      refine lv_iload_n hx hb dX0_plan_55 rfl (lv_at hl 1 rfl) ?_
      refine lv_if_lt (tgt := 70) hx hb dX0_plan_56 (by decide) (fun c_56 => ?_) (fun c_56 => ?_)
      · refine lv_aload_n hx hb dX0_plan_70 rfl (lv_at hl 0 rfl) ?_
        refine lv_iconst (v := nI 1) hx hb dX0_plan_71 (by decide) ?_
        refine xp_pl (by decide) K hP hD hS dX0_plan_72 (fun H locs hP hD hS => ?_)
        exact ret _ _ (f1, f2, f3, f4) _ _ dX0_plan_75 g2 hP hD hS
      · exact absurd (by decide) c_56
    | succ t ih =>
      intro f1 f2 f3 f4 H locs ls g1 g2 hl hP hD hS
      have hr := g2 (t + 1) (sz - (t + 1)) (Nat.le_refl _) (by omega)
      have hI := (hp.2 t (by omega)).cd
      refine lv_iload_n hx hb dX0_plan_55 rfl (lv_at hl 1 rfl) ?_
      refine gi_tp (y := nI t) (nI_down t) ?_
      refine gz_ltN (tgt := 70) hx hb dX0_plan_56 (by decide) (by omega) ?_
      refine lv_aload_n hx hb dX0_plan_59 rfl (lv_at hl 0 rfl) ?_
      refine lv_iload_n hx hb dX0_plan_60 rfl (lv_at hl 1 rfl) ?_
      refine gi_tp (y := nI t) (nI_down t) ?_
      refine gm_callv (As := [.int (nI t)]) (rest := []) (C := RX0) (n := 1) K (metX_planAt l D d h r sz op nu va ga pl f1 f2 f3 f4 nx en dn tk hg pi ke kp t (sz - (t + 1)) (by omega) hz hI.2.1 hI.1 hr.1 hr.2.1 hr.2.2.1 hr.2.2.2) (lw_V q142 q144 qs3 q27 q145) (by decide +kernel) ⟨by decide, by decide⟩ ⟨rfl, rfl⟩ rfl 0 rfl rfl rfl hP hD hS hl rfl (Nat.le_of_ble_eq_true rfl) dX0_plan_61 ⟨Nat.zero_le _, Nat.zero_le _⟩ (fun u_1 H locs hp_1 hP hD hS => ?_)
      obtain ⟨u_1a, u_1b, u_1c, u_1d⟩ := u_1
      obtain ⟨e_u_1a, e_u_1b, e_u_1c, e_u_1d⟩ := hp_1
      have e_u_1a : u_1a = upd f1 t (nI (sL op ((sz - (t + 1)) + 1) t)) := e_u_1a
      subst e_u_1a
      have e_u_1b : u_1b = upd f2 t (nI (sC op ((sz - (t + 1)) + 1) t)) := e_u_1b
      subst e_u_1b
      have e_u_1c : u_1c = upd f3 t (nI (sN op ((sz - (t + 1)) + 1) t)) := e_u_1c
      subst e_u_1c
      have e_u_1d : u_1d = upd f4 t (nI (sR op ((sz - (t + 1)) + 1) t)) := e_u_1d
      subst e_u_1d
      have hP : va_P D gCl (wX h r d sz op nu va ga pl (upd f1 t (nI (sL op ((sz - (t + 1)) + 1) t))) (upd f2 t (nI (sC op ((sz - (t + 1)) + 1) t))) (upd f3 t (nI (sN op ((sz - (t + 1)) + 1) t))) (upd f4 t (nI (sR op ((sz - (t + 1)) + 1) t))) nx en dn tk hg pi ke kp) H := hP
      have hD : va_D A (wX h r d sz op nu va ga pl (upd f1 t (nI (sL op ((sz - (t + 1)) + 1) t))) (upd f2 t (nI (sC op ((sz - (t + 1)) + 1) t))) (upd f3 t (nI (sN op ((sz - (t + 1)) + 1) t))) (upd f4 t (nI (sR op ((sz - (t + 1)) + 1) t))) nx en dn tk hg pi ke kp) := hD
      refine lv_iinc (v := nI t - nI 1) (lv' := [(1, .int (nI t - nI 1)), (0, .ref h)]) hx hb dX0_plan_64 hl (k := 1) rfl (by rw [nI_down t]; exact nI_m1 t) (by decide) rfl (fun ls hl => ?_)
      refine lv_goto (tgt := 55) hx hb dX0_plan_67 (by decide) ?_
      exact ih _ _ _ _ _ _ _ (by omega) (okQ_step g2 (by omega)) (lv_sub hl [1, 0] rfl) hP hD hS
  refine lv_aload_n hx hb dX0_plan_0 rfl (lv_at hl 0 rfl) ?_
  refine xg_pl K hP dX0_plan_1 ?_
  refine gz_eq (tgt := 8) hx hb dX0_plan_4 (by decide) (by omega) (fun c_4 => ?_) (fun c_4 => ?_)
  · refine lv_aload_n hx hb dX0_plan_8 rfl (lv_at hl 0 rfl) ?_
    refine xg_le K hP dX0_plan_9 ?_
    refine lv_aload_n hx hb dX0_plan_12 rfl (lv_at hl 0 rfl) ?_
    refine xg_sz K hP dX0_plan_13 ?_
    refine lv_iconst (v := nI 0) hx hb dX0_plan_16 (by decide) ?_
    refine xs_le K hP hD hS (by omega) dX0_plan_17 (fun H locs hP hD hS => ?_)
    refine lv_aload_n hx hb dX0_plan_18 rfl (lv_at hl 0 rfl) ?_
    refine xg_pr K hP dX0_plan_19 ?_
    refine lv_aload_n hx hb dX0_plan_22 rfl (lv_at hl 0 rfl) ?_
    refine xg_sz K hP dX0_plan_23 ?_
    refine lv_iconst (v := nI 0) hx hb dX0_plan_26 (by decide) ?_
    refine xs_pr K hP hD hS (by omega) dX0_plan_27 (fun H locs hP hD hS => ?_)
    refine lv_aload_n hx hb dX0_plan_28 rfl (lv_at hl 0 rfl) ?_
    refine xg_ne K hP dX0_plan_29 ?_
    refine lv_aload_n hx hb dX0_plan_32 rfl (lv_at hl 0 rfl) ?_
    refine xg_sz K hP dX0_plan_33 ?_
    refine lv_iconst (v := nI 0) hx hb dX0_plan_36 (by decide) ?_
    refine xs_ne K hP hD hS (by omega) dX0_plan_37 (fun H locs hP hD hS => ?_)
    refine lv_aload_n hx hb dX0_plan_38 rfl (lv_at hl 0 rfl) ?_
    refine xg_ri K hP dX0_plan_39 ?_
    refine lv_aload_n hx hb dX0_plan_42 rfl (lv_at hl 0 rfl) ?_
    refine xg_sz K hP dX0_plan_43 ?_
    refine lv_iconst (v := nI 0) hx hb dX0_plan_46 (by decide) ?_
    refine xs_ri K hP hD hS (by omega) dX0_plan_47 (fun H locs hP hD hS => ?_)
    refine lv_aload_n hx hb dX0_plan_48 rfl (lv_at hl 0 rfl) ?_
    refine xg_sz K hP dX0_plan_49 ?_
    refine lv_iconst (v := nI 1) hx hb dX0_plan_52 (by decide) ?_
    refine lv_isub hx hb dX0_plan_53 ?_
    refine lv_istore_n (lv' := [(1, .int ((nI sz) - (nI 1))), (0, .ref h)]) hx hb dX0_plan_54 rfl hl (by decide) rfl (fun ls hl => ?_)
    exact loop sz _ _ _ _ _ _ _ (Nat.le_refl _) okQ_top (lv_sub hl [1, 0] rfl) hP hD hS
  · obtain ⟨rfl, hq⟩ := hpl.resolve_left c_4
    exact ret _ _ (le, pr, ne, ri) _ _ dX0_plan_7 hq hP hD hS
end
section
set_option maxRecDepth 100000
set_option maxHeartbeats 4000000 in
set_option maxRecDepth 100000 in
theorem metX_execute (l : Launch) (D : va_G) (d : ClassId) (h : Nat) (r : Nat → Nat) (sz : Nat) (op : vF) (nu : vF) (va : vF) (ga : Nat) (pl : Nat) (le : vF) (pr : vF) (ne : vF) (ri : vF) (nx : Nat) (en : Nat) (dn : Nat) (tk : Nat) (hg : Nat) (pi : vF) (ke : vF) (kp : vF) (hp : okP sz op nu) (hpl : pl = 0 ∨ (pl = 1 ∧ okQ 0 sz op le pr ne ri)) (hga : ga ≤ 1000000) : MetV l yX0_execute cX0_execute 2 D d [.ref h] (wX h r d sz op nu va ga pl le pr ne ri nx en dn tk hg pi ke kp) (rmG 3) (fun u : R7 × vF × vF × vF × vF => u.1 = rnN sz op nu 301 (0, ga, 0, 0, 0, pi, va) ∧ okQ 0 sz op u.2.1 u.2.2.1 u.2.2.2.1 u.2.2.2.2) (fun u : R7 × vF × vF × vF × vF => wX h r d sz op nu (qV u.1) (qG u.1) 1 u.2.1 u.2.2.1 u.2.2.2.1 u.2.2.2.2 (qN u.1) (qE u.1) (qD u.1) tk (qH u.1) (qP u.1) ke kp) := by
  refine gm_startV (own := RX0) (by decide +kernel) rfl (Nat.le_of_ble_eq_true rfl) ?_
  intro p e s m below meth c A H locs Q ls K hl hP hD hS ret
  have hx := K.1
  have hb := K.2.1
  have hl : lv_has ls 2 [(0, .ref h)] := hl
  have hz := hp.1
  refine lv_aload_n hx hb dX0_execute_0 rfl (lv_at hl 0 rfl) ?_
  refine gm_callv (As := []) (rest := []) (C := RX0) (n := 0) K (metX_plan l D d h r sz op nu va ga pl le pr ne ri nx en dn tk hg pi ke kp  hp hpl) (lw_V q138 q140 qs2 q27 q141) (by decide +kernel) ⟨by decide, by decide⟩ ⟨rfl, rfl⟩ rfl 0 rfl rfl rfl hP hD hS hl rfl (Nat.le_of_ble_eq_true rfl) dX0_execute_1 ⟨Nat.zero_le _, Nat.zero_le _⟩ (fun u_1 H locs hp_1 hP hD hS => ?_)
  obtain ⟨l1, l2, l3, l4⟩ := u_1
  have hq : okQ 0 sz op l1 l2 l3 l4 := hp_1
  have hP : va_P D gCl (wX h r d sz op nu va ga 1 l1 l2 l3 l4 nx en dn tk hg pi ke kp) H := hP
  have hD : va_D A (wX h r d sz op nu va ga 1 l1 l2 l3 l4 nx en dn tk hg pi ke kp) := hD
  have loop : ∀ (n f i en1 ga1 dn1 nx1 hg1 : Nat) (pi1 va1 : vF) (H : Heap) (locs : List Loc) (ls : Array Slot), i + n = 301 → en1 ≤ 4 → ga1 ≤ 1000000 → dn1 ≤ 300 → nx1 ≤ 20 → hg1 ≤ 8 → (en1 = 0 → i ≤ dn1 ∧ 301 ≤ f + dn1) → rnN sz op nu f (en1, ga1, dn1, nx1, hg1, pi1, va1) = rnN sz op nu 301 (0, ga, 0, 0, 0, pi, va) → lv_has ls 2 [(0, .ref h), (1, .int (nI i))] → va_P D gCl (wX h r d sz op nu va1 ga1 1 l1 l2 l3 l4 nx1 en1 dn1 tk hg1 pi1 ke kp) H → va_D A (wX h r d sz op nu va1 ga1 1 l1 l2 l3 l4 nx1 en1 dn1 tk hg1 pi1 ke kp) → va_S A s.heap H locs → W p l e (rmG 3) s m ([.ref h] : List Value).toArray below meth c H locs 0 0 Q (F0 m 26 ls []) := by
    intro n
    induction n with
    | zero =>
      intro f i en1 ga1 dn1 nx1 hg1 pi1 va1 H locs ls g1 g2 g3 g4 g5 g6 g7 g8 hl hP hD hS
      refine lv_iload_n hx hb dX0_execute_26 rfl (lv_at hl 1 rfl) ?_
      refine lv_sipush (v := nI 300) hx hb dX0_execute_27 (by decide) ?_
      refine gb_gt (tgt := 101) hx hb dX0_execute_30 (by decide) (by omega) (by omega) (fun c_30 => ?_) (fun c_30 => ?_)
      · exact ret _ _ ((en1, ga1, dn1, nx1, hg1, pi1, va1), l1, l2, l3, l4) _ _ dX0_execute_101 ⟨by rw [← g8, rnN_end _ (fun q => by have := g7 q; omega)], hq⟩ hP hD hS
      · exfalso; omega
    | succ n ih =>
      intro f i en1 ga1 dn1 nx1 hg1 pi1 va1 H locs ls g1 g2 g3 g4 g5 g6 g7 g8 hl hP hD hS
      refine lv_iload_n hx hb dX0_execute_26 rfl (lv_at hl 1 rfl) ?_
      refine lv_sipush (v := nI 300) hx hb dX0_execute_27 (by decide) ?_
      refine gb_gt (tgt := 101) hx hb dX0_execute_30 (by decide) (by omega) (by omega) (fun c_30 => ?_) (fun c_30 => ?_)
      · exfalso; omega
      · refine lv_aload_n hx hb dX0_execute_33 rfl (lv_at hl 0 rfl) ?_
        refine xg_en K hP dX0_execute_34 ?_
        refine gz_ne (tgt := 101) hx hb dX0_execute_37 (by decide) (by omega) (fun c_37 => ?_) (fun c_37 => ?_)
        · exact ret _ _ ((en1, ga1, dn1, nx1, hg1, pi1, va1), l1, l2, l3, l4) _ _ dX0_execute_101 ⟨by rw [← g8, rnN_end _ c_37], hq⟩ hP hD hS
        · subst c_37
          obtain ⟨g9, g10⟩ := g7 rfl
          obtain ⟨f, rfl⟩ : ∃ f', f = f' + 1 := ⟨f - 1, by omega⟩
          refine lv_aload_n hx hb dX0_execute_40 rfl (lv_at hl 0 rfl) ?_
          refine xg_nx K hP dX0_execute_41 ?_
          refine lv_aload_n hx hb dX0_execute_44 rfl (lv_at hl 0 rfl) ?_
          refine xg_sz K hP dX0_execute_45 ?_
          refine gb_lt (tgt := 59) hx hb dX0_execute_48 (by decide) (by omega) (by omega) (fun c_48 => ?_) (fun c_48 => ?_)
          · refine lv_aload_n hx hb dX0_execute_59 rfl (lv_at hl 0 rfl) ?_
            refine xg_dn K hP dX0_execute_60 ?_
            refine lv_sipush (v := nI 300) hx hb dX0_execute_63 (by decide) ?_
            refine gb_ne (tgt := 77) hx hb dX0_execute_66 (by decide) (by omega) (by omega) (fun c_66 => ?_) (fun c_66 => ?_)
            · have hr := hq nx1 (sz - nx1) (Nat.zero_le _) (by omega)
              refine lv_aload_n hx hb dX0_execute_77 rfl (lv_at hl 0 rfl) ?_
              refine gm_calli (As := []) (rest := []) (C := RX0) (n := 0) K (metX_sure l D d h r sz op nu va1 ga1 1 l1 l2 l3 l4 nx1 0 dn1 tk hg1 pi1 ke kp (sz - nx1) (by omega) hz hr.1 hr.2.1 hr.2.2.1 hr.2.2.2 g6 g3 (by omega)) (lw_V q162 q164 qs8 q27 q165) (by decide +kernel) ⟨by decide, by decide⟩ ⟨rfl, rfl⟩ rfl 0 rfl rfl rfl hP hD hS hl rfl (Nat.le_of_ble_eq_true rfl) dX0_execute_78 ⟨Nat.zero_le _, Nat.zero_le _⟩ (fun a_2 u_2 H locs hp_2 hP hD hS => ?_)
              have ea_2 := hp_2
              have ea_2 : a_2 = nI (suN (sL op (sz - nx1) nx1) (sC op (sz - nx1) nx1) (sN op (sz - nx1) nx1) (sR op (sz - nx1) nx1) ga1 dn1 hg1) := ea_2
              subst ea_2
              refine gz_eq (tgt := 91) hx hb dX0_execute_81 (by decide) (suN_lt _ _ _ _ _ _ _) (fun c_81 => ?_) (fun c_81 => ?_)
              · refine lv_aload_n hx hb dX0_execute_91 rfl (lv_at hl 0 rfl) ?_
                refine gm_callv (As := []) (rest := []) (C := RX0) (n := 0) K (metX_step l D d h r sz op nu va1 ga1 1 l1 l2 l3 l4 nx1 0 dn1 tk hg1 pi1 ke kp  hp c_48 (by omega) g6 g3 rfl) (lw_V q182 q184 qs13 q27 q185) (by decide +kernel) ⟨by decide, by decide⟩ ⟨rfl, rfl⟩ rfl 0 rfl rfl rfl hP hD hS hl rfl (Nat.le_of_ble_eq_true rfl) dX0_execute_92 ⟨Nat.zero_le _, Nat.zero_le _⟩ (fun u_3 H locs hp_3 hP hD hS => ?_)
                obtain ⟨e2, ga2, dn2, nx2, hg2, pi2, va2⟩ := u_3
                have eu : ((e2, ga2, dn2, nx2, hg2, pi2, va2) : R7) = stN sz op nu (0, ga1, dn1, nx1, hg1, pi1, va1) := hp_3
                have hok : okS (e2, ga2, dn2, nx2, hg2, pi2, va2) := by rw [eu]; exact stN_ok hp ⟨Nat.zero_le 4, g3, g4, g5, g6⟩
                have hP : va_P D gCl (wX h r d sz op nu va2 ga2 1 l1 l2 l3 l4 nx2 e2 dn2 tk hg2 pi2 ke kp) H := hP
                have hD : va_D A (wX h r d sz op nu va2 ga2 1 l1 l2 l3 l4 nx2 e2 dn2 tk hg2 pi2 ke kp) := hD
                refine lv_iinc (v := nI (i + 1)) (lv' := [(1, .int (nI (i + 1))), (0, .ref h)]) hx hb dX0_execute_95 hl (k := 1) rfl (nI_1 i) (by decide) rfl (fun ls hl => ?_)
                refine lv_goto (tgt := 26) hx hb dX0_execute_98 (by decide) ?_
                exact ih f (i + 1) e2 ga2 dn2 nx2 hg2 pi2 va2 _ _ _ (by omega) hok.1 hok.2.1 hok.2.2.1 hok.2.2.2.1 hok.2.2.2.2 (fun q => by have e3 := stN_done (n := sz) (op := op) (nu := nu) (s := (0, ga1, dn1, nx1, hg1, pi1, va1)) (by rw [← eu]; exact q); rw [← eu] at e3; have e3 : dn2 = dn1 + 1 := e3; omega) (by rw [← g8, rnN_go _ rfl, ← eu]) (lv_sub hl [1, 0] rfl) hP hD hS
              · have hsu : ¬ sL op (sz - nx1) nx1 = 0 ∧ sN op (sz - nx1) nx1 ≤ hg1 ∧ hg1 + sR op (sz - nx1) nx1 ≤ 8 ∧ sC op (sz - nx1) nx1 ≤ ga1 ∧ dn1 + sL op (sz - nx1) nx1 ≤ 300 := by unfold suN at c_81; grind
                obtain ⟨s0, s1, s2, s3, s4⟩ := hsu
                refine lv_aload_n hx hb dX0_execute_84 rfl (lv_at hl 0 rfl) ?_
                refine gm_callv (As := []) (rest := []) (C := RX0) (n := 0) K (metX_runStretch l D d h r sz op nu va1 ga1 1 l1 l2 l3 l4 nx1 0 dn1 tk hg1 pi1 ke kp (sz - nx1) (by omega) hz hr.1 hr.2.1 hr.2.2.1 hr.2.2.2 g6 g3 (by omega) hp s1 s2 s3 s4) (lw_V q166 q168 qs9 q27 q169) (by decide +kernel) ⟨by decide, by decide⟩ ⟨rfl, rfl⟩ rfl 0 rfl rfl rfl hP hD hS hl rfl (Nat.le_of_ble_eq_true rfl) dX0_execute_85 ⟨Nat.zero_le _, Nat.zero_le _⟩ (fun u_4 H locs hp_4 hP hD hS => ?_)
                obtain ⟨u_4a, u_4b, u_4c, u_4d, u_4e, u_4f⟩ := u_4
                obtain ⟨e_u_4a, e_u_4b, e_u_4c, e_u_4d, e_u_4e, e_u_4f⟩ := hp_4
                have e_u_4a : u_4a = ga1 - sC op (sz - nx1) nx1 := e_u_4a
                subst e_u_4a
                have e_u_4b : u_4b = dn1 + sL op (sz - nx1) nx1 := e_u_4b
                subst e_u_4b
                have e_u_4c : u_4c = nx1 + sL op (sz - nx1) nx1 := e_u_4c
                subst e_u_4c
                have e_u_4d : u_4d = (wks op nu (sL op (sz - nx1) nx1) nx1 (hg1, pi1, va1)).1 := e_u_4d
                subst e_u_4d
                have e_u_4e : u_4e = (wks op nu (sL op (sz - nx1) nx1) nx1 (hg1, pi1, va1)).2.1 := e_u_4e
                subst e_u_4e
                have e_u_4f : u_4f = (wks op nu (sL op (sz - nx1) nx1) nx1 (hg1, pi1, va1)).2.2 := e_u_4f
                subst e_u_4f
                have hP : va_P D gCl (wX h r d sz op nu ((wks op nu (sL op (sz - nx1) nx1) nx1 (hg1, pi1, va1)).2.2) (ga1 - sC op (sz - nx1) nx1) 1 l1 l2 l3 l4 (nx1 + sL op (sz - nx1) nx1) 0 (dn1 + sL op (sz - nx1) nx1) tk ((wks op nu (sL op (sz - nx1) nx1) nx1 (hg1, pi1, va1)).1) ((wks op nu (sL op (sz - nx1) nx1) nx1 (hg1, pi1, va1)).2.1) ke kp) H := hP
                have hD : va_D A (wX h r d sz op nu ((wks op nu (sL op (sz - nx1) nx1) nx1 (hg1, pi1, va1)).2.2) (ga1 - sC op (sz - nx1) nx1) 1 l1 l2 l3 l4 (nx1 + sL op (sz - nx1) nx1) 0 (dn1 + sL op (sz - nx1) nx1) tk ((wks op nu (sL op (sz - nx1) nx1) nx1 (hg1, pi1, va1)).1) ((wks op nu (sL op (sz - nx1) nx1) nx1 (hg1, pi1, va1)).2.1) ke kp) := hD
                refine lv_goto (tgt := 95) hx hb dX0_execute_88 (by decide) ?_
                refine lv_iinc (v := nI (i + 1)) (lv' := [(1, .int (nI (i + 1))), (0, .ref h)]) hx hb dX0_execute_95 hl (k := 1) rfl (nI_1 i) (by decide) rfl (fun ls hl => ?_)
                refine lv_goto (tgt := 26) hx hb dX0_execute_98 (by decide) ?_
                have hL := sL_le op (sz - nx1) nx1
                have hst := stretch (n := sz) (op := op) (nu := nu) (sz - nx1) nx1 (f + 1 - sL op (sz - nx1) nx1) ga1 dn1 hg1 pi1 va1 (by omega) s1 s2 s3 s4
                rw [Nat.sub_add_cancel (by omega)] at hst
                exact ih (f + 1 - sL op (sz - nx1) nx1) (i + 1) 0 (ga1 - sC op (sz - nx1) nx1) (dn1 + sL op (sz - nx1) nx1) (nx1 + sL op (sz - nx1) nx1) (wks op nu (sL op (sz - nx1) nx1) nx1 (hg1, pi1, va1)).1 (wks op nu (sL op (sz - nx1) nx1) nx1 (hg1, pi1, va1)).2.1 (wks op nu (sL op (sz - nx1) nx1) nx1 (hg1, pi1, va1)).2.2 _ _ _ (by omega) (by omega) (by omega) s4 (by omega) (wks_le _ _ _ s1 s2) (fun _ => ⟨by omega, by omega⟩) (by rw [← g8]; exact hst.symm) (lv_sub hl [1, 0] rfl) hP hD hS
            · have he : endN sz op ga1 dn1 nx1 hg1 pi1 = 2 := by unfold endN; grind
              refine lv_aload_n hx hb dX0_execute_69 rfl (lv_at hl 0 rfl) ?_
              refine lv_iconst (v := nI 2) hx hb dX0_execute_70 (by decide) ?_
              refine xp_en K hP hD hS dX0_execute_71 (fun H locs hP hD hS => ?_)
              refine lv_goto (tgt := 95) hx hb dX0_execute_74 (by decide) ?_
              refine lv_iinc (v := nI (i + 1)) (lv' := [(1, .int (nI (i + 1))), (0, .ref h)]) hx hb dX0_execute_95 hl (k := 1) rfl (nI_1 i) (by decide) rfl (fun ls hl => ?_)
              refine lv_goto (tgt := 26) hx hb dX0_execute_98 (by decide) ?_
              exact ih 0 (i + 1) 2 ga1 dn1 nx1 hg1 pi1 va1 _ _ _ (by omega) (by omega) g3 g4 g5 g6 (fun q => absurd q (by decide)) (show ((2, ga1, dn1, nx1, hg1, pi1, va1) : R7) = _ from by rw [← g8, rnN_go _ rfl, stN_stop (by rw [he]; decide), he, rnN_end _ (show ¬ (2 : Nat) = 0 by decide)]) (lv_sub hl [1, 0] rfl) hP hD hS
          · have he : endN sz op ga1 dn1 nx1 hg1 pi1 = 1 := by unfold endN; grind
            refine lv_aload_n hx hb dX0_execute_51 rfl (lv_at hl 0 rfl) ?_
            refine lv_iconst (v := nI 1) hx hb dX0_execute_52 (by decide) ?_
            refine xp_en K hP hD hS dX0_execute_53 (fun H locs hP hD hS => ?_)
            refine lv_goto (tgt := 95) hx hb dX0_execute_56 (by decide) ?_
            refine lv_iinc (v := nI (i + 1)) (lv' := [(1, .int (nI (i + 1))), (0, .ref h)]) hx hb dX0_execute_95 hl (k := 1) rfl (nI_1 i) (by decide) rfl (fun ls hl => ?_)
            refine lv_goto (tgt := 26) hx hb dX0_execute_98 (by decide) ?_
            exact ih 0 (i + 1) 1 ga1 dn1 nx1 hg1 pi1 va1 _ _ _ (by omega) (by omega) g3 g4 g5 g6 (fun q => absurd q (by decide)) (show ((1, ga1, dn1, nx1, hg1, pi1, va1) : R7) = _ from by rw [← g8, rnN_go _ rfl, stN_stop (by rw [he]; decide), he, rnN_end _ (show ¬ (1 : Nat) = 0 by decide)]) (lv_sub hl [1, 0] rfl) hP hD hS
  refine lv_aload_n hx hb dX0_execute_4 rfl (lv_at hl 0 rfl) ?_
  refine lv_iconst (v := nI 0) hx hb dX0_execute_5 (by decide) ?_
  refine xp_nx K hP hD hS dX0_execute_6 (fun H locs hP hD hS => ?_)
  refine lv_aload_n hx hb dX0_execute_9 rfl (lv_at hl 0 rfl) ?_
  refine lv_iconst (v := nI 0) hx hb dX0_execute_10 (by decide) ?_
  refine xp_en K hP hD hS dX0_execute_11 (fun H locs hP hD hS => ?_)
  refine lv_aload_n hx hb dX0_execute_14 rfl (lv_at hl 0 rfl) ?_
  refine lv_iconst (v := nI 0) hx hb dX0_execute_15 (by decide) ?_
  refine xp_dn K hP hD hS dX0_execute_16 (fun H locs hP hD hS => ?_)
  refine lv_aload_n hx hb dX0_execute_19 rfl (lv_at hl 0 rfl) ?_
  refine lv_iconst (v := nI 0) hx hb dX0_execute_20 (by decide) ?_
  refine xp_hg K hP hD hS dX0_execute_21 (fun H locs hP hD hS => ?_)
  refine lv_iconst (v := nI 0) hx hb dX0_execute_24 (by decide) ?_
  refine lv_istore_n (lv' := [(1, .int (nI 0)), (0, .ref h)]) hx hb dX0_execute_25 rfl hl (by decide) rfl (fun ls hl => ?_)
  exact loop 301 301 0 0 ga 0 0 0 pi va _ _ _ (by omega) (by omega) hga (by omega) (by omega) (by omega) (fun _ => ⟨by omega, by omega⟩) rfl (lv_sub hl [1, 0] rfl) hP hD hS
set_option maxHeartbeats 4000000 in
set_option maxRecDepth 100000 in
theorem metX_run (l : Launch) (D : va_G) (d : ClassId) (h : Nat) (r : Nat → Nat) (sz : Nat) (op : vF) (nu : vF) (va : vF) (ga : Nat) (pl : Nat) (le : vF) (pr : vF) (ne : vF) (ri : vF) (nx : Nat) (en : Nat) (dn : Nat) (tk : Nat) (hg : Nat) (pi : vF) (ke : vF) (kp : vF) (hp : okP sz op nu) (hpl : pl = 0 ∨ (pl = 1 ∧ okQ 0 sz op le pr ne ri)) (hga : ga ≤ 1000000) : MetI l yX0_run cX0_run 2 .int D d [.ref h] (wX h r d sz op nu va ga pl le pr ne ri nx en dn tk hg pi ke kp) (rmG 4) (fun (a : Int32) (u : R7 × vF × vF × vF × vF) => a = nI (qE u.1) ∧ u.1 = rnN sz op nu 301 (0, ga, 0, 0, 0, pi, va) ∧ okQ 0 sz op u.2.1 u.2.2.1 u.2.2.2.1 u.2.2.2.2) (fun u : R7 × vF × vF × vF × vF => wX h r d sz op nu (qV u.1) (qG u.1) 1 u.2.1 u.2.2.1 u.2.2.2.1 u.2.2.2.2 (qN u.1) (qE u.1) (qD u.1) (ga - qG u.1) (qH u.1) (qP u.1) ke kp) := by
  refine gm_startI (own := RX0) (by decide +kernel) rfl (Nat.le_of_ble_eq_true rfl) ?_
  intro p e s m below meth c A H locs Q ls K hl hP hD hS ret
  have hx := K.1
  have hb := K.2.1
  have hl : lv_has ls 2 [(0, .ref h)] := hl
  refine lv_aload_n hx hb dX0_run_0 rfl (lv_at hl 0 rfl) ?_
  refine xg_ga K hP dX0_run_1 ?_
  refine lv_istore_n (lv' := [(1, .int (nI ga)), (0, .ref h)]) hx hb dX0_run_4 rfl hl (by decide) rfl (fun ls hl => ?_)
  refine lv_aload_n hx hb dX0_run_5 rfl (lv_at hl 1 rfl) ?_
  refine gm_callv (As := []) (rest := []) (C := RX0) (n := 0) K (metX_execute l D d h r sz op nu va ga pl le pr ne ri nx en dn tk hg pi ke kp  hp hpl hga) (lw_V q134 q136 qs1 q27 q137) (by decide +kernel) ⟨by decide, by decide⟩ ⟨rfl, rfl⟩ rfl 0 rfl rfl rfl hP hD hS hl rfl (Nat.le_of_ble_eq_true rfl) dX0_run_6 ⟨Nat.zero_le _, Nat.zero_le _⟩ (fun u_1 H locs hp_1 hP hD hS => ?_)
  obtain ⟨x, l1, l2, l3, l4⟩ := u_1
  obtain ⟨ex, hq⟩ := hp_1
  have ex : x = rnN sz op nu 301 (0, ga, 0, 0, 0, pi, va) := ex
  have hP : va_P D gCl (wX h r d sz op nu (qV x) (qG x) 1 l1 l2 l3 l4 (qN x) (qE x) (qD x) tk (qH x) (qP x) ke kp) H := hP
  have hD : va_D A (wX h r d sz op nu (qV x) (qG x) 1 l1 l2 l3 l4 (qN x) (qE x) (qD x) tk (qH x) (qP x) ke kp) := hD
  refine lv_aload_n hx hb dX0_run_9 rfl (lv_at hl 1 rfl) ?_
  refine lv_iload_n hx hb dX0_run_10 rfl (lv_at hl 0 rfl) ?_
  refine lv_aload_n hx hb dX0_run_11 rfl (lv_at hl 1 rfl) ?_
  refine xg_ga K hP dX0_run_12 ?_
  refine gi_sub hx hb (by rw [ex]; exact rnN_gas 301 _) dX0_run_15 ?_
  refine xp_tk K hP hD hS dX0_run_16 (fun H locs hP hD hS => ?_)
  refine lv_aload_n hx hb dX0_run_19 rfl (lv_at hl 1 rfl) ?_
  refine xg_en K hP dX0_run_20 ?_
  exact ret _ _ (nI (qE x)) (x, l1, l2, l3, l4) _ _ dX0_run_23 rfl ⟨rfl, ex, hq⟩ hP hD hS
set_option maxHeartbeats 4000000 in
set_option maxRecDepth 100000 in
theorem metX_bill (l : Launch) (D : va_G) (d : ClassId) (h : Nat) (r : Nat → Nat) (sz : Nat) (op : vF) (nu : vF) (va : vF) (ga : Nat) (pl : Nat) (le : vF) (pr : vF) (ne : vF) (ri : vF) (nx : Nat) (en : Nat) (dn : Nat) (tk : Nat) (hg : Nat) (pi : vF) (ke : vF) (kp : vF) (hp : okP sz op nu) (hpl : pl = 0 ∨ (pl = 1 ∧ okQ 0 sz op le pr ne ri)) : MetI l yX0_bill cX0_bill 8 .int D d [.ref h] (wX h r d sz op nu va ga pl le pr ne ri nx en dn tk hg pi ke kp) (rmG 4) (fun (a : Int32) (u : Nat × vF × vF × vF × vF × vF × vF) => a = (if agN op sz 0 = 0 then nI (1000000 - qG (rnN sz op nu 301 (0, 1000000, 0, 0, 0, pi, va))) else -1) ∧ (u.1 = 0 ∨ (u.1 = 1 ∧ okQ 0 sz op u.2.1 u.2.2.1 u.2.2.2.1 u.2.2.2.2.1))) (fun u : Nat × vF × vF × vF × vF × vF × vF => wX h r d sz op nu va ga u.1 u.2.1 u.2.2.1 u.2.2.2.1 u.2.2.2.2.1 nx en dn tk hg pi u.2.2.2.2.2.1 u.2.2.2.2.2.2) := by
  refine gm_startI (own := RX0) (by decide +kernel) rfl (Nat.le_of_ble_eq_true rfl) ?_
  intro p e s m below meth c A H locs Q ls K hl hP hD hS ret
  have hx := K.1
  have hb := K.2.1
  have hl : lv_has ls 8 [(0, .ref h)] := hl
  have hz := hp.1
  have lp5 : ∀ (t i cst : Nat) (x : R7) (l1 l2 l3 l4 k1 k2 v1 f1 : vF) (H : Heap) (locs : List Loc) (ls : Array Slot), i + t = 8 → (∀ j, j < i → f1 j = k2 j) → (∀ j, j < 4 → v1 j = va j) → (∀ j, j < 8 → k2 j = pi j) → okQ 0 sz op l1 l2 l3 l4 → nI cst = (if agN op sz 0 = 0 then nI (1000000 - qG (rnN sz op nu 301 (0, 1000000, 0, 0, 0, pi, va))) else -1) → lv_has ls 8 [(0, .ref h), (1, .int (nI ga)), (2, .int (nI nx)), (3, .int (nI en)), (4, .int (nI dn)), (5, .int (nI hg)), (6, .int (nI cst)), (7, .int (nI i))] → va_P D gCl (wX h r d sz op nu v1 (qG x) 1 l1 l2 l3 l4 (qN x) (qE x) (qD x) tk (qH x) f1 k1 k2) H → va_D A (wX h r d sz op nu v1 (qG x) 1 l1 l2 l3 l4 (qN x) (qE x) (qD x) tk (qH x) f1 k1 k2) → va_S A s.heap H locs → W p l e (rmG 4) s m ([.ref h] : List Value).toArray below meth c H locs 0 0 Q (F0 m 158 ls []) := by
    intro t
    induction t with
    | zero =>
      intro i cst x l1 l2 l3 l4 k1 k2 v1 f1 H locs ls g1 g2 g3 g4 g5 g6 hl hP hD hS
      refine lv_iload hx hb dX0_bill_158 (lv_at hl 7 rfl) ?_
      refine lv_bipush (v := nI 8) hx hb dX0_bill_160 (by decide) ?_
      refine gb_ge (tgt := 185) hx hb dX0_bill_162 (by decide) (by omega) (by omega) (fun c_162 => ?_) (fun c_162 => ?_)
      · refine lv_aload_n hx hb dX0_bill_185 rfl (lv_at hl 0 rfl) ?_
        refine lv_iload_n hx hb dX0_bill_186 rfl (lv_at hl 1 rfl) ?_
        refine xp_ga K hP hD hS dX0_bill_187 (fun H locs hP hD hS => ?_)
        refine lv_aload_n hx hb dX0_bill_190 rfl (lv_at hl 0 rfl) ?_
        refine lv_iload_n hx hb dX0_bill_191 rfl (lv_at hl 2 rfl) ?_
        refine xp_nx K hP hD hS dX0_bill_192 (fun H locs hP hD hS => ?_)
        refine lv_aload_n hx hb dX0_bill_195 rfl (lv_at hl 0 rfl) ?_
        refine lv_iload_n hx hb dX0_bill_196 rfl (lv_at hl 3 rfl) ?_
        refine xp_en K hP hD hS dX0_bill_197 (fun H locs hP hD hS => ?_)
        refine lv_aload_n hx hb dX0_bill_200 rfl (lv_at hl 0 rfl) ?_
        refine lv_iload hx hb dX0_bill_201 (lv_at hl 4 rfl) ?_
        refine xp_dn K hP hD hS dX0_bill_203 (fun H locs hP hD hS => ?_)
        refine lv_aload_n hx hb dX0_bill_206 rfl (lv_at hl 0 rfl) ?_
        refine lv_iload hx hb dX0_bill_207 (lv_at hl 5 rfl) ?_
        refine xp_hg K hP hD hS dX0_bill_209 (fun H locs hP hD hS => ?_)
        refine lv_iload hx hb dX0_bill_212 (lv_at hl 6 rfl) ?_
        have hP : va_P D gCl (wX h r d sz op nu va ga 1 l1 l2 l3 l4 nx en dn tk hg pi k1 k2) H := wX_ext g3 (fun j hj => (g2 j (by omega)).trans (g4 j hj)) hP
        have hD : va_D A (wX h r d sz op nu va ga 1 l1 l2 l3 l4 nx en dn tk hg pi k1 k2) := vaD_fst (ws := wX h r d sz op nu v1 ga 1 l1 l2 l3 l4 nx en dn tk hg f1 k1 k2) rfl hD
        exact ret _ _ (nI cst) (1, l1, l2, l3, l4, k1, k2) _ _ dX0_bill_214 rfl ⟨g6, Or.inr ⟨rfl, g5⟩⟩ hP hD hS
      · exfalso; omega
    | succ t ih =>
      intro i cst x l1 l2 l3 l4 k1 k2 v1 f1 H locs ls g1 g2 g3 g4 g5 g6 hl hP hD hS
      refine lv_iload hx hb dX0_bill_158 (lv_at hl 7 rfl) ?_
      refine lv_bipush (v := nI 8) hx hb dX0_bill_160 (by decide) ?_
      refine gb_ge (tgt := 185) hx hb dX0_bill_162 (by decide) (by omega) (by omega) (fun c_162 => ?_) (fun c_162 => ?_)
      · exfalso; omega
      · refine lv_aload_n hx hb dX0_bill_165 rfl (lv_at hl 0 rfl) ?_
        refine xg_pi K hP dX0_bill_166 ?_
        refine lv_iload hx hb dX0_bill_169 (lv_at hl 7 rfl) ?_
        refine lv_aload_n hx hb dX0_bill_171 rfl (lv_at hl 0 rfl) ?_
        refine xg_kp K hP dX0_bill_172 ?_
        refine lv_iload hx hb dX0_bill_175 (lv_at hl 7 rfl) ?_
        refine xl_kp K hP (by omega) dX0_bill_177 ?_
        refine xs_pi K hP hD hS (by omega) dX0_bill_178 (fun H locs hP hD hS => ?_)
        refine lv_iinc (v := nI (i + 1)) (lv' := [(7, .int (nI (i + 1))), (0, .ref h), (1, .int (nI ga)), (2, .int (nI nx)), (3, .int (nI en)), (4, .int (nI dn)), (5, .int (nI hg)), (6, .int (nI cst))]) hx hb dX0_bill_179 hl (k := 7) rfl (nI_1 i) (by decide) rfl (fun ls hl => ?_)
        refine lv_goto (tgt := 158) hx hb dX0_bill_182 (by decide) ?_
        refine ih (i + 1) cst x l1 l2 l3 l4 k1 k2 v1 (upd f1 i (k2 i)) _ _ _ (by omega) (fun j h1 => ?_) g3 g4 g5 g6 (lv_sub hl [1, 2, 3, 4, 5, 6, 7, 0] rfl) hP hD hS
        · unfold upd
          split
          · rename_i e1; rw [e1]
          · exact g2 j (by omega)
  have lp4 : ∀ (t i cst : Nat) (x : R7) (l1 l2 l3 l4 k1 k2 f1 : vF) (H : Heap) (locs : List Loc) (ls : Array Slot), i + t = 4 → (∀ j, j < i → f1 j = k1 j) → (∀ j, j < 4 → k1 j = va j) → (∀ j, j < 8 → k2 j = pi j) → okQ 0 sz op l1 l2 l3 l4 → nI cst = (if agN op sz 0 = 0 then nI (1000000 - qG (rnN sz op nu 301 (0, 1000000, 0, 0, 0, pi, va))) else -1) → lv_has ls 8 [(0, .ref h), (1, .int (nI ga)), (2, .int (nI nx)), (3, .int (nI en)), (4, .int (nI dn)), (5, .int (nI hg)), (6, .int (nI cst)), (7, .int (nI i))] → va_P D gCl (wX h r d sz op nu f1 (qG x) 1 l1 l2 l3 l4 (qN x) (qE x) (qD x) tk (qH x) (qP x) k1 k2) H → va_D A (wX h r d sz op nu f1 (qG x) 1 l1 l2 l3 l4 (qN x) (qE x) (qD x) tk (qH x) (qP x) k1 k2) → va_S A s.heap H locs → W p l e (rmG 4) s m ([.ref h] : List Value).toArray below meth c H locs 0 0 Q (F0 m 129 ls []) := by
    intro t
    induction t with
    | zero =>
      intro i cst x l1 l2 l3 l4 k1 k2 f1 H locs ls g1 g2 g3 g4 g5 g6 hl hP hD hS
      refine lv_iload hx hb dX0_bill_129 (lv_at hl 7 rfl) ?_
      refine lv_iconst (v := nI 4) hx hb dX0_bill_131 (by decide) ?_
      refine gb_ge (tgt := 155) hx hb dX0_bill_132 (by decide) (by omega) (by omega) (fun c_132 => ?_) (fun c_132 => ?_)
      · refine lv_iconst (v := nI 0) hx hb dX0_bill_155 (by decide) ?_
        refine lv_istore (lv' := [(7, .int (nI 0)), (0, .ref h), (1, .int (nI ga)), (2, .int (nI nx)), (3, .int (nI en)), (4, .int (nI dn)), (5, .int (nI hg)), (6, .int (nI cst))]) hx hb dX0_bill_156 hl (by decide) rfl (fun ls hl => ?_)
        exact lp5 8 0 cst x l1 l2 l3 l4 k1 k2 f1 (qP x) _ _ _ (by omega) (fun j h => absurd h (by omega)) (fun j hj => (g2 j (by omega)).trans (g3 j hj)) g4 g5 g6 (lv_sub hl [1, 2, 3, 4, 5, 6, 7, 0] rfl) hP hD hS
      · exfalso; omega
    | succ t ih =>
      intro i cst x l1 l2 l3 l4 k1 k2 f1 H locs ls g1 g2 g3 g4 g5 g6 hl hP hD hS
      refine lv_iload hx hb dX0_bill_129 (lv_at hl 7 rfl) ?_
      refine lv_iconst (v := nI 4) hx hb dX0_bill_131 (by decide) ?_
      refine gb_ge (tgt := 155) hx hb dX0_bill_132 (by decide) (by omega) (by omega) (fun c_132 => ?_) (fun c_132 => ?_)
      · exfalso; omega
      · refine lv_aload_n hx hb dX0_bill_135 rfl (lv_at hl 0 rfl) ?_
        refine xg_va K hP dX0_bill_136 ?_
        refine lv_iload hx hb dX0_bill_139 (lv_at hl 7 rfl) ?_
        refine lv_aload_n hx hb dX0_bill_141 rfl (lv_at hl 0 rfl) ?_
        refine xg_ke K hP dX0_bill_142 ?_
        refine lv_iload hx hb dX0_bill_145 (lv_at hl 7 rfl) ?_
        refine xl_ke K hP (by omega) dX0_bill_147 ?_
        refine xs_va K hP hD hS (by omega) dX0_bill_148 (fun H locs hP hD hS => ?_)
        refine lv_iinc (v := nI (i + 1)) (lv' := [(7, .int (nI (i + 1))), (0, .ref h), (1, .int (nI ga)), (2, .int (nI nx)), (3, .int (nI en)), (4, .int (nI dn)), (5, .int (nI hg)), (6, .int (nI cst))]) hx hb dX0_bill_149 hl (k := 7) rfl (nI_1 i) (by decide) rfl (fun ls hl => ?_)
        refine lv_goto (tgt := 129) hx hb dX0_bill_152 (by decide) ?_
        refine ih (i + 1) cst x l1 l2 l3 l4 k1 k2 (upd f1 i (k1 i)) _ _ _ (by omega) (fun j h1 => ?_) g3 g4 g5 g6 (lv_sub hl [1, 2, 3, 4, 5, 6, 7, 0] rfl) hP hD hS
        · unfold upd
          split
          · rename_i e1; rw [e1]
          · exact g2 j (by omega)
  have lp3 : ∀ (t i : Nat) (k1 f1 : vF) (H : Heap) (locs : List Loc) (ls : Array Slot), agN op sz 0 = 0 → i + t = 8 → (∀ j, j < i → f1 j = pi j) → (∀ j, j < 4 → k1 j = va j) → lv_has ls 8 [(0, .ref h), (1, .int (nI i))] → va_P D gCl (wX h r d sz op nu va ga pl le pr ne ri nx en dn tk hg pi k1 f1) H → va_D A (wX h r d sz op nu va ga pl le pr ne ri nx en dn tk hg pi k1 f1) → va_S A s.heap H locs → W p l e (rmG 4) s m ([.ref h] : List Value).toArray below meth c H locs 0 0 Q (F0 m 56 ls []) := by
    intro t
    induction t with
    | zero =>
      intro i k1 f1 H locs ls g0 g1 g2 g3 hl hP hD hS
      refine lv_iload_n hx hb dX0_bill_56 rfl (lv_at hl 1 rfl) ?_
      refine lv_bipush (v := nI 8) hx hb dX0_bill_57 (by decide) ?_
      refine gb_ge (tgt := 80) hx hb dX0_bill_59 (by decide) (by omega) (by omega) (fun c_59 => ?_) (fun c_59 => ?_)
      · refine lv_aload_n hx hb dX0_bill_80 rfl (lv_at hl 0 rfl) ?_
        refine xg_ga K hP dX0_bill_81 ?_
        refine lv_istore_n (lv' := [(1, .int (nI ga)), (0, .ref h)]) hx hb dX0_bill_84 rfl hl (by decide) rfl (fun ls hl => ?_)
        refine lv_aload_n hx hb dX0_bill_85 rfl (lv_at hl 1 rfl) ?_
        refine xg_nx K hP dX0_bill_86 ?_
        refine lv_istore_n (lv' := [(2, .int (nI nx)), (1, .int (nI ga)), (0, .ref h)]) hx hb dX0_bill_89 rfl hl (by decide) rfl (fun ls hl => ?_)
        refine lv_aload_n hx hb dX0_bill_90 rfl (lv_at hl 2 rfl) ?_
        refine xg_en K hP dX0_bill_91 ?_
        refine lv_istore_n (lv' := [(3, .int (nI en)), (2, .int (nI nx)), (1, .int (nI ga)), (0, .ref h)]) hx hb dX0_bill_94 rfl hl (by decide) rfl (fun ls hl => ?_)
        refine lv_aload_n hx hb dX0_bill_95 rfl (lv_at hl 3 rfl) ?_
        refine xg_dn K hP dX0_bill_96 ?_
        refine lv_istore (lv' := [(4, .int (nI dn)), (3, .int (nI en)), (2, .int (nI nx)), (1, .int (nI ga)), (0, .ref h)]) hx hb dX0_bill_99 hl (by decide) rfl (fun ls hl => ?_)
        refine lv_aload_n hx hb dX0_bill_101 rfl (lv_at hl 4 rfl) ?_
        refine xg_hg K hP dX0_bill_102 ?_
        refine lv_istore (lv' := [(5, .int (nI hg)), (4, .int (nI dn)), (3, .int (nI en)), (2, .int (nI nx)), (1, .int (nI ga)), (0, .ref h)]) hx hb dX0_bill_105 hl (by decide) rfl (fun ls hl => ?_)
        refine lv_aload_n hx hb dX0_bill_107 rfl (lv_at hl 5 rfl) ?_
        refine lv_ldc hx hb K.2.2.2.1 (K.2.2.1 _ q218) dX0_bill_108 ?_
        refine gi_tp (y := nI 1000000) (by decide) ?_
        refine xp_ga K hP hD hS dX0_bill_110 (fun H locs hP hD hS => ?_)
        refine lv_aload_n hx hb dX0_bill_113 rfl (lv_at hl 5 rfl) ?_
        refine gm_callv (As := []) (rest := []) (C := RX0) (n := 0) K (metX_execute l D d h r sz op nu va 1000000 pl le pr ne ri nx en dn tk hg pi k1 f1  hp hpl (by decide)) (lw_V q134 q136 qs1 q27 q137) (by decide +kernel) ⟨by decide, by decide⟩ ⟨rfl, rfl⟩ rfl 0 rfl rfl rfl hP hD hS hl rfl (Nat.le_of_ble_eq_true rfl) dX0_bill_114 ⟨Nat.zero_le _, Nat.zero_le _⟩ (fun u_1 H locs hp_1 hP hD hS => ?_)
        obtain ⟨x, l1, l2, l3, l4⟩ := u_1
        obtain ⟨ex, hq⟩ := hp_1
        have ex : x = rnN sz op nu 301 (0, 1000000, 0, 0, 0, pi, va) := ex
        have hP : va_P D gCl (wX h r d sz op nu (qV x) (qG x) 1 l1 l2 l3 l4 (qN x) (qE x) (qD x) tk (qH x) (qP x) k1 f1) H := hP
        have hD : va_D A (wX h r d sz op nu (qV x) (qG x) 1 l1 l2 l3 l4 (qN x) (qE x) (qD x) tk (qH x) (qP x) k1 f1) := hD
        refine lv_ldc hx hb K.2.2.2.1 (K.2.2.1 _ q218) dX0_bill_117 ?_
        refine gi_tp (y := nI 1000000) (by decide) ?_
        refine lv_aload_n hx hb dX0_bill_119 rfl (lv_at hl 5 rfl) ?_
        refine xg_ga K hP dX0_bill_120 ?_
        refine gi_sub hx hb (by rw [ex]; exact rnN_gas 301 _) dX0_bill_123 ?_
        refine lv_istore (lv' := [(6, .int (nI (1000000 - (qG x)))), (5, .int (nI hg)), (4, .int (nI dn)), (3, .int (nI en)), (2, .int (nI nx)), (1, .int (nI ga)), (0, .ref h)]) hx hb dX0_bill_124 hl (by decide) rfl (fun ls hl => ?_)
        refine lv_iconst (v := nI 0) hx hb dX0_bill_126 (by decide) ?_
        refine lv_istore (lv' := [(7, .int (nI 0)), (6, .int (nI (1000000 - (qG x)))), (5, .int (nI hg)), (4, .int (nI dn)), (3, .int (nI en)), (2, .int (nI nx)), (1, .int (nI ga)), (0, .ref h)]) hx hb dX0_bill_127 hl (by decide) rfl (fun ls hl => ?_)
        exact lp4 4 0 (1000000 - qG x) x l1 l2 l3 l4 k1 f1 (qV x) _ _ _ (by omega) (fun j h => absurd h (by omega)) g3 (fun j hj => g2 j (by omega)) hq (by rw [if_pos g0, ex]) (lv_sub hl [7, 6, 5, 4, 3, 2, 1, 0] rfl) hP hD hS
      · exfalso; omega
    | succ t ih =>
      intro i k1 f1 H locs ls g0 g1 g2 g3 hl hP hD hS
      refine lv_iload_n hx hb dX0_bill_56 rfl (lv_at hl 1 rfl) ?_
      refine lv_bipush (v := nI 8) hx hb dX0_bill_57 (by decide) ?_
      refine gb_ge (tgt := 80) hx hb dX0_bill_59 (by decide) (by omega) (by omega) (fun c_59 => ?_) (fun c_59 => ?_)
      · exfalso; omega
      · refine lv_aload_n hx hb dX0_bill_62 rfl (lv_at hl 0 rfl) ?_
        refine xg_kp K hP dX0_bill_63 ?_
        refine lv_iload_n hx hb dX0_bill_66 rfl (lv_at hl 1 rfl) ?_
        refine lv_aload_n hx hb dX0_bill_67 rfl (lv_at hl 0 rfl) ?_
        refine xg_pi K hP dX0_bill_68 ?_
        refine lv_iload_n hx hb dX0_bill_71 rfl (lv_at hl 1 rfl) ?_
        refine xl_pi K hP (by omega) dX0_bill_72 ?_
        refine xs_kp K hP hD hS (by omega) dX0_bill_73 (fun H locs hP hD hS => ?_)
        refine lv_iinc (v := nI (i + 1)) (lv' := [(1, .int (nI (i + 1))), (0, .ref h)]) hx hb dX0_bill_74 hl (k := 1) rfl (nI_1 i) (by decide) rfl (fun ls hl => ?_)
        refine lv_goto (tgt := 56) hx hb dX0_bill_77 (by decide) ?_
        refine ih (i + 1) k1 (upd f1 i (pi i)) _ _ _ g0 (by omega) (fun j h1 => ?_) g3 (lv_sub hl [1, 0] rfl) hP hD hS
        · unfold upd
          split
          · rename_i e1; rw [e1]
          · exact g2 j (by omega)
  have lp2 : ∀ (t i : Nat) (f1 : vF) (H : Heap) (locs : List Loc) (ls : Array Slot), agN op sz 0 = 0 → i + t = 4 → (∀ j, j < i → f1 j = va j) → lv_has ls 8 [(0, .ref h), (1, .int (nI i))] → va_P D gCl (wX h r d sz op nu va ga pl le pr ne ri nx en dn tk hg pi f1 kp) H → va_D A (wX h r d sz op nu va ga pl le pr ne ri nx en dn tk hg pi f1 kp) → va_S A s.heap H locs → W p l e (rmG 4) s m ([.ref h] : List Value).toArray below meth c H locs 0 0 Q (F0 m 31 ls []) := by
    intro t
    induction t with
    | zero =>
      intro i f1 H locs ls g0 g1 g2 hl hP hD hS
      refine lv_iload_n hx hb dX0_bill_31 rfl (lv_at hl 1 rfl) ?_
      refine lv_iconst (v := nI 4) hx hb dX0_bill_32 (by decide) ?_
      refine gb_ge (tgt := 54) hx hb dX0_bill_33 (by decide) (by omega) (by omega) (fun c_33 => ?_) (fun c_33 => ?_)
      · refine lv_iconst (v := nI 0) hx hb dX0_bill_54 (by decide) ?_
        refine lv_istore_n (lv' := [(1, .int (nI 0)), (0, .ref h)]) hx hb dX0_bill_55 rfl hl (by decide) rfl (fun ls hl => ?_)
        exact lp3 8 0 f1 kp _ _ _ g0 (by omega) (fun j h => absurd h (by omega)) (fun j hj => g2 j (by omega)) (lv_sub hl [1, 0] rfl) hP hD hS
      · exfalso; omega
    | succ t ih =>
      intro i f1 H locs ls g0 g1 g2 hl hP hD hS
      refine lv_iload_n hx hb dX0_bill_31 rfl (lv_at hl 1 rfl) ?_
      refine lv_iconst (v := nI 4) hx hb dX0_bill_32 (by decide) ?_
      refine gb_ge (tgt := 54) hx hb dX0_bill_33 (by decide) (by omega) (by omega) (fun c_33 => ?_) (fun c_33 => ?_)
      · exfalso; omega
      · refine lv_aload_n hx hb dX0_bill_36 rfl (lv_at hl 0 rfl) ?_
        refine xg_ke K hP dX0_bill_37 ?_
        refine lv_iload_n hx hb dX0_bill_40 rfl (lv_at hl 1 rfl) ?_
        refine lv_aload_n hx hb dX0_bill_41 rfl (lv_at hl 0 rfl) ?_
        refine xg_va K hP dX0_bill_42 ?_
        refine lv_iload_n hx hb dX0_bill_45 rfl (lv_at hl 1 rfl) ?_
        refine xl_va K hP (by omega) dX0_bill_46 ?_
        refine xs_ke K hP hD hS (by omega) dX0_bill_47 (fun H locs hP hD hS => ?_)
        refine lv_iinc (v := nI (i + 1)) (lv' := [(1, .int (nI (i + 1))), (0, .ref h)]) hx hb dX0_bill_48 hl (k := 1) rfl (nI_1 i) (by decide) rfl (fun ls hl => ?_)
        refine lv_goto (tgt := 31) hx hb dX0_bill_51 (by decide) ?_
        refine ih (i + 1) (upd f1 i (va i)) _ _ _ g0 (by omega) (fun j h1 => ?_) (lv_sub hl [1, 0] rfl) hP hD hS
        · unfold upd
          split
          · rename_i e1; rw [e1]
          · exact g2 j (by omega)
  have lp1 : ∀ (j i : Nat) (ls : Array Slot), i + j = sz → agN op j i = agN op sz 0 → lv_has ls 8 [(0, .ref h), (1, .int (nI i))] → W p l e (rmG 4) s m ([.ref h] : List Value).toArray below meth c H locs 0 0 Q (F0 m 2 ls []) := by
    intro j
    induction j with
    | zero =>
      intro i ls g1 g2 hl
      refine lv_iload_n hx hb dX0_bill_2 rfl (lv_at hl 1 rfl) ?_
      refine lv_aload_n hx hb dX0_bill_3 rfl (lv_at hl 0 rfl) ?_
      refine xg_sz K hP dX0_bill_4 ?_
      refine gb_ge (tgt := 29) hx hb dX0_bill_7 (by decide) (by omega) (by omega) (fun c_7 => ?_) (fun c_7 => ?_)
      · refine lv_iconst (v := nI 0) hx hb dX0_bill_29 (by decide) ?_
        refine lv_istore_n (lv' := [(1, .int (nI 0)), (0, .ref h)]) hx hb dX0_bill_30 rfl hl (by decide) rfl (fun ls hl => ?_)
        exact lp2 4 0 ke _ _ _ g2.symm (by omega) (fun j h => absurd h (by omega)) (lv_sub hl [1, 0] rfl) hP hD hS
      · exfalso; omega
    | succ j ih =>
      intro i ls g1 g2 hl
      refine lv_iload_n hx hb dX0_bill_2 rfl (lv_at hl 1 rfl) ?_
      refine lv_aload_n hx hb dX0_bill_3 rfl (lv_at hl 0 rfl) ?_
      refine xg_sz K hP dX0_bill_4 ?_
      refine gb_ge (tgt := 29) hx hb dX0_bill_7 (by decide) (by omega) (by omega) (fun c_7 => ?_) (fun c_7 => ?_)
      · exfalso; omega
      · refine lv_aload_n hx hb dX0_bill_10 rfl (lv_at hl 0 rfl) ?_
        refine xg_op K hP dX0_bill_11 ?_
        refine lv_iload_n hx hb dX0_bill_14 rfl (lv_at hl 1 rfl) ?_
        refine xl_op K hP (by omega) dX0_bill_15 ?_
        refine lv_bipush (v := nI 13) hx hb dX0_bill_16 (by decide) ?_
        refine lv_icmp_ne (tgt := 23) hx hb dX0_bill_18 (by decide) (fun c_18 => ?_) (fun c_18 => ?_)
        · refine lv_iinc (v := nI (i + 1)) (lv' := [(1, .int (nI (i + 1))), (0, .ref h)]) hx hb dX0_bill_23 hl (k := 1) rfl (nI_1 i) (by decide) rfl (fun ls hl => ?_)
          refine lv_goto (tgt := 2) hx hb dX0_bill_26 (by decide) ?_
          exact ih (i + 1) _ (by omega) (by rw [← g2, agN, if_neg c_18]) (lv_sub hl [1, 0] rfl)
        · refine lv_iconst (v := (-1)) hx hb dX0_bill_21 (by decide) ?_
          exact ret _ _ (-1) (pl, le, pr, ne, ri, ke, kp) _ _ dX0_bill_22 rfl ⟨by rw [if_neg (by rw [← g2, agN, if_pos c_18]; decide)], hpl⟩ hP hD hS
  refine lv_iconst (v := nI 0) hx hb dX0_bill_0 (by decide) ?_
  refine lv_istore_n (lv' := [(1, .int (nI 0)), (0, .ref h)]) hx hb dX0_bill_1 rfl hl (by decide) rfl (fun ls hl => ?_)
  exact lp1 sz 0 _ (by omega) rfl (lv_sub hl [1, 0] rfl)
end
section
set_option maxRecDepth 100000
/-! two worlds side by side (the class's and the model's), calls over them; the constructors -/
def zF : vF := fun _ => 0
def two (D : va_G) (A : Nat → Prop) (wa wb : va_W) (H : Heap) : Prop := va_P D gCl wa H ∧ va_P D gCl wb H ∧ va_D A wa ∧ va_D A wb ∧ ∀ (i j : Nat) (x y : Nat × va_E), wa[i]? = some x → wb[j]? = some y → x.1 ≠ y.1
theorem two.symm {D : va_G} {A : Nat → Prop} {wa wb : va_W} {H : Heap} (h : two D A wa wb H) : two D A wb wa H := ⟨h.2.1, h.1, h.2.2.2.1, h.2.2.1, fun i j x y hx hy e => h.2.2.2.2 j i y x hy hx e.symm⟩
theorem two_of {D : va_G} {A : Nat → Prop} {a b : va_W} {H : Heap} (hP : va_P D gCl (a ++ b) H) (hD : va_D A (a ++ b)) : two D A a b H := by
  have ha : ∀ (k : Nat) (q : Nat × va_E), a[k]? = some q → (a ++ b)[k]? = some q := fun k q h => by
    have hk := (List.getElem?_eq_some_iff.mp h).1
    rw [List.getElem?_append_left hk]
    exact h
  have hb : ∀ (k : Nat) (q : Nat × va_E), b[k]? = some q → (a ++ b)[a.length + k]? = some q := fun k q h => by
    rw [List.getElem?_append_right (by omega), show a.length + k - a.length = k by omega]
    exact h
  refine ⟨fun k q h => hP k q (ha k q h), fun k q h => hP _ q (hb k q h), ⟨fun i j x y hx hy e => hD.1 i j x y (ha i x hx) (ha j y hy) e, fun k q h => hD.2 k q (ha k q h)⟩, ⟨fun i j x y hx hy e => by have := hD.1 _ _ x y (hb i x hx) (hb j y hy) e; omega, fun k q h => hD.2 _ q (hb k q h)⟩, fun i j x y hx hy e => ?_⟩
  have h1 := hD.1 _ _ x y (ha i x hx) (hb j y hy) e
  have h2 := (List.getElem?_eq_some_iff.mp hx).1
  omega
theorem two_after {D : va_G} {A : Nat → Prop} {wa wb w1 : va_W} {H H1 : Heap} (h : two D A wa wb H) (hk : ∀ q : Nat, q < H.size → ¬ va_A wa H.size q → H1[q]? = H[q]?) (hP1 : va_P D gCl w1 H1) (hD1 : va_D (va_A wa H.size) w1) (hF : ∀ q, va_A wa H.size q → A q) : two D A w1 wb H1 := by
  have lt : ∀ (j : Nat) (y : Nat × va_E), wb[j]? = some y → y.1 < H.size := fun j y hy => (h.2.1 j y hy).lt
  have na : ∀ (j : Nat) (y : Nat × va_E), wb[j]? = some y → ¬ va_A wa H.size y.1 := by
    intro j y hy hq
    rcases hq with ⟨k, e, hk⟩ | hq
    · exact h.2.2.2.2 k j _ y hk hy rfl
    · exact absurd (lt j y hy) (Nat.not_lt.mpr hq)
  refine ⟨hP1, h.2.1.kept (fun k q hq => hk q.1 (lt k q hq) (na k q hq)), hD1.weaken (fun _ q _ hz => hF q.1 hz), h.2.2.2.1, ?_⟩
  intro i j x y hx hy e
  exact na j y hy (e ▸ hD1.2 i x hx)
/-- a constructor's contract: from the new object's world to the world wu r, r the new arrays' addresses -/
def MetN (l : Launch) (y : MethodName) (cc : ByteArray) (D : va_G) (d : ClassId) (b : Nat) (ws0 : va_W) (rm : Room) (mc ms : Nat) (wu : (Nat → Nat) → va_W) : Prop :=
  ∀ sz : Nat, Met l y (ws_ y cc 1 none) rm (va_Pc [.ref b] (fun U => U.heap.size = sz ∧ va_P D gCl ws0 U.heap ∧ va_K D gCl [(d, .int)] U ∧ va_D (fun _ => True) ws0))
    (va_Qv (fun _ : Nat → Nat => True) (fun (u : Nat → Nat) (t : State) => va_P D gCl (wu u) t.heap ∧ va_K D gCl [(d, .int)] t ∧ va_D (va_A ws0 sz) (wu u)) (va_A ws0 sz)) mc ms (va_A ws0 sz)
section GN
variable {p : Program} {l : Launch} {e : Env} {R : Room} {s : State} {m : MethodId} {args : Array Value} {below : List Frame} {meth : Method} {c : Code} {H H0 : Heap} {locs : List Loc} {cells slots : Nat} {Q : State → Prop} {cc : ByteArray} {pc : Nat} {ls : Array Slot} {rest : List Value} {D : va_G} {d : ClassId} {A : Nat → Prop} {nL : Nat} {ret : Option FieldType} {ws wb : va_W}
theorem gl_newa (hx : p.tables.exec = Jvm.exec) (hb : c.code = cc) (harr : (Cond.arrayClass .int).before args s = true) (hK : va_K D gCl [(d, .int)] s) (hP : va_P D gCl ws H) (hD : va_D A ws) (hS : va_S A H0 H locs) (hA : ∀ q, H0.size ≤ q → A q) {N : Nat} (hN : N ≤ 1000) (hcells : cells + 1 ≤ R.cells) (hslots : slots + N ≤ R.slots) (hdg : decode cc pc = .ok (.newarray .int, 2))
    (kk : ∀ (q : Nat) (H1 : Heap), va_P D gCl (ws ++ [(q, .inl (d, N, .inl zF))]) H1 → va_D A (ws ++ [(q, .inl (d, N, .inl zF))]) → va_S A H0 H1 locs → W p l e R s m args below meth c H1 locs (cells + 1) (slots + N) Q (F0 m (pc + 2) ls (.ref q :: rest))) : W p l e R s m args below meth c H locs cells slots Q (F0 m pc ls (.int (nI N) :: rest)) := by
  refine va_newa (atype := .int) (a0 := (N, .inl zF)) (N' := N) (ty := .int) (tys := [(d, .int)]) hx hb harr rfl hK hP hD hS hA (fun _ => rfl) (nI_pos (by omega)) (nI_clamp (by omega)) ?_ hcells hslots hdg (fun q cA H1 hK1 hP1 hD1 hS1 => ?_)
  · show N * 4 ≤ 536870912
    omega
  · have e1 : s.vm.findClass ("[" ++ FieldType.int.toString) = some d := (hK.2 0 (d, .int) rfl).2
    have e2 : s.vm.findClass ("[" ++ FieldType.int.toString) = some cA := (hK1.2 1 (cA, .int) rfl).2
    have e3 : cA = d := Option.some.inj (e2.symm.trans e1)
    rw [e3] at hP1 hD1
    exact kk q H1 hP1 hD1 hS1
theorem gl_calli {S : Type} {y : MethodName} {bytes : ByteArray} {maxL idx n : Nat} {rt : FieldType} {own C : String} {b : Nat} {As st : List Value} {rm : Room} {post : Int32 → S → Prop} {wu : S → va_W} {lv : List (Nat × Value)} (K : Cx own p c m meth s args cc nL ret D d A) (hM : MetI l y bytes maxL rt D d (.ref b :: As) ws rm post wu)
    (hg : GoodIn lw_all (wsV own idx C y (ws_ y bytes maxL (some rt)))) (hd : y.cls = C ∧ y.cls ≠ "java/lang/invoke/MethodHandle" ∧ y.cls ≠ "java/lang/invoke/VarHandle" ∧ (parseMethodDescriptor y.desc).map (fun d => d.parameters.length) = some n)
    (hR : rm.frames + 1 ≤ R.frames ∧ 8 + (maxL + 11) + rm.locals ≤ R.locals) (hrc : rm.cells = 0 ∧ rm.slots = 0) (hn : As.length = n) (ci : Nat) {q1 : vw_C} {fs : List Value} (hc : gCl[ci]? = some q1) (hC : q1.1 = C) (he : ws[0]? = some (b, .inr (ci, fs)))
    (hT : two D A ws wb H) (hS : va_S A s.heap H locs) (hl : lv_has ls nL lv) (hst : st = As.reverse ++ .ref b :: rest) (hrm : (rest.map fun v => v.category).sum ≤ 8) (hdg : decode cc pc = .ok (.invokevirtual idx, 3)) (hf : cells ≤ R.cells ∧ slots ≤ R.slots)
    (kk : ∀ (r : Int32) (u : S) (H1 : Heap) (locs1 : List Loc), post r u → two D A (wu u) wb H1 → va_S A s.heap H1 locs1 → W p l e R s m args below meth c H1 locs1 cells slots Q (F0 m (pc + 3) ls (.int r :: rest))) : W p l e R s m args below meth c H locs cells slots Q (F0 m pc ls st) := by
  subst hst
  subst hC
  obtain ⟨hx, hb, hts, hown, hK, hml, -, -, hA⟩ := K
  have hP := hT.1
  have hD := hT.2.2.1
  have hFc : ∀ q, va_A ws H.size q → A q := by
    intro q hq
    rcases hq with ⟨k, e, hk⟩ | hq
    · exact hD.2 k _ hk
    · exact hA q (Nat.le_trans hS.1 hq)
  refine va_calli (va_runV (As := As) (rest := rest) ⟨hx, hb, hml, hown, hts⟩ (hM H.size) (cwV n hts hg rfl hrc.1 hrc.2 hd hR) ⟨fun a U g mk q => by obtain ⟨q0, q1, qP, qK, qD⟩ := q; exact ⟨q0, q1, qP, va_K.moved (u := U) (U := U.calling g mk a) (Vm.Alike.refl U.vm) qK, qD⟩, va_recv hK hP hc he, fun U hU hW => ⟨rfl, by rw [hU], by rw [hU]; exact hP, va_K.moved hW.alike hK, hD.weaken (fun _ _ _ _ => trivial)⟩⟩ rfl hn hl.1 rfl (lv_room hrm) hdg hf) hS (fun q _ h => hFc q h) hFc (fun r u t H1 locs1 ht hvm hp hB hz hk hS => ?_)
  obtain ⟨hP1, hK1, hD1⟩ := hB
  rw [ht] at hP1
  exact kk r u H1 locs1 hp (two_after hT hk hP1 hD1 hFc) hS
theorem gl_callv {S : Type} {y : MethodName} {bytes : ByteArray} {maxL idx n : Nat}  {own C : String} {b : Nat} {As st : List Value} {rm : Room} {post : S → Prop} {wu : S → va_W} {lv : List (Nat × Value)} (K : Cx own p c m meth s args cc nL ret D d A) (hM : MetV l y bytes maxL D d (.ref b :: As) ws rm post wu)
    (hg : GoodIn lw_all (wsV own idx C y (ws_ y bytes maxL none))) (hd : y.cls = C ∧ y.cls ≠ "java/lang/invoke/MethodHandle" ∧ y.cls ≠ "java/lang/invoke/VarHandle" ∧ (parseMethodDescriptor y.desc).map (fun d => d.parameters.length) = some n)
    (hR : rm.frames + 1 ≤ R.frames ∧ 8 + (maxL + 11) + rm.locals ≤ R.locals) (hrc : rm.cells = 0 ∧ rm.slots = 0) (hn : As.length = n) (ci : Nat) {q1 : vw_C} {fs : List Value} (hc : gCl[ci]? = some q1) (hC : q1.1 = C) (he : ws[0]? = some (b, .inr (ci, fs)))
    (hT : two D A ws wb H) (hS : va_S A s.heap H locs) (hl : lv_has ls nL lv) (hst : st = As.reverse ++ .ref b :: rest) (hrm : (rest.map fun v => v.category).sum ≤ 8) (hdg : decode cc pc = .ok (.invokevirtual idx, 3)) (hf : cells ≤ R.cells ∧ slots ≤ R.slots)
    (kk : ∀ (u : S) (H1 : Heap) (locs1 : List Loc), post u → two D A (wu u) wb H1 → va_S A s.heap H1 locs1 → W p l e R s m args below meth c H1 locs1 cells slots Q (F0 m (pc + 3) ls (rest))) : W p l e R s m args below meth c H locs cells slots Q (F0 m pc ls st) := by
  subst hst
  subst hC
  obtain ⟨hx, hb, hts, hown, hK, hml, -, -, hA⟩ := K
  have hP := hT.1
  have hD := hT.2.2.1
  have hFc : ∀ q, va_A ws H.size q → A q := by
    intro q hq
    rcases hq with ⟨k, e, hk⟩ | hq
    · exact hD.2 k _ hk
    · exact hA q (Nat.le_trans hS.1 hq)
  refine va_callv (va_runV (As := As) (rest := rest) ⟨hx, hb, hml, hown, hts⟩ (hM H.size) (cwV n hts hg rfl hrc.1 hrc.2 hd hR) ⟨fun a U g mk q => by obtain ⟨q0, q1, qP, qK, qD⟩ := q; exact ⟨q0, q1, qP, va_K.moved (u := U) (U := U.calling g mk a) (Vm.Alike.refl U.vm) qK, qD⟩, va_recv hK hP hc he, fun U hU hW => ⟨rfl, by rw [hU], by rw [hU]; exact hP, va_K.moved hW.alike hK, hD.weaken (fun _ _ _ _ => trivial)⟩⟩ rfl hn hl.1 rfl (lv_room hrm) hdg hf) hS (fun q _ h => hFc q h) hFc (fun u t H1 locs1 ht hvm hp hB hz hk hS => ?_)
  obtain ⟨hP1, hK1, hD1⟩ := hB
  rw [ht] at hP1
  exact kk u H1 locs1 hp (two_after hT hk hP1 hD1 hFc) hS
theorem gl_init {y : MethodName} {bytes : ByteArray} {idx mc ms : Nat} {own : String} {b : Nat} {rm : Room} {wu : (Nat → Nat) → va_W} {lv : List (Nat × Value)} (K : Cx own p c m meth s args cc nL ret D d A) (hM : MetN l y bytes D d b ws rm mc ms wu)
    (hg : Cond.code y bytes 1 none ∈ lw_all) (hi : Cond.initialized y.cls ∈ lw_all) (hk : Cond.methodLink own idx y ∈ lw_all) (hj : Cond.instanceMethod y ∈ lw_all) (hy : y.name = "<init>") (hd : y.cls ≠ "java/lang/invoke/MethodHandle" ∧ y.cls ≠ "java/lang/invoke/VarHandle" ∧ (parseMethodDescriptor y.desc).map (fun d => d.parameters.length) = some 0)
    (hR : rm.frames + 1 ≤ R.frames ∧ 8 + (1 + 11) + rm.locals ≤ R.locals) (hrc : rm.cells = mc ∧ rm.slots = ms)
    (hT : two D A ws wb H) (hS : va_S A s.heap H locs) (hl : lv_has ls nL lv) (hrm : (rest.map fun v => v.category).sum ≤ 8) (hdg : decode cc pc = .ok (.invokespecial idx, 3)) (hf : cells + mc ≤ R.cells ∧ slots + ms ≤ R.slots)
    (kk : ∀ (r : Nat → Nat) (H1 : Heap) (locs1 : List Loc), two D A (wu r) wb H1 → va_S A s.heap H1 locs1 → W p l e R s m args below meth c H1 locs1 (cells + mc) (slots + ms) Q (F0 m (pc + 3) ls rest)) : W p l e R s m args below meth c H locs cells slots Q (F0 m pc ls (.ref b :: rest)) := by
  obtain ⟨hx, hb, hts, hown, hK, hml, -, -, hA⟩ := K
  have hP := hT.1
  have hD := hT.2.2.1
  have hFc : ∀ q, va_A ws H.size q → A q := by
    intro q hq
    rcases hq with ⟨k, e, hk⟩ | hq
    · exact hD.2 k _ hk
    · exact hA q (Nat.le_trans hS.1 hq)
  refine va_callv (va_runI (As := []) (rest := rest) ⟨hx, hb, hml, hown, hts⟩ (hM H.size) (cwI 0 hts (lw_meth hg) rfl hrc.1 hrc.2 (hts _ hi) (hts _ hk) (hts _ hj) hy hd hR) ⟨fun a U g mk q => by obtain ⟨q0, q1, qP, qK, qD⟩ := q; exact ⟨q0, q1, qP, va_K.moved (u := U) (U := U.calling g mk a) (Vm.Alike.refl U.vm) qK, qD⟩, fun U hU hW => ⟨rfl, by rw [hU], by rw [hU]; exact hP, va_K.moved hW.alike hK, hD.weaken (fun _ _ _ _ => trivial)⟩⟩ rfl rfl hl.1 rfl (lv_room hrm) hdg hf) hS (fun q _ h => hFc q h) hFc (fun u t H1 locs1 ht hvm hp hB hz hk hS => ?_)
  obtain ⟨hP1, hK1, hD1⟩ := hB
  rw [ht] at hP1
  exact kk u H1 locs1 (two_after hT hk hP1 hD1 hFc) hS
end GN
abbrev zX : List Value := [.int (nI 0), .null, .null, .null, .int (nI 0), .int (nI 0), .null, .null, .null, .null, .int (nI 0), .int (nI 0), .int (nI 0), .int (nI 0), .int (nI 0), .null, .null, .null]
set_option maxHeartbeats 4000000 in
set_option maxRecDepth 100000 in
/-- the constructor of GasMeter: 10 arrays of zeros, 148 slots -/
theorem metX_init (l : Launch) (D : va_G) (d : ClassId) (h : Nat) : MetN l yX0_init cX0_init D d h [(h, .inr (0, zX))] ({ frames := 1, cells := 10, slots := 148, locals := 12 }) 10 148 (fun r : Nat → Nat => wX h r d 0 zF zF zF 0 0 zF zF zF zF 0 0 0 0 0 zF zF zF) := by
  intro sz
  refine Met.ofW (cc := cX0_init) (maxL := 1) (ret := none) (by decide +kernel) rfl ?_
  intro p e s m args below meth c s₁ B hml hv
  obtain ⟨rfl, hsz, hP, hK, hD0⟩ := hv
  have hx := B.exec
  have hb := B.bytes
  have hr := B.returns
  have hts := atoms_spec (ws := ws_ yX0_init cX0_init 1 none) B.pre
  have hts : ∀ w ∈ lw_all, w.before _ s = true := fun w h => hts w (List.mem_cons_of_mem _ h)
  have hown : s.vm.findClass RX0 = some m.cls := findClass_of_methodNamed B.named
  have hlocks := B.notSynchronized
  have hin : meth.name = "<init>" := (name_of_methodNamed B.named B.method).1
  subst hsz
  have hD := hD0.self (sz := s.heap.size)
  generalize hAe : va_A [(h, .inr (0, zX))] s.heap.size = A at hD ⊢
  have hA : ∀ q : Nat, s.heap.size ≤ q → A q := fun q h => by rw [← hAe]; exact Or.inr h
  have hS : va_S A s.heap s.heap [] := va_S.rf
  have hl := lv_entry ([.ref h]) (n := 1) (Nat.le_of_ble_eq_true rfl)
  rw [lg_entry_eq]
  generalize (lg_sl ([.ref h]) ++ List.replicate (1 - (lg_sl ([.ref h])).length) Slot.unset).toArray = ls at hl ⊢
  have hl : lv_has ls 1 [(0, .ref h)] := hl
  refine lv_aload_n hx hb dX0_init_0 rfl (lv_at hl 0 rfl) ?_
  refine W.objInit hx hb hown (hts _ q34) (hts _ q35) (hts _ q36) rfl (by rw [hml]; exact hl.1) rfl dX0_init_1 (Nat.le_of_ble_eq_true rfl) (Nat.le_of_ble_eq_true rfl) ?_
  refine W.eq (g2 := F0 m 4 ls []) rfl ?_
  refine lv_aload_n hx hb dX0_init_4 rfl (lv_at hl 0 rfl) ?_
  refine lv_bipush (v := nI 20) hx hb dX0_init_5 (by decide) ?_
  refine gl_newa (d := d) hx hb (hts _ q92) hK hP hD hS hA (N := 20) (by decide) (Nat.le_of_ble_eq_true rfl) (Nat.le_of_ble_eq_true rfl) dX0_init_7 (fun q0 H hP hD hS => ?_)
  refine W.widen (k := 1) (n := 20) (Nat.le_refl _) (Nat.le_refl _) ?_
  have hP : va_P D gCl [(h, .inr (0, [.int (nI 0), .null, .null, .null, .int (nI 0), .int (nI 0), .null, .null, .null, .null, .int (nI 0), .int (nI 0), .int (nI 0), .int (nI 0), .int (nI 0), .null, .null, .null])), (q0, .inl (d, 20, .inl zF))] H := hP
  have hD : va_D A [(h, .inr (0, [.int (nI 0), .null, .null, .null, .int (nI 0), .int (nI 0), .null, .null, .null, .null, .int (nI 0), .int (nI 0), .int (nI 0), .int (nI 0), .int (nI 0), .null, .null, .null])), (q0, .inl (d, 20, .inl zF))] := hD
  refine va_putF (D := D) (ci := 0) (v := .ref q0) (ty := .array .int) (C := RX0) (T := TX0) (N := 18) hx hb hts in_X0 tyX0 tyX0_ok nmX0 hown hK hP hD hS 0 rfl rfl 1 (by decide) (hts _ q38) (fun _ h9 => h9) rfl hin rfl (by decide +kernel) rfl rfl (Nat.le_of_ble_eq_true rfl) dX0_init_9 (fun H locs hP hD hS => ?_)
  have hP : va_P D gCl [(h, .inr (0, [.int (nI 0), .ref q0, .null, .null, .int (nI 0), .int (nI 0), .null, .null, .null, .null, .int (nI 0), .int (nI 0), .int (nI 0), .int (nI 0), .int (nI 0), .null, .null, .null])), (q0, .inl (d, 20, .inl zF))] H := hP
  have hD : va_D A [(h, .inr (0, [.int (nI 0), .ref q0, .null, .null, .int (nI 0), .int (nI 0), .null, .null, .null, .null, .int (nI 0), .int (nI 0), .int (nI 0), .int (nI 0), .int (nI 0), .null, .null, .null])), (q0, .inl (d, 20, .inl zF))] := hD
  refine lv_aload_n hx hb dX0_init_12 rfl (lv_at hl 0 rfl) ?_
  refine lv_bipush (v := nI 20) hx hb dX0_init_13 (by decide) ?_
  refine gl_newa (d := d) hx hb (hts _ q92) hK hP hD hS hA (N := 20) (by decide) (Nat.le_of_ble_eq_true rfl) (Nat.le_of_ble_eq_true rfl) dX0_init_15 (fun q1 H hP hD hS => ?_)
  refine W.widen (k := 2) (n := 40) (Nat.le_refl _) (Nat.le_refl _) ?_
  have hP : va_P D gCl [(h, .inr (0, [.int (nI 0), .ref q0, .null, .null, .int (nI 0), .int (nI 0), .null, .null, .null, .null, .int (nI 0), .int (nI 0), .int (nI 0), .int (nI 0), .int (nI 0), .null, .null, .null])), (q0, .inl (d, 20, .inl zF)), (q1, .inl (d, 20, .inl zF))] H := hP
  have hD : va_D A [(h, .inr (0, [.int (nI 0), .ref q0, .null, .null, .int (nI 0), .int (nI 0), .null, .null, .null, .null, .int (nI 0), .int (nI 0), .int (nI 0), .int (nI 0), .int (nI 0), .null, .null, .null])), (q0, .inl (d, 20, .inl zF)), (q1, .inl (d, 20, .inl zF))] := hD
  refine va_putF (D := D) (ci := 0) (v := .ref q1) (ty := .array .int) (C := RX0) (T := TX0) (N := 18) hx hb hts in_X0 tyX0 tyX0_ok nmX0 hown hK hP hD hS 0 rfl rfl 2 (by decide) (hts _ q39) (fun _ h9 => h9) rfl hin rfl (by decide +kernel) rfl rfl (Nat.le_of_ble_eq_true rfl) dX0_init_17 (fun H locs hP hD hS => ?_)
  have hP : va_P D gCl [(h, .inr (0, [.int (nI 0), .ref q0, .ref q1, .null, .int (nI 0), .int (nI 0), .null, .null, .null, .null, .int (nI 0), .int (nI 0), .int (nI 0), .int (nI 0), .int (nI 0), .null, .null, .null])), (q0, .inl (d, 20, .inl zF)), (q1, .inl (d, 20, .inl zF))] H := hP
  have hD : va_D A [(h, .inr (0, [.int (nI 0), .ref q0, .ref q1, .null, .int (nI 0), .int (nI 0), .null, .null, .null, .null, .int (nI 0), .int (nI 0), .int (nI 0), .int (nI 0), .int (nI 0), .null, .null, .null])), (q0, .inl (d, 20, .inl zF)), (q1, .inl (d, 20, .inl zF))] := hD
  refine lv_aload_n hx hb dX0_init_20 rfl (lv_at hl 0 rfl) ?_
  refine lv_iconst (v := nI 4) hx hb dX0_init_21 (by decide) ?_
  refine gl_newa (d := d) hx hb (hts _ q92) hK hP hD hS hA (N := 4) (by decide) (Nat.le_of_ble_eq_true rfl) (Nat.le_of_ble_eq_true rfl) dX0_init_22 (fun q2 H hP hD hS => ?_)
  refine W.widen (k := 3) (n := 44) (Nat.le_refl _) (Nat.le_refl _) ?_
  have hP : va_P D gCl [(h, .inr (0, [.int (nI 0), .ref q0, .ref q1, .null, .int (nI 0), .int (nI 0), .null, .null, .null, .null, .int (nI 0), .int (nI 0), .int (nI 0), .int (nI 0), .int (nI 0), .null, .null, .null])), (q0, .inl (d, 20, .inl zF)), (q1, .inl (d, 20, .inl zF)), (q2, .inl (d, 4, .inl zF))] H := hP
  have hD : va_D A [(h, .inr (0, [.int (nI 0), .ref q0, .ref q1, .null, .int (nI 0), .int (nI 0), .null, .null, .null, .null, .int (nI 0), .int (nI 0), .int (nI 0), .int (nI 0), .int (nI 0), .null, .null, .null])), (q0, .inl (d, 20, .inl zF)), (q1, .inl (d, 20, .inl zF)), (q2, .inl (d, 4, .inl zF))] := hD
  refine va_putF (D := D) (ci := 0) (v := .ref q2) (ty := .array .int) (C := RX0) (T := TX0) (N := 18) hx hb hts in_X0 tyX0 tyX0_ok nmX0 hown hK hP hD hS 0 rfl rfl 3 (by decide) (hts _ q40) (fun _ h9 => h9) rfl hin rfl (by decide +kernel) rfl rfl (Nat.le_of_ble_eq_true rfl) dX0_init_24 (fun H locs hP hD hS => ?_)
  have hP : va_P D gCl [(h, .inr (0, [.int (nI 0), .ref q0, .ref q1, .ref q2, .int (nI 0), .int (nI 0), .null, .null, .null, .null, .int (nI 0), .int (nI 0), .int (nI 0), .int (nI 0), .int (nI 0), .null, .null, .null])), (q0, .inl (d, 20, .inl zF)), (q1, .inl (d, 20, .inl zF)), (q2, .inl (d, 4, .inl zF))] H := hP
  have hD : va_D A [(h, .inr (0, [.int (nI 0), .ref q0, .ref q1, .ref q2, .int (nI 0), .int (nI 0), .null, .null, .null, .null, .int (nI 0), .int (nI 0), .int (nI 0), .int (nI 0), .int (nI 0), .null, .null, .null])), (q0, .inl (d, 20, .inl zF)), (q1, .inl (d, 20, .inl zF)), (q2, .inl (d, 4, .inl zF))] := hD
  refine lv_aload_n hx hb dX0_init_27 rfl (lv_at hl 0 rfl) ?_
  refine lv_bipush (v := nI 21) hx hb dX0_init_28 (by decide) ?_
  refine gl_newa (d := d) hx hb (hts _ q92) hK hP hD hS hA (N := 21) (by decide) (Nat.le_of_ble_eq_true rfl) (Nat.le_of_ble_eq_true rfl) dX0_init_30 (fun q3 H hP hD hS => ?_)
  refine W.widen (k := 4) (n := 65) (Nat.le_refl _) (Nat.le_refl _) ?_
  have hP : va_P D gCl [(h, .inr (0, [.int (nI 0), .ref q0, .ref q1, .ref q2, .int (nI 0), .int (nI 0), .null, .null, .null, .null, .int (nI 0), .int (nI 0), .int (nI 0), .int (nI 0), .int (nI 0), .null, .null, .null])), (q0, .inl (d, 20, .inl zF)), (q1, .inl (d, 20, .inl zF)), (q2, .inl (d, 4, .inl zF)), (q3, .inl (d, 21, .inl zF))] H := hP
  have hD : va_D A [(h, .inr (0, [.int (nI 0), .ref q0, .ref q1, .ref q2, .int (nI 0), .int (nI 0), .null, .null, .null, .null, .int (nI 0), .int (nI 0), .int (nI 0), .int (nI 0), .int (nI 0), .null, .null, .null])), (q0, .inl (d, 20, .inl zF)), (q1, .inl (d, 20, .inl zF)), (q2, .inl (d, 4, .inl zF)), (q3, .inl (d, 21, .inl zF))] := hD
  refine va_putF (D := D) (ci := 0) (v := .ref q3) (ty := .array .int) (C := RX0) (T := TX0) (N := 18) hx hb hts in_X0 tyX0 tyX0_ok nmX0 hown hK hP hD hS 0 rfl rfl 6 (by decide) (hts _ q43) (fun _ h9 => h9) rfl hin rfl (by decide +kernel) rfl rfl (Nat.le_of_ble_eq_true rfl) dX0_init_32 (fun H locs hP hD hS => ?_)
  have hP : va_P D gCl [(h, .inr (0, [.int (nI 0), .ref q0, .ref q1, .ref q2, .int (nI 0), .int (nI 0), .ref q3, .null, .null, .null, .int (nI 0), .int (nI 0), .int (nI 0), .int (nI 0), .int (nI 0), .null, .null, .null])), (q0, .inl (d, 20, .inl zF)), (q1, .inl (d, 20, .inl zF)), (q2, .inl (d, 4, .inl zF)), (q3, .inl (d, 21, .inl zF))] H := hP
  have hD : va_D A [(h, .inr (0, [.int (nI 0), .ref q0, .ref q1, .ref q2, .int (nI 0), .int (nI 0), .ref q3, .null, .null, .null, .int (nI 0), .int (nI 0), .int (nI 0), .int (nI 0), .int (nI 0), .null, .null, .null])), (q0, .inl (d, 20, .inl zF)), (q1, .inl (d, 20, .inl zF)), (q2, .inl (d, 4, .inl zF)), (q3, .inl (d, 21, .inl zF))] := hD
  refine lv_aload_n hx hb dX0_init_35 rfl (lv_at hl 0 rfl) ?_
  refine lv_bipush (v := nI 21) hx hb dX0_init_36 (by decide) ?_
  refine gl_newa (d := d) hx hb (hts _ q92) hK hP hD hS hA (N := 21) (by decide) (Nat.le_of_ble_eq_true rfl) (Nat.le_of_ble_eq_true rfl) dX0_init_38 (fun q4 H hP hD hS => ?_)
  refine W.widen (k := 5) (n := 86) (Nat.le_refl _) (Nat.le_refl _) ?_
  have hP : va_P D gCl [(h, .inr (0, [.int (nI 0), .ref q0, .ref q1, .ref q2, .int (nI 0), .int (nI 0), .ref q3, .null, .null, .null, .int (nI 0), .int (nI 0), .int (nI 0), .int (nI 0), .int (nI 0), .null, .null, .null])), (q0, .inl (d, 20, .inl zF)), (q1, .inl (d, 20, .inl zF)), (q2, .inl (d, 4, .inl zF)), (q3, .inl (d, 21, .inl zF)), (q4, .inl (d, 21, .inl zF))] H := hP
  have hD : va_D A [(h, .inr (0, [.int (nI 0), .ref q0, .ref q1, .ref q2, .int (nI 0), .int (nI 0), .ref q3, .null, .null, .null, .int (nI 0), .int (nI 0), .int (nI 0), .int (nI 0), .int (nI 0), .null, .null, .null])), (q0, .inl (d, 20, .inl zF)), (q1, .inl (d, 20, .inl zF)), (q2, .inl (d, 4, .inl zF)), (q3, .inl (d, 21, .inl zF)), (q4, .inl (d, 21, .inl zF))] := hD
  refine va_putF (D := D) (ci := 0) (v := .ref q4) (ty := .array .int) (C := RX0) (T := TX0) (N := 18) hx hb hts in_X0 tyX0 tyX0_ok nmX0 hown hK hP hD hS 0 rfl rfl 7 (by decide) (hts _ q44) (fun _ h9 => h9) rfl hin rfl (by decide +kernel) rfl rfl (Nat.le_of_ble_eq_true rfl) dX0_init_40 (fun H locs hP hD hS => ?_)
  have hP : va_P D gCl [(h, .inr (0, [.int (nI 0), .ref q0, .ref q1, .ref q2, .int (nI 0), .int (nI 0), .ref q3, .ref q4, .null, .null, .int (nI 0), .int (nI 0), .int (nI 0), .int (nI 0), .int (nI 0), .null, .null, .null])), (q0, .inl (d, 20, .inl zF)), (q1, .inl (d, 20, .inl zF)), (q2, .inl (d, 4, .inl zF)), (q3, .inl (d, 21, .inl zF)), (q4, .inl (d, 21, .inl zF))] H := hP
  have hD : va_D A [(h, .inr (0, [.int (nI 0), .ref q0, .ref q1, .ref q2, .int (nI 0), .int (nI 0), .ref q3, .ref q4, .null, .null, .int (nI 0), .int (nI 0), .int (nI 0), .int (nI 0), .int (nI 0), .null, .null, .null])), (q0, .inl (d, 20, .inl zF)), (q1, .inl (d, 20, .inl zF)), (q2, .inl (d, 4, .inl zF)), (q3, .inl (d, 21, .inl zF)), (q4, .inl (d, 21, .inl zF))] := hD
  refine lv_aload_n hx hb dX0_init_43 rfl (lv_at hl 0 rfl) ?_
  refine lv_bipush (v := nI 21) hx hb dX0_init_44 (by decide) ?_
  refine gl_newa (d := d) hx hb (hts _ q92) hK hP hD hS hA (N := 21) (by decide) (Nat.le_of_ble_eq_true rfl) (Nat.le_of_ble_eq_true rfl) dX0_init_46 (fun q5 H hP hD hS => ?_)
  refine W.widen (k := 6) (n := 107) (Nat.le_refl _) (Nat.le_refl _) ?_
  have hP : va_P D gCl [(h, .inr (0, [.int (nI 0), .ref q0, .ref q1, .ref q2, .int (nI 0), .int (nI 0), .ref q3, .ref q4, .null, .null, .int (nI 0), .int (nI 0), .int (nI 0), .int (nI 0), .int (nI 0), .null, .null, .null])), (q0, .inl (d, 20, .inl zF)), (q1, .inl (d, 20, .inl zF)), (q2, .inl (d, 4, .inl zF)), (q3, .inl (d, 21, .inl zF)), (q4, .inl (d, 21, .inl zF)), (q5, .inl (d, 21, .inl zF))] H := hP
  have hD : va_D A [(h, .inr (0, [.int (nI 0), .ref q0, .ref q1, .ref q2, .int (nI 0), .int (nI 0), .ref q3, .ref q4, .null, .null, .int (nI 0), .int (nI 0), .int (nI 0), .int (nI 0), .int (nI 0), .null, .null, .null])), (q0, .inl (d, 20, .inl zF)), (q1, .inl (d, 20, .inl zF)), (q2, .inl (d, 4, .inl zF)), (q3, .inl (d, 21, .inl zF)), (q4, .inl (d, 21, .inl zF)), (q5, .inl (d, 21, .inl zF))] := hD
  refine va_putF (D := D) (ci := 0) (v := .ref q5) (ty := .array .int) (C := RX0) (T := TX0) (N := 18) hx hb hts in_X0 tyX0 tyX0_ok nmX0 hown hK hP hD hS 0 rfl rfl 8 (by decide) (hts _ q45) (fun _ h9 => h9) rfl hin rfl (by decide +kernel) rfl rfl (Nat.le_of_ble_eq_true rfl) dX0_init_48 (fun H locs hP hD hS => ?_)
  have hP : va_P D gCl [(h, .inr (0, [.int (nI 0), .ref q0, .ref q1, .ref q2, .int (nI 0), .int (nI 0), .ref q3, .ref q4, .ref q5, .null, .int (nI 0), .int (nI 0), .int (nI 0), .int (nI 0), .int (nI 0), .null, .null, .null])), (q0, .inl (d, 20, .inl zF)), (q1, .inl (d, 20, .inl zF)), (q2, .inl (d, 4, .inl zF)), (q3, .inl (d, 21, .inl zF)), (q4, .inl (d, 21, .inl zF)), (q5, .inl (d, 21, .inl zF))] H := hP
  have hD : va_D A [(h, .inr (0, [.int (nI 0), .ref q0, .ref q1, .ref q2, .int (nI 0), .int (nI 0), .ref q3, .ref q4, .ref q5, .null, .int (nI 0), .int (nI 0), .int (nI 0), .int (nI 0), .int (nI 0), .null, .null, .null])), (q0, .inl (d, 20, .inl zF)), (q1, .inl (d, 20, .inl zF)), (q2, .inl (d, 4, .inl zF)), (q3, .inl (d, 21, .inl zF)), (q4, .inl (d, 21, .inl zF)), (q5, .inl (d, 21, .inl zF))] := hD
  refine lv_aload_n hx hb dX0_init_51 rfl (lv_at hl 0 rfl) ?_
  refine lv_bipush (v := nI 21) hx hb dX0_init_52 (by decide) ?_
  refine gl_newa (d := d) hx hb (hts _ q92) hK hP hD hS hA (N := 21) (by decide) (Nat.le_of_ble_eq_true rfl) (Nat.le_of_ble_eq_true rfl) dX0_init_54 (fun q6 H hP hD hS => ?_)
  refine W.widen (k := 7) (n := 128) (Nat.le_refl _) (Nat.le_refl _) ?_
  have hP : va_P D gCl [(h, .inr (0, [.int (nI 0), .ref q0, .ref q1, .ref q2, .int (nI 0), .int (nI 0), .ref q3, .ref q4, .ref q5, .null, .int (nI 0), .int (nI 0), .int (nI 0), .int (nI 0), .int (nI 0), .null, .null, .null])), (q0, .inl (d, 20, .inl zF)), (q1, .inl (d, 20, .inl zF)), (q2, .inl (d, 4, .inl zF)), (q3, .inl (d, 21, .inl zF)), (q4, .inl (d, 21, .inl zF)), (q5, .inl (d, 21, .inl zF)), (q6, .inl (d, 21, .inl zF))] H := hP
  have hD : va_D A [(h, .inr (0, [.int (nI 0), .ref q0, .ref q1, .ref q2, .int (nI 0), .int (nI 0), .ref q3, .ref q4, .ref q5, .null, .int (nI 0), .int (nI 0), .int (nI 0), .int (nI 0), .int (nI 0), .null, .null, .null])), (q0, .inl (d, 20, .inl zF)), (q1, .inl (d, 20, .inl zF)), (q2, .inl (d, 4, .inl zF)), (q3, .inl (d, 21, .inl zF)), (q4, .inl (d, 21, .inl zF)), (q5, .inl (d, 21, .inl zF)), (q6, .inl (d, 21, .inl zF))] := hD
  refine va_putF (D := D) (ci := 0) (v := .ref q6) (ty := .array .int) (C := RX0) (T := TX0) (N := 18) hx hb hts in_X0 tyX0 tyX0_ok nmX0 hown hK hP hD hS 0 rfl rfl 9 (by decide) (hts _ q46) (fun _ h9 => h9) rfl hin rfl (by decide +kernel) rfl rfl (Nat.le_of_ble_eq_true rfl) dX0_init_56 (fun H locs hP hD hS => ?_)
  have hP : va_P D gCl [(h, .inr (0, [.int (nI 0), .ref q0, .ref q1, .ref q2, .int (nI 0), .int (nI 0), .ref q3, .ref q4, .ref q5, .ref q6, .int (nI 0), .int (nI 0), .int (nI 0), .int (nI 0), .int (nI 0), .null, .null, .null])), (q0, .inl (d, 20, .inl zF)), (q1, .inl (d, 20, .inl zF)), (q2, .inl (d, 4, .inl zF)), (q3, .inl (d, 21, .inl zF)), (q4, .inl (d, 21, .inl zF)), (q5, .inl (d, 21, .inl zF)), (q6, .inl (d, 21, .inl zF))] H := hP
  have hD : va_D A [(h, .inr (0, [.int (nI 0), .ref q0, .ref q1, .ref q2, .int (nI 0), .int (nI 0), .ref q3, .ref q4, .ref q5, .ref q6, .int (nI 0), .int (nI 0), .int (nI 0), .int (nI 0), .int (nI 0), .null, .null, .null])), (q0, .inl (d, 20, .inl zF)), (q1, .inl (d, 20, .inl zF)), (q2, .inl (d, 4, .inl zF)), (q3, .inl (d, 21, .inl zF)), (q4, .inl (d, 21, .inl zF)), (q5, .inl (d, 21, .inl zF)), (q6, .inl (d, 21, .inl zF))] := hD
  refine lv_aload_n hx hb dX0_init_59 rfl (lv_at hl 0 rfl) ?_
  refine lv_bipush (v := nI 8) hx hb dX0_init_60 (by decide) ?_
  refine gl_newa (d := d) hx hb (hts _ q92) hK hP hD hS hA (N := 8) (by decide) (Nat.le_of_ble_eq_true rfl) (Nat.le_of_ble_eq_true rfl) dX0_init_62 (fun q7 H hP hD hS => ?_)
  refine W.widen (k := 8) (n := 136) (Nat.le_refl _) (Nat.le_refl _) ?_
  have hP : va_P D gCl [(h, .inr (0, [.int (nI 0), .ref q0, .ref q1, .ref q2, .int (nI 0), .int (nI 0), .ref q3, .ref q4, .ref q5, .ref q6, .int (nI 0), .int (nI 0), .int (nI 0), .int (nI 0), .int (nI 0), .null, .null, .null])), (q0, .inl (d, 20, .inl zF)), (q1, .inl (d, 20, .inl zF)), (q2, .inl (d, 4, .inl zF)), (q3, .inl (d, 21, .inl zF)), (q4, .inl (d, 21, .inl zF)), (q5, .inl (d, 21, .inl zF)), (q6, .inl (d, 21, .inl zF)), (q7, .inl (d, 8, .inl zF))] H := hP
  have hD : va_D A [(h, .inr (0, [.int (nI 0), .ref q0, .ref q1, .ref q2, .int (nI 0), .int (nI 0), .ref q3, .ref q4, .ref q5, .ref q6, .int (nI 0), .int (nI 0), .int (nI 0), .int (nI 0), .int (nI 0), .null, .null, .null])), (q0, .inl (d, 20, .inl zF)), (q1, .inl (d, 20, .inl zF)), (q2, .inl (d, 4, .inl zF)), (q3, .inl (d, 21, .inl zF)), (q4, .inl (d, 21, .inl zF)), (q5, .inl (d, 21, .inl zF)), (q6, .inl (d, 21, .inl zF)), (q7, .inl (d, 8, .inl zF))] := hD
  refine va_putF (D := D) (ci := 0) (v := .ref q7) (ty := .array .int) (C := RX0) (T := TX0) (N := 18) hx hb hts in_X0 tyX0 tyX0_ok nmX0 hown hK hP hD hS 0 rfl rfl 15 (by decide) (hts _ q52) (fun _ h9 => h9) rfl hin rfl (by decide +kernel) rfl rfl (Nat.le_of_ble_eq_true rfl) dX0_init_64 (fun H locs hP hD hS => ?_)
  have hP : va_P D gCl [(h, .inr (0, [.int (nI 0), .ref q0, .ref q1, .ref q2, .int (nI 0), .int (nI 0), .ref q3, .ref q4, .ref q5, .ref q6, .int (nI 0), .int (nI 0), .int (nI 0), .int (nI 0), .int (nI 0), .ref q7, .null, .null])), (q0, .inl (d, 20, .inl zF)), (q1, .inl (d, 20, .inl zF)), (q2, .inl (d, 4, .inl zF)), (q3, .inl (d, 21, .inl zF)), (q4, .inl (d, 21, .inl zF)), (q5, .inl (d, 21, .inl zF)), (q6, .inl (d, 21, .inl zF)), (q7, .inl (d, 8, .inl zF))] H := hP
  have hD : va_D A [(h, .inr (0, [.int (nI 0), .ref q0, .ref q1, .ref q2, .int (nI 0), .int (nI 0), .ref q3, .ref q4, .ref q5, .ref q6, .int (nI 0), .int (nI 0), .int (nI 0), .int (nI 0), .int (nI 0), .ref q7, .null, .null])), (q0, .inl (d, 20, .inl zF)), (q1, .inl (d, 20, .inl zF)), (q2, .inl (d, 4, .inl zF)), (q3, .inl (d, 21, .inl zF)), (q4, .inl (d, 21, .inl zF)), (q5, .inl (d, 21, .inl zF)), (q6, .inl (d, 21, .inl zF)), (q7, .inl (d, 8, .inl zF))] := hD
  refine lv_aload_n hx hb dX0_init_67 rfl (lv_at hl 0 rfl) ?_
  refine lv_iconst (v := nI 4) hx hb dX0_init_68 (by decide) ?_
  refine gl_newa (d := d) hx hb (hts _ q92) hK hP hD hS hA (N := 4) (by decide) (Nat.le_of_ble_eq_true rfl) (Nat.le_of_ble_eq_true rfl) dX0_init_69 (fun q8 H hP hD hS => ?_)
  refine W.widen (k := 9) (n := 140) (Nat.le_refl _) (Nat.le_refl _) ?_
  have hP : va_P D gCl [(h, .inr (0, [.int (nI 0), .ref q0, .ref q1, .ref q2, .int (nI 0), .int (nI 0), .ref q3, .ref q4, .ref q5, .ref q6, .int (nI 0), .int (nI 0), .int (nI 0), .int (nI 0), .int (nI 0), .ref q7, .null, .null])), (q0, .inl (d, 20, .inl zF)), (q1, .inl (d, 20, .inl zF)), (q2, .inl (d, 4, .inl zF)), (q3, .inl (d, 21, .inl zF)), (q4, .inl (d, 21, .inl zF)), (q5, .inl (d, 21, .inl zF)), (q6, .inl (d, 21, .inl zF)), (q7, .inl (d, 8, .inl zF)), (q8, .inl (d, 4, .inl zF))] H := hP
  have hD : va_D A [(h, .inr (0, [.int (nI 0), .ref q0, .ref q1, .ref q2, .int (nI 0), .int (nI 0), .ref q3, .ref q4, .ref q5, .ref q6, .int (nI 0), .int (nI 0), .int (nI 0), .int (nI 0), .int (nI 0), .ref q7, .null, .null])), (q0, .inl (d, 20, .inl zF)), (q1, .inl (d, 20, .inl zF)), (q2, .inl (d, 4, .inl zF)), (q3, .inl (d, 21, .inl zF)), (q4, .inl (d, 21, .inl zF)), (q5, .inl (d, 21, .inl zF)), (q6, .inl (d, 21, .inl zF)), (q7, .inl (d, 8, .inl zF)), (q8, .inl (d, 4, .inl zF))] := hD
  refine va_putF (D := D) (ci := 0) (v := .ref q8) (ty := .array .int) (C := RX0) (T := TX0) (N := 18) hx hb hts in_X0 tyX0 tyX0_ok nmX0 hown hK hP hD hS 0 rfl rfl 16 (by decide) (hts _ q53) (fun _ h9 => h9) rfl hin rfl (by decide +kernel) rfl rfl (Nat.le_of_ble_eq_true rfl) dX0_init_71 (fun H locs hP hD hS => ?_)
  have hP : va_P D gCl [(h, .inr (0, [.int (nI 0), .ref q0, .ref q1, .ref q2, .int (nI 0), .int (nI 0), .ref q3, .ref q4, .ref q5, .ref q6, .int (nI 0), .int (nI 0), .int (nI 0), .int (nI 0), .int (nI 0), .ref q7, .ref q8, .null])), (q0, .inl (d, 20, .inl zF)), (q1, .inl (d, 20, .inl zF)), (q2, .inl (d, 4, .inl zF)), (q3, .inl (d, 21, .inl zF)), (q4, .inl (d, 21, .inl zF)), (q5, .inl (d, 21, .inl zF)), (q6, .inl (d, 21, .inl zF)), (q7, .inl (d, 8, .inl zF)), (q8, .inl (d, 4, .inl zF))] H := hP
  have hD : va_D A [(h, .inr (0, [.int (nI 0), .ref q0, .ref q1, .ref q2, .int (nI 0), .int (nI 0), .ref q3, .ref q4, .ref q5, .ref q6, .int (nI 0), .int (nI 0), .int (nI 0), .int (nI 0), .int (nI 0), .ref q7, .ref q8, .null])), (q0, .inl (d, 20, .inl zF)), (q1, .inl (d, 20, .inl zF)), (q2, .inl (d, 4, .inl zF)), (q3, .inl (d, 21, .inl zF)), (q4, .inl (d, 21, .inl zF)), (q5, .inl (d, 21, .inl zF)), (q6, .inl (d, 21, .inl zF)), (q7, .inl (d, 8, .inl zF)), (q8, .inl (d, 4, .inl zF))] := hD
  refine lv_aload_n hx hb dX0_init_74 rfl (lv_at hl 0 rfl) ?_
  refine lv_bipush (v := nI 8) hx hb dX0_init_75 (by decide) ?_
  refine gl_newa (d := d) hx hb (hts _ q92) hK hP hD hS hA (N := 8) (by decide) (Nat.le_of_ble_eq_true rfl) (Nat.le_of_ble_eq_true rfl) dX0_init_77 (fun q9 H hP hD hS => ?_)
  refine W.widen (k := 10) (n := 148) (Nat.le_refl _) (Nat.le_refl _) ?_
  have hP : va_P D gCl [(h, .inr (0, [.int (nI 0), .ref q0, .ref q1, .ref q2, .int (nI 0), .int (nI 0), .ref q3, .ref q4, .ref q5, .ref q6, .int (nI 0), .int (nI 0), .int (nI 0), .int (nI 0), .int (nI 0), .ref q7, .ref q8, .null])), (q0, .inl (d, 20, .inl zF)), (q1, .inl (d, 20, .inl zF)), (q2, .inl (d, 4, .inl zF)), (q3, .inl (d, 21, .inl zF)), (q4, .inl (d, 21, .inl zF)), (q5, .inl (d, 21, .inl zF)), (q6, .inl (d, 21, .inl zF)), (q7, .inl (d, 8, .inl zF)), (q8, .inl (d, 4, .inl zF)), (q9, .inl (d, 8, .inl zF))] H := hP
  have hD : va_D A [(h, .inr (0, [.int (nI 0), .ref q0, .ref q1, .ref q2, .int (nI 0), .int (nI 0), .ref q3, .ref q4, .ref q5, .ref q6, .int (nI 0), .int (nI 0), .int (nI 0), .int (nI 0), .int (nI 0), .ref q7, .ref q8, .null])), (q0, .inl (d, 20, .inl zF)), (q1, .inl (d, 20, .inl zF)), (q2, .inl (d, 4, .inl zF)), (q3, .inl (d, 21, .inl zF)), (q4, .inl (d, 21, .inl zF)), (q5, .inl (d, 21, .inl zF)), (q6, .inl (d, 21, .inl zF)), (q7, .inl (d, 8, .inl zF)), (q8, .inl (d, 4, .inl zF)), (q9, .inl (d, 8, .inl zF))] := hD
  refine va_putF (D := D) (ci := 0) (v := .ref q9) (ty := .array .int) (C := RX0) (T := TX0) (N := 18) hx hb hts in_X0 tyX0 tyX0_ok nmX0 hown hK hP hD hS 0 rfl rfl 17 (by decide) (hts _ q54) (fun _ h9 => h9) rfl hin rfl (by decide +kernel) rfl rfl (Nat.le_of_ble_eq_true rfl) dX0_init_79 (fun H locs hP hD hS => ?_)
  have hP : va_P D gCl [(h, .inr (0, [.int (nI 0), .ref q0, .ref q1, .ref q2, .int (nI 0), .int (nI 0), .ref q3, .ref q4, .ref q5, .ref q6, .int (nI 0), .int (nI 0), .int (nI 0), .int (nI 0), .int (nI 0), .ref q7, .ref q8, .ref q9])), (q0, .inl (d, 20, .inl zF)), (q1, .inl (d, 20, .inl zF)), (q2, .inl (d, 4, .inl zF)), (q3, .inl (d, 21, .inl zF)), (q4, .inl (d, 21, .inl zF)), (q5, .inl (d, 21, .inl zF)), (q6, .inl (d, 21, .inl zF)), (q7, .inl (d, 8, .inl zF)), (q8, .inl (d, 4, .inl zF)), (q9, .inl (d, 8, .inl zF))] H := hP
  have hD : va_D A [(h, .inr (0, [.int (nI 0), .ref q0, .ref q1, .ref q2, .int (nI 0), .int (nI 0), .ref q3, .ref q4, .ref q5, .ref q6, .int (nI 0), .int (nI 0), .int (nI 0), .int (nI 0), .int (nI 0), .ref q7, .ref q8, .ref q9])), (q0, .inl (d, 20, .inl zF)), (q1, .inl (d, 20, .inl zF)), (q2, .inl (d, 4, .inl zF)), (q3, .inl (d, 21, .inl zF)), (q4, .inl (d, 21, .inl zF)), (q5, .inl (d, 21, .inl zF)), (q6, .inl (d, 21, .inl zF)), (q7, .inl (d, 8, .inl zF)), (q8, .inl (d, 4, .inl zF)), (q9, .inl (d, 8, .inl zF))] := hD
  have hP9 : va_P D gCl (wX h (fun k : Nat => match k with | 1 => q0 | 2 => q1 | 3 => q2 | 6 => q3 | 7 => q4 | 8 => q5 | 9 => q6 | 15 => q7 | 16 => q8 | 17 => q9 | _ => 0) d 0 zF zF zF 0 0 zF zF zF zF 0 0 0 0 0 zF zF zF) H := hP
  have hD9 : va_D A (wX h (fun k : Nat => match k with | 1 => q0 | 2 => q1 | 3 => q2 | 6 => q3 | 7 => q4 | 8 => q5 | 9 => q6 | 15 => q7 | 16 => q8 | 17 => q9 | _ => 0) d 0 zF zF zF 0 0 zF zF zF zF 0 0 0 0 0 zF zF zF) := hD
  exact W.vret hx hb hr (fun t ht hW => ⟨⟨(fun k : Nat => match k with | 1 => q0 | 2 => q1 | 3 => q2 | 6 => q3 | 7 => q4 | 8 => q5 | 9 => q6 | 15 => q7 | 16 => q8 | 17 => q9 | _ => 0), rfl, trivial, by rw [ht]; exact hP9, va_K.moved hW.alike hK, hD9⟩, hS.F ht⟩) hS.2.2 dX0_init_82
abbrev zM : List Value := [.null, .null, .int (nI 0), .null, .null, .int (nI 0), .int (nI 0), .int (nI 0), .int (nI 0), .int (nI 0), .int (nI 0), .null, .null]
set_option maxHeartbeats 4000000 in
set_option maxRecDepth 100000 in
/-- the constructor of GasMeterModel: 6 arrays of zeros, 64 slots -/
theorem metM_init (l : Launch) (D : va_G) (d : ClassId) (h : Nat) : MetN l yX1_init cX1_init D d h [(h, .inr (1, zM))] ({ frames := 1, cells := 6, slots := 64, locals := 12 }) 6 64 (fun r : Nat → Nat => wM h r d zF zF 0 zF zF 0 0 0 0 0 0 zF zF) := by
  intro sz
  refine Met.ofW (cc := cX1_init) (maxL := 1) (ret := none) (by decide +kernel) rfl ?_
  intro p e s m args below meth c s₁ B hml hv
  obtain ⟨rfl, hsz, hP, hK, hD0⟩ := hv
  have hx := B.exec
  have hb := B.bytes
  have hr := B.returns
  have hts := atoms_spec (ws := ws_ yX1_init cX1_init 1 none) B.pre
  have hts : ∀ w ∈ lw_all, w.before _ s = true := fun w h => hts w (List.mem_cons_of_mem _ h)
  have hown : s.vm.findClass RX1 = some m.cls := findClass_of_methodNamed B.named
  have hlocks := B.notSynchronized
  have hin : meth.name = "<init>" := (name_of_methodNamed B.named B.method).1
  subst hsz
  have hD := hD0.self (sz := s.heap.size)
  generalize hAe : va_A [(h, .inr (1, zM))] s.heap.size = A at hD ⊢
  have hA : ∀ q : Nat, s.heap.size ≤ q → A q := fun q h => by rw [← hAe]; exact Or.inr h
  have hS : va_S A s.heap s.heap [] := va_S.rf
  have hl := lv_entry ([.ref h]) (n := 1) (Nat.le_of_ble_eq_true rfl)
  rw [lg_entry_eq]
  generalize (lg_sl ([.ref h]) ++ List.replicate (1 - (lg_sl ([.ref h])).length) Slot.unset).toArray = ls at hl ⊢
  have hl : lv_has ls 1 [(0, .ref h)] := hl
  refine lv_aload_n hx hb dX1_init_0 rfl (lv_at hl 0 rfl) ?_
  refine W.objInit hx hb hown (hts _ q224) (hts _ q35) (hts _ q36) rfl (by rw [hml]; exact hl.1) rfl dX1_init_1 (Nat.le_of_ble_eq_true rfl) (Nat.le_of_ble_eq_true rfl) ?_
  refine W.eq (g2 := F0 m 4 ls []) rfl ?_
  refine lv_aload_n hx hb dX1_init_4 rfl (lv_at hl 0 rfl) ?_
  refine lv_bipush (v := nI 20) hx hb dX1_init_5 (by decide) ?_
  refine gl_newa (d := d) hx hb (hts _ q92) hK hP hD hS hA (N := 20) (by decide) (Nat.le_of_ble_eq_true rfl) (Nat.le_of_ble_eq_true rfl) dX1_init_7 (fun q0 H hP hD hS => ?_)
  refine W.widen (k := 1) (n := 20) (Nat.le_refl _) (Nat.le_refl _) ?_
  have hP : va_P D gCl [(h, .inr (1, [.null, .null, .int (nI 0), .null, .null, .int (nI 0), .int (nI 0), .int (nI 0), .int (nI 0), .int (nI 0), .int (nI 0), .null, .null])), (q0, .inl (d, 20, .inl zF))] H := hP
  have hD : va_D A [(h, .inr (1, [.null, .null, .int (nI 0), .null, .null, .int (nI 0), .int (nI 0), .int (nI 0), .int (nI 0), .int (nI 0), .int (nI 0), .null, .null])), (q0, .inl (d, 20, .inl zF))] := hD
  refine va_putF (D := D) (ci := 1) (v := .ref q0) (ty := .array .int) (C := RX1) (T := TX1) (N := 13) hx hb hts in_X1 tyX1 tyX1_ok nmX1 hown hK hP hD hS 0 rfl rfl 0 (by decide) (hts _ q225) (fun _ h9 => h9) rfl hin rfl (by decide +kernel) rfl rfl (Nat.le_of_ble_eq_true rfl) dX1_init_9 (fun H locs hP hD hS => ?_)
  have hP : va_P D gCl [(h, .inr (1, [.ref q0, .null, .int (nI 0), .null, .null, .int (nI 0), .int (nI 0), .int (nI 0), .int (nI 0), .int (nI 0), .int (nI 0), .null, .null])), (q0, .inl (d, 20, .inl zF))] H := hP
  have hD : va_D A [(h, .inr (1, [.ref q0, .null, .int (nI 0), .null, .null, .int (nI 0), .int (nI 0), .int (nI 0), .int (nI 0), .int (nI 0), .int (nI 0), .null, .null])), (q0, .inl (d, 20, .inl zF))] := hD
  refine lv_aload_n hx hb dX1_init_12 rfl (lv_at hl 0 rfl) ?_
  refine lv_bipush (v := nI 20) hx hb dX1_init_13 (by decide) ?_
  refine gl_newa (d := d) hx hb (hts _ q92) hK hP hD hS hA (N := 20) (by decide) (Nat.le_of_ble_eq_true rfl) (Nat.le_of_ble_eq_true rfl) dX1_init_15 (fun q1 H hP hD hS => ?_)
  refine W.widen (k := 2) (n := 40) (Nat.le_refl _) (Nat.le_refl _) ?_
  have hP : va_P D gCl [(h, .inr (1, [.ref q0, .null, .int (nI 0), .null, .null, .int (nI 0), .int (nI 0), .int (nI 0), .int (nI 0), .int (nI 0), .int (nI 0), .null, .null])), (q0, .inl (d, 20, .inl zF)), (q1, .inl (d, 20, .inl zF))] H := hP
  have hD : va_D A [(h, .inr (1, [.ref q0, .null, .int (nI 0), .null, .null, .int (nI 0), .int (nI 0), .int (nI 0), .int (nI 0), .int (nI 0), .int (nI 0), .null, .null])), (q0, .inl (d, 20, .inl zF)), (q1, .inl (d, 20, .inl zF))] := hD
  refine va_putF (D := D) (ci := 1) (v := .ref q1) (ty := .array .int) (C := RX1) (T := TX1) (N := 13) hx hb hts in_X1 tyX1 tyX1_ok nmX1 hown hK hP hD hS 0 rfl rfl 1 (by decide) (hts _ q226) (fun _ h9 => h9) rfl hin rfl (by decide +kernel) rfl rfl (Nat.le_of_ble_eq_true rfl) dX1_init_17 (fun H locs hP hD hS => ?_)
  have hP : va_P D gCl [(h, .inr (1, [.ref q0, .ref q1, .int (nI 0), .null, .null, .int (nI 0), .int (nI 0), .int (nI 0), .int (nI 0), .int (nI 0), .int (nI 0), .null, .null])), (q0, .inl (d, 20, .inl zF)), (q1, .inl (d, 20, .inl zF))] H := hP
  have hD : va_D A [(h, .inr (1, [.ref q0, .ref q1, .int (nI 0), .null, .null, .int (nI 0), .int (nI 0), .int (nI 0), .int (nI 0), .int (nI 0), .int (nI 0), .null, .null])), (q0, .inl (d, 20, .inl zF)), (q1, .inl (d, 20, .inl zF))] := hD
  refine lv_aload_n hx hb dX1_init_20 rfl (lv_at hl 0 rfl) ?_
  refine lv_iconst (v := nI 4) hx hb dX1_init_21 (by decide) ?_
  refine gl_newa (d := d) hx hb (hts _ q92) hK hP hD hS hA (N := 4) (by decide) (Nat.le_of_ble_eq_true rfl) (Nat.le_of_ble_eq_true rfl) dX1_init_22 (fun q2 H hP hD hS => ?_)
  refine W.widen (k := 3) (n := 44) (Nat.le_refl _) (Nat.le_refl _) ?_
  have hP : va_P D gCl [(h, .inr (1, [.ref q0, .ref q1, .int (nI 0), .null, .null, .int (nI 0), .int (nI 0), .int (nI 0), .int (nI 0), .int (nI 0), .int (nI 0), .null, .null])), (q0, .inl (d, 20, .inl zF)), (q1, .inl (d, 20, .inl zF)), (q2, .inl (d, 4, .inl zF))] H := hP
  have hD : va_D A [(h, .inr (1, [.ref q0, .ref q1, .int (nI 0), .null, .null, .int (nI 0), .int (nI 0), .int (nI 0), .int (nI 0), .int (nI 0), .int (nI 0), .null, .null])), (q0, .inl (d, 20, .inl zF)), (q1, .inl (d, 20, .inl zF)), (q2, .inl (d, 4, .inl zF))] := hD
  refine va_putF (D := D) (ci := 1) (v := .ref q2) (ty := .array .int) (C := RX1) (T := TX1) (N := 13) hx hb hts in_X1 tyX1 tyX1_ok nmX1 hown hK hP hD hS 0 rfl rfl 3 (by decide) (hts _ q228) (fun _ h9 => h9) rfl hin rfl (by decide +kernel) rfl rfl (Nat.le_of_ble_eq_true rfl) dX1_init_24 (fun H locs hP hD hS => ?_)
  have hP : va_P D gCl [(h, .inr (1, [.ref q0, .ref q1, .int (nI 0), .ref q2, .null, .int (nI 0), .int (nI 0), .int (nI 0), .int (nI 0), .int (nI 0), .int (nI 0), .null, .null])), (q0, .inl (d, 20, .inl zF)), (q1, .inl (d, 20, .inl zF)), (q2, .inl (d, 4, .inl zF))] H := hP
  have hD : va_D A [(h, .inr (1, [.ref q0, .ref q1, .int (nI 0), .ref q2, .null, .int (nI 0), .int (nI 0), .int (nI 0), .int (nI 0), .int (nI 0), .int (nI 0), .null, .null])), (q0, .inl (d, 20, .inl zF)), (q1, .inl (d, 20, .inl zF)), (q2, .inl (d, 4, .inl zF))] := hD
  refine lv_aload_n hx hb dX1_init_27 rfl (lv_at hl 0 rfl) ?_
  refine lv_bipush (v := nI 8) hx hb dX1_init_28 (by decide) ?_
  refine gl_newa (d := d) hx hb (hts _ q92) hK hP hD hS hA (N := 8) (by decide) (Nat.le_of_ble_eq_true rfl) (Nat.le_of_ble_eq_true rfl) dX1_init_30 (fun q3 H hP hD hS => ?_)
  refine W.widen (k := 4) (n := 52) (Nat.le_refl _) (Nat.le_refl _) ?_
  have hP : va_P D gCl [(h, .inr (1, [.ref q0, .ref q1, .int (nI 0), .ref q2, .null, .int (nI 0), .int (nI 0), .int (nI 0), .int (nI 0), .int (nI 0), .int (nI 0), .null, .null])), (q0, .inl (d, 20, .inl zF)), (q1, .inl (d, 20, .inl zF)), (q2, .inl (d, 4, .inl zF)), (q3, .inl (d, 8, .inl zF))] H := hP
  have hD : va_D A [(h, .inr (1, [.ref q0, .ref q1, .int (nI 0), .ref q2, .null, .int (nI 0), .int (nI 0), .int (nI 0), .int (nI 0), .int (nI 0), .int (nI 0), .null, .null])), (q0, .inl (d, 20, .inl zF)), (q1, .inl (d, 20, .inl zF)), (q2, .inl (d, 4, .inl zF)), (q3, .inl (d, 8, .inl zF))] := hD
  refine va_putF (D := D) (ci := 1) (v := .ref q3) (ty := .array .int) (C := RX1) (T := TX1) (N := 13) hx hb hts in_X1 tyX1 tyX1_ok nmX1 hown hK hP hD hS 0 rfl rfl 4 (by decide) (hts _ q229) (fun _ h9 => h9) rfl hin rfl (by decide +kernel) rfl rfl (Nat.le_of_ble_eq_true rfl) dX1_init_32 (fun H locs hP hD hS => ?_)
  have hP : va_P D gCl [(h, .inr (1, [.ref q0, .ref q1, .int (nI 0), .ref q2, .ref q3, .int (nI 0), .int (nI 0), .int (nI 0), .int (nI 0), .int (nI 0), .int (nI 0), .null, .null])), (q0, .inl (d, 20, .inl zF)), (q1, .inl (d, 20, .inl zF)), (q2, .inl (d, 4, .inl zF)), (q3, .inl (d, 8, .inl zF))] H := hP
  have hD : va_D A [(h, .inr (1, [.ref q0, .ref q1, .int (nI 0), .ref q2, .ref q3, .int (nI 0), .int (nI 0), .int (nI 0), .int (nI 0), .int (nI 0), .int (nI 0), .null, .null])), (q0, .inl (d, 20, .inl zF)), (q1, .inl (d, 20, .inl zF)), (q2, .inl (d, 4, .inl zF)), (q3, .inl (d, 8, .inl zF))] := hD
  refine lv_aload_n hx hb dX1_init_35 rfl (lv_at hl 0 rfl) ?_
  refine lv_iconst (v := nI 4) hx hb dX1_init_36 (by decide) ?_
  refine gl_newa (d := d) hx hb (hts _ q92) hK hP hD hS hA (N := 4) (by decide) (Nat.le_of_ble_eq_true rfl) (Nat.le_of_ble_eq_true rfl) dX1_init_37 (fun q4 H hP hD hS => ?_)
  refine W.widen (k := 5) (n := 56) (Nat.le_refl _) (Nat.le_refl _) ?_
  have hP : va_P D gCl [(h, .inr (1, [.ref q0, .ref q1, .int (nI 0), .ref q2, .ref q3, .int (nI 0), .int (nI 0), .int (nI 0), .int (nI 0), .int (nI 0), .int (nI 0), .null, .null])), (q0, .inl (d, 20, .inl zF)), (q1, .inl (d, 20, .inl zF)), (q2, .inl (d, 4, .inl zF)), (q3, .inl (d, 8, .inl zF)), (q4, .inl (d, 4, .inl zF))] H := hP
  have hD : va_D A [(h, .inr (1, [.ref q0, .ref q1, .int (nI 0), .ref q2, .ref q3, .int (nI 0), .int (nI 0), .int (nI 0), .int (nI 0), .int (nI 0), .int (nI 0), .null, .null])), (q0, .inl (d, 20, .inl zF)), (q1, .inl (d, 20, .inl zF)), (q2, .inl (d, 4, .inl zF)), (q3, .inl (d, 8, .inl zF)), (q4, .inl (d, 4, .inl zF))] := hD
  refine va_putF (D := D) (ci := 1) (v := .ref q4) (ty := .array .int) (C := RX1) (T := TX1) (N := 13) hx hb hts in_X1 tyX1 tyX1_ok nmX1 hown hK hP hD hS 0 rfl rfl 11 (by decide) (hts _ q236) (fun _ h9 => h9) rfl hin rfl (by decide +kernel) rfl rfl (Nat.le_of_ble_eq_true rfl) dX1_init_39 (fun H locs hP hD hS => ?_)
  have hP : va_P D gCl [(h, .inr (1, [.ref q0, .ref q1, .int (nI 0), .ref q2, .ref q3, .int (nI 0), .int (nI 0), .int (nI 0), .int (nI 0), .int (nI 0), .int (nI 0), .ref q4, .null])), (q0, .inl (d, 20, .inl zF)), (q1, .inl (d, 20, .inl zF)), (q2, .inl (d, 4, .inl zF)), (q3, .inl (d, 8, .inl zF)), (q4, .inl (d, 4, .inl zF))] H := hP
  have hD : va_D A [(h, .inr (1, [.ref q0, .ref q1, .int (nI 0), .ref q2, .ref q3, .int (nI 0), .int (nI 0), .int (nI 0), .int (nI 0), .int (nI 0), .int (nI 0), .ref q4, .null])), (q0, .inl (d, 20, .inl zF)), (q1, .inl (d, 20, .inl zF)), (q2, .inl (d, 4, .inl zF)), (q3, .inl (d, 8, .inl zF)), (q4, .inl (d, 4, .inl zF))] := hD
  refine lv_aload_n hx hb dX1_init_42 rfl (lv_at hl 0 rfl) ?_
  refine lv_bipush (v := nI 8) hx hb dX1_init_43 (by decide) ?_
  refine gl_newa (d := d) hx hb (hts _ q92) hK hP hD hS hA (N := 8) (by decide) (Nat.le_of_ble_eq_true rfl) (Nat.le_of_ble_eq_true rfl) dX1_init_45 (fun q5 H hP hD hS => ?_)
  refine W.widen (k := 6) (n := 64) (Nat.le_refl _) (Nat.le_refl _) ?_
  have hP : va_P D gCl [(h, .inr (1, [.ref q0, .ref q1, .int (nI 0), .ref q2, .ref q3, .int (nI 0), .int (nI 0), .int (nI 0), .int (nI 0), .int (nI 0), .int (nI 0), .ref q4, .null])), (q0, .inl (d, 20, .inl zF)), (q1, .inl (d, 20, .inl zF)), (q2, .inl (d, 4, .inl zF)), (q3, .inl (d, 8, .inl zF)), (q4, .inl (d, 4, .inl zF)), (q5, .inl (d, 8, .inl zF))] H := hP
  have hD : va_D A [(h, .inr (1, [.ref q0, .ref q1, .int (nI 0), .ref q2, .ref q3, .int (nI 0), .int (nI 0), .int (nI 0), .int (nI 0), .int (nI 0), .int (nI 0), .ref q4, .null])), (q0, .inl (d, 20, .inl zF)), (q1, .inl (d, 20, .inl zF)), (q2, .inl (d, 4, .inl zF)), (q3, .inl (d, 8, .inl zF)), (q4, .inl (d, 4, .inl zF)), (q5, .inl (d, 8, .inl zF))] := hD
  refine va_putF (D := D) (ci := 1) (v := .ref q5) (ty := .array .int) (C := RX1) (T := TX1) (N := 13) hx hb hts in_X1 tyX1 tyX1_ok nmX1 hown hK hP hD hS 0 rfl rfl 12 (by decide) (hts _ q237) (fun _ h9 => h9) rfl hin rfl (by decide +kernel) rfl rfl (Nat.le_of_ble_eq_true rfl) dX1_init_47 (fun H locs hP hD hS => ?_)
  have hP : va_P D gCl [(h, .inr (1, [.ref q0, .ref q1, .int (nI 0), .ref q2, .ref q3, .int (nI 0), .int (nI 0), .int (nI 0), .int (nI 0), .int (nI 0), .int (nI 0), .ref q4, .ref q5])), (q0, .inl (d, 20, .inl zF)), (q1, .inl (d, 20, .inl zF)), (q2, .inl (d, 4, .inl zF)), (q3, .inl (d, 8, .inl zF)), (q4, .inl (d, 4, .inl zF)), (q5, .inl (d, 8, .inl zF))] H := hP
  have hD : va_D A [(h, .inr (1, [.ref q0, .ref q1, .int (nI 0), .ref q2, .ref q3, .int (nI 0), .int (nI 0), .int (nI 0), .int (nI 0), .int (nI 0), .int (nI 0), .ref q4, .ref q5])), (q0, .inl (d, 20, .inl zF)), (q1, .inl (d, 20, .inl zF)), (q2, .inl (d, 4, .inl zF)), (q3, .inl (d, 8, .inl zF)), (q4, .inl (d, 4, .inl zF)), (q5, .inl (d, 8, .inl zF))] := hD
  have hP9 : va_P D gCl (wM h (fun k : Nat => match k with | 0 => q0 | 1 => q1 | 3 => q2 | 4 => q3 | 11 => q4 | 12 => q5 | _ => 0) d zF zF 0 zF zF 0 0 0 0 0 0 zF zF) H := hP
  have hD9 : va_D A (wM h (fun k : Nat => match k with | 0 => q0 | 1 => q1 | 3 => q2 | 4 => q3 | 11 => q4 | 12 => q5 | _ => 0) d zF zF 0 zF zF 0 0 0 0 0 0 zF zF) := hD
  exact W.vret hx hb hr (fun t ht hW => ⟨⟨(fun k : Nat => match k with | 0 => q0 | 1 => q1 | 3 => q2 | 4 => q3 | 11 => q4 | 12 => q5 | _ => 0), rfl, trivial, by rw [ht]; exact hP9, va_K.moved hW.alike hK, hD9⟩, hS.F ht⟩) hS.2.2 dX1_init_50
end
section
set_option maxRecDepth 100000
/-! THE CLAIM OUT OF ONE WALK OF THE LAW'S BODY. Your part is whole_start (and what it stands on); all else here is the same for every law, but numbers. -/
def R_law : String := "GasMeterLaw"
def lw_P (b : Addr) (xs : List Int32) (args : Array Value) (s : State) : Prop := args = #[.ref b] ∧ s.IntsAt b xs ∧ xs.length ≤ 256 ∧ (Jvm.Cond.and given_1 narrow_1).before args s = true
def lw_Q (_ : Array Value) (s : State) (o : Outcome) (t : State) : Prop := o = .returned (some (.int 1)) ∧ Framed s o t [] 600000 7290000
def lw_Z (below : List Frame) (a : Array Value) (s : State) : State → Prop := fun t => ∃ o, t.status = .running ∧ Ended t below o ∧ lw_Q a s o t
/-- the law's own end, with 1 on the stack, nothing written that was there before, its room as the claim has it -/
theorem lw_ret {p : Program} {l : Launch} {e : Env} {s : State} {m : MethodId} {below : List Frame} {meth : Method} {c : Code} {b : Nat} (hx : p.tables.exec = Jvm.exec) (hb : c.code = code) (hr : meth.sig.returnType = ret) (hlocks : meth.locks = false) {pc : Nat} {H : Heap} {ls : Array Slot} (hdg : decode code pc = .ok (.ireturn, 1)) : W p l e room_1 s m #[Value.ref b] below meth c H [] 600000 7290000 (lw_Z below #[Value.ref b] s) (F0 m pc ls [.int 1]) := by
  intro T hT X
  obtain ⟨fs, hret, hrun, hended, hW, hframe⟩ := X.leave (v := some (.int 1)) (hlocks := hlocks) (fun h => by rw [hr] at h; cases h)
  have hmeth' : T.vm.method? m = some meth := X.method'
  refine ⟨T.setFrames fs, ?_, .returned (some (.int 1)), hrun, hended, rfl, ⟨_, rfl⟩, hW, hframe⟩
  jvm_step X.here [X.here.top, hx, hb, hdg, hmeth', hr, ret, narrow_b1]
  (try refine ⟨rfl, ?_⟩); (try refine ⟨rfl, ?_⟩)
  first | (intro acts; rw [hret _ acts rfl rfl rfl]) | rw [hret _ _ rfl rfl rfl]
  exact Steps.refl _
/-- what holds at the law's entry: the machine, the code, the tables' words (any of lw_tbl by 'hts w (by decide +kernel)'), the script of L ints xs at the cell b, what the Statement gives of the start (any of its parts by flat_of_before) -/
def lw_At (p : Program) (s : State) (m : MethodId) (meth : Method) (c : Code) (b L : Nat) (xs : Nat → Int32) : Prop :=
  p.tables.exec = Jvm.exec ∧ c.code = code ∧ meth.sig.returnType = ret ∧ c.maxLocals = 4 ∧ s.vm.findClass R_law = some m.cls ∧ (∀ w ∈ lw_tbl, w.before #[Value.ref b] s = true) ∧ va_X b L xs s s.heap ∧ b < s.heap.size ∧ meth.locks = false ∧ (Jvm.Cond.and given_1 narrow_1).before #[Value.ref b] s = true
section LC
variable {p : Program} {l : Launch} {e : Env} {s : State} {m : MethodId} {below : List Frame} {meth : Method} {c : Code} {H : Heap} {locs : List Loc} {Q : State → Prop} {ls : Array Slot} {D : va_G} {d : ClassId} {A : Nat → Prop} {b L i ha hm : Nat} {xs : Nat → Int32} {wx wm : va_W} {fx fm : List Value} {v1 v2 v3 : Int32}
set_option maxHeartbeats 4000000 in
/-- the law's case 0: append -/
theorem lc_0 {S S' : Type} {px : Int32 → S → Prop} {ux : S → va_W} {pm : Int32 → S' → Prop} {um : S' → va_W} (cX : MetI l yX0_append cX0_append 3 .int D d [.ref ha, .int v1, .int v2] wx (rmG 1) px ux) (cM : MetI l yX1_append cX1_append 3 .int D d [.ref hm, .int v1, .int v2] wm (rmG 1) pm um) (ex : wx[0]? = some (ha, .inr (0, fx))) (em : wm[0]? = some (hm, .inr (1, fm))) (ag : ∀ (a : Int32) (u : S) (a' : Int32) (u' : S'), px a u → pm a' u' → a = a') (e1 : xs (i + 1) = v1) (e2 : xs (i + 2) = v2) (K : Cx R_law p c m meth s #[Value.ref b] cL_law 4 ret D d A) (vX : va_X b L xs s s.heap) (hbl : b < s.heap.size) (hbA : ¬ A b) (hi : i + 4 ≤ L) (hL : L ≤ 256) (hT : two D A wx wm H) (hS : va_S A s.heap H locs) (hl : lv_has ls 4 [(0, .ref b), (1, .ref ha), (2, .ref hm), (3, .int (nI i))])
    (kk : ∀ (a : Int32) (u : S) (a' : Int32) (u' : S') (H : Heap) (locs : List Loc), px a u → pm a' u' → two D A (ux u) (um u') H → va_S A s.heap H locs → W p l e room_1 s m #[Value.ref b] below meth c H locs 18 243 Q (F0 m 418 ls [])) : W p l e room_1 s m #[Value.ref b] below meth c H locs 18 243 Q (F0 m 112 ls []) := by
  have hx := K.1
  have hb := K.2.1
  refine lv_aload_n hx hb dL_law_112 rfl (lv_at hl 1 rfl) ?_
  refine lv_aload_n hx hb dL_law_113 rfl (lv_at hl 0 rfl) ?_
  refine lv_iload_n hx hb dL_law_114 rfl (lv_at hl 3 rfl) ?_
  refine lv_iconst (v := nI 1) hx hb dL_law_115 (by decide) ?_
  refine gi_add hx hb dL_law_116 ?_
  refine va_sld hx hb vX hbl hbA hS (vp_in_nI (by omega) (by omega)) dL_law_117 ?_
  refine gi_tp (y := v1) (by rw [nI_clamp (by omega)]; exact e1) ?_
  refine lv_aload_n hx hb dL_law_118 rfl (lv_at hl 0 rfl) ?_
  refine lv_iload_n hx hb dL_law_119 rfl (lv_at hl 3 rfl) ?_
  refine lv_iconst (v := nI 2) hx hb dL_law_120 (by decide) ?_
  refine gi_add hx hb dL_law_121 ?_
  refine va_sld hx hb vX hbl hbA hS (vp_in_nI (by omega) (by omega)) dL_law_122 ?_
  refine gi_tp (y := v2) (by rw [nI_clamp (by omega)]; exact e2) ?_
  refine gl_calli (As := [.int v1, .int v2]) (rest := []) (C := RX0) (n := 2) K cX (lw_V q93 q94 q95 q27 q96) (by decide +kernel) ⟨by decide, by decide⟩ ⟨rfl, rfl⟩ rfl 0 rfl rfl ex hT hS hl rfl (Nat.le_of_ble_eq_true rfl) dL_law_123 ⟨by decide, by decide⟩ (fun a u H locs hp0 hT hS => ?_)
  refine lv_aload_n hx hb dL_law_126 rfl (lv_at hl 2 rfl) ?_
  refine lv_aload_n hx hb dL_law_127 rfl (lv_at hl 0 rfl) ?_
  refine lv_iload_n hx hb dL_law_128 rfl (lv_at hl 3 rfl) ?_
  refine lv_iconst (v := nI 1) hx hb dL_law_129 (by decide) ?_
  refine gi_add hx hb dL_law_130 ?_
  refine va_sld hx hb vX hbl hbA hS (vp_in_nI (by omega) (by omega)) dL_law_131 ?_
  refine gi_tp (y := v1) (by rw [nI_clamp (by omega)]; exact e1) ?_
  refine lv_aload_n hx hb dL_law_132 rfl (lv_at hl 0 rfl) ?_
  refine lv_iload_n hx hb dL_law_133 rfl (lv_at hl 3 rfl) ?_
  refine lv_iconst (v := nI 2) hx hb dL_law_134 (by decide) ?_
  refine gi_add hx hb dL_law_135 ?_
  refine va_sld hx hb vX hbl hbA hS (vp_in_nI (by omega) (by omega)) dL_law_136 ?_
  refine gi_tp (y := v2) (by rw [nI_clamp (by omega)]; exact e2) ?_
  refine gl_calli (As := [.int v1, .int v2]) (rest := [.int a]) (C := RX1) (n := 2) K cM (lw_V q265 q266 q267 q28 q268) (by decide +kernel) ⟨by decide, by decide⟩ ⟨rfl, rfl⟩ rfl 1 rfl rfl em hT.symm hS hl rfl (Nat.le_of_ble_eq_true rfl) dL_law_137 ⟨by decide, by decide⟩ (fun a' u' H locs hp1 hT hS => ?_)
  refine lv_icmp_eq (tgt := 418) hx hb dL_law_140 (by decide) (fun _ => ?_) (fun q => ?_)
  · exact kk a u a' u' H locs hp0 hp1 hT.symm hS
  · exact absurd (ag a u a' u' hp0 hp1) q
set_option maxHeartbeats 4000000 in
/-- the law's case 1: change -/
theorem lc_1 {S S' : Type} {px : Int32 → S → Prop} {ux : S → va_W} {pm : Int32 → S' → Prop} {um : S' → va_W} (cX : MetI l yX0_change cX0_change 5 .int D d [.ref ha, .int v1, .int v2, .int v3] wx (rmG 1) px ux) (cM : MetI l yX1_change cX1_change 5 .int D d [.ref hm, .int v1, .int v2, .int v3] wm (rmG 1) pm um) (ex : wx[0]? = some (ha, .inr (0, fx))) (em : wm[0]? = some (hm, .inr (1, fm))) (ag : ∀ (a : Int32) (u : S) (a' : Int32) (u' : S'), px a u → pm a' u' → a = a') (e1 : xs (i + 1) = v1) (e2 : xs (i + 2) = v2) (e3 : xs (i + 3) = v3) (K : Cx R_law p c m meth s #[Value.ref b] cL_law 4 ret D d A) (vX : va_X b L xs s s.heap) (hbl : b < s.heap.size) (hbA : ¬ A b) (hi : i + 4 ≤ L) (hL : L ≤ 256) (hT : two D A wx wm H) (hS : va_S A s.heap H locs) (hl : lv_has ls 4 [(0, .ref b), (1, .ref ha), (2, .ref hm), (3, .int (nI i))])
    (kk : ∀ (a : Int32) (u : S) (a' : Int32) (u' : S') (H : Heap) (locs : List Loc), px a u → pm a' u' → two D A (ux u) (um u') H → va_S A s.heap H locs → W p l e room_1 s m #[Value.ref b] below meth c H locs 18 243 Q (F0 m 418 ls [])) : W p l e room_1 s m #[Value.ref b] below meth c H locs 18 243 Q (F0 m 145 ls []) := by
  have hx := K.1
  have hb := K.2.1
  refine lv_aload_n hx hb dL_law_145 rfl (lv_at hl 1 rfl) ?_
  refine lv_aload_n hx hb dL_law_146 rfl (lv_at hl 0 rfl) ?_
  refine lv_iload_n hx hb dL_law_147 rfl (lv_at hl 3 rfl) ?_
  refine lv_iconst (v := nI 1) hx hb dL_law_148 (by decide) ?_
  refine gi_add hx hb dL_law_149 ?_
  refine va_sld hx hb vX hbl hbA hS (vp_in_nI (by omega) (by omega)) dL_law_150 ?_
  refine gi_tp (y := v1) (by rw [nI_clamp (by omega)]; exact e1) ?_
  refine lv_aload_n hx hb dL_law_151 rfl (lv_at hl 0 rfl) ?_
  refine lv_iload_n hx hb dL_law_152 rfl (lv_at hl 3 rfl) ?_
  refine lv_iconst (v := nI 2) hx hb dL_law_153 (by decide) ?_
  refine gi_add hx hb dL_law_154 ?_
  refine va_sld hx hb vX hbl hbA hS (vp_in_nI (by omega) (by omega)) dL_law_155 ?_
  refine gi_tp (y := v2) (by rw [nI_clamp (by omega)]; exact e2) ?_
  refine lv_aload_n hx hb dL_law_156 rfl (lv_at hl 0 rfl) ?_
  refine lv_iload_n hx hb dL_law_157 rfl (lv_at hl 3 rfl) ?_
  refine lv_iconst (v := nI 3) hx hb dL_law_158 (by decide) ?_
  refine gi_add hx hb dL_law_159 ?_
  refine va_sld hx hb vX hbl hbA hS (vp_in_nI (by omega) (by omega)) dL_law_160 ?_
  refine gi_tp (y := v3) (by rw [nI_clamp (by omega)]; exact e3) ?_
  refine gl_calli (As := [.int v1, .int v2, .int v3]) (rest := []) (C := RX0) (n := 3) K cX (lw_V q101 q102 q103 q27 q104) (by decide +kernel) ⟨by decide, by decide⟩ ⟨rfl, rfl⟩ rfl 0 rfl rfl ex hT hS hl rfl (Nat.le_of_ble_eq_true rfl) dL_law_161 ⟨by decide, by decide⟩ (fun a u H locs hp0 hT hS => ?_)
  refine lv_aload_n hx hb dL_law_164 rfl (lv_at hl 2 rfl) ?_
  refine lv_aload_n hx hb dL_law_165 rfl (lv_at hl 0 rfl) ?_
  refine lv_iload_n hx hb dL_law_166 rfl (lv_at hl 3 rfl) ?_
  refine lv_iconst (v := nI 1) hx hb dL_law_167 (by decide) ?_
  refine gi_add hx hb dL_law_168 ?_
  refine va_sld hx hb vX hbl hbA hS (vp_in_nI (by omega) (by omega)) dL_law_169 ?_
  refine gi_tp (y := v1) (by rw [nI_clamp (by omega)]; exact e1) ?_
  refine lv_aload_n hx hb dL_law_170 rfl (lv_at hl 0 rfl) ?_
  refine lv_iload_n hx hb dL_law_171 rfl (lv_at hl 3 rfl) ?_
  refine lv_iconst (v := nI 2) hx hb dL_law_172 (by decide) ?_
  refine gi_add hx hb dL_law_173 ?_
  refine va_sld hx hb vX hbl hbA hS (vp_in_nI (by omega) (by omega)) dL_law_174 ?_
  refine gi_tp (y := v2) (by rw [nI_clamp (by omega)]; exact e2) ?_
  refine lv_aload_n hx hb dL_law_175 rfl (lv_at hl 0 rfl) ?_
  refine lv_iload_n hx hb dL_law_176 rfl (lv_at hl 3 rfl) ?_
  refine lv_iconst (v := nI 3) hx hb dL_law_177 (by decide) ?_
  refine gi_add hx hb dL_law_178 ?_
  refine va_sld hx hb vX hbl hbA hS (vp_in_nI (by omega) (by omega)) dL_law_179 ?_
  refine gi_tp (y := v3) (by rw [nI_clamp (by omega)]; exact e3) ?_
  refine gl_calli (As := [.int v1, .int v2, .int v3]) (rest := [.int a]) (C := RX1) (n := 3) K cM (lw_V q273 q274 q275 q28 q276) (by decide +kernel) ⟨by decide, by decide⟩ ⟨rfl, rfl⟩ rfl 1 rfl rfl em hT.symm hS hl rfl (Nat.le_of_ble_eq_true rfl) dL_law_180 ⟨by decide, by decide⟩ (fun a' u' H locs hp1 hT hS => ?_)
  refine lv_icmp_eq (tgt := 418) hx hb dL_law_183 (by decide) (fun _ => ?_) (fun q => ?_)
  · exact kk a u a' u' H locs hp0 hp1 hT.symm hS
  · exact absurd (ag a u a' u' hp0 hp1) q
set_option maxHeartbeats 4000000 in
/-- the law's case 2: clear -/
theorem lc_2 {S S' : Type} {px : S → Prop} {ux : S → va_W} {pm : S' → Prop} {um : S' → va_W} (cX : MetV l yX0_clear cX0_clear 1 D d [.ref ha] wx (rmG 0) px ux) (cM : MetV l yX1_clear cX1_clear 1 D d [.ref hm] wm (rmG 0) pm um) (ex : wx[0]? = some (ha, .inr (0, fx))) (em : wm[0]? = some (hm, .inr (1, fm))) (K : Cx R_law p c m meth s #[Value.ref b] cL_law 4 ret D d A) (vX : va_X b L xs s s.heap) (hbl : b < s.heap.size) (hbA : ¬ A b) (hi : i + 4 ≤ L) (hL : L ≤ 256) (hT : two D A wx wm H) (hS : va_S A s.heap H locs) (hl : lv_has ls 4 [(0, .ref b), (1, .ref ha), (2, .ref hm), (3, .int (nI i))])
    (kk : ∀ (u : S) (u' : S') (H : Heap) (locs : List Loc), px u → pm u' → two D A (ux u) (um u') H → va_S A s.heap H locs → W p l e room_1 s m #[Value.ref b] below meth c H locs 18 243 Q (F0 m 418 ls [])) : W p l e room_1 s m #[Value.ref b] below meth c H locs 18 243 Q (F0 m 188 ls []) := by
  have hx := K.1
  have hb := K.2.1
  refine lv_aload_n hx hb dL_law_188 rfl (lv_at hl 1 rfl) ?_
  refine gl_callv (As := []) (rest := []) (C := RX0) (n := 0) K cX (lw_V q105 q106 q107 q27 q108) (by decide +kernel) ⟨by decide, by decide⟩ ⟨rfl, rfl⟩ rfl 0 rfl rfl ex hT hS hl rfl (Nat.le_of_ble_eq_true rfl) dL_law_189 ⟨by decide, by decide⟩ (fun u H locs hp0 hT hS => ?_)
  refine lv_aload_n hx hb dL_law_192 rfl (lv_at hl 2 rfl) ?_
  refine gl_callv (As := []) (rest := []) (C := RX1) (n := 0) K cM (lw_V q277 q278 q279 q28 q280) (by decide +kernel) ⟨by decide, by decide⟩ ⟨rfl, rfl⟩ rfl 1 rfl rfl em hT.symm hS hl rfl (Nat.le_of_ble_eq_true rfl) dL_law_193 ⟨by decide, by decide⟩ (fun u' H locs hp1 hT hS => ?_)
  refine lv_goto (tgt := 418) hx hb dL_law_196 (by decide) ?_
  exact kk u u' H locs hp0 hp1 hT.symm hS
set_option maxHeartbeats 4000000 in
/-- the law's case 3: size -/
theorem lc_3 {S S' : Type} {px : Int32 → S → Prop} {ux : S → va_W} {pm : Int32 → S' → Prop} {um : S' → va_W} (cX : MetI l yX0_size cX0_size 1 .int D d [.ref ha] wx (rmG 0) px ux) (cM : MetI l yX1_size cX1_size 1 .int D d [.ref hm] wm (rmG 0) pm um) (ex : wx[0]? = some (ha, .inr (0, fx))) (em : wm[0]? = some (hm, .inr (1, fm))) (ag : ∀ (a : Int32) (u : S) (a' : Int32) (u' : S'), px a u → pm a' u' → a = a') (K : Cx R_law p c m meth s #[Value.ref b] cL_law 4 ret D d A) (vX : va_X b L xs s s.heap) (hbl : b < s.heap.size) (hbA : ¬ A b) (hi : i + 4 ≤ L) (hL : L ≤ 256) (hT : two D A wx wm H) (hS : va_S A s.heap H locs) (hl : lv_has ls 4 [(0, .ref b), (1, .ref ha), (2, .ref hm), (3, .int (nI i))])
    (kk : ∀ (a : Int32) (u : S) (a' : Int32) (u' : S') (H : Heap) (locs : List Loc), px a u → pm a' u' → two D A (ux u) (um u') H → va_S A s.heap H locs → W p l e room_1 s m #[Value.ref b] below meth c H locs 18 243 Q (F0 m 418 ls [])) : W p l e room_1 s m #[Value.ref b] below meth c H locs 18 243 Q (F0 m 199 ls []) := by
  have hx := K.1
  have hb := K.2.1
  refine lv_aload_n hx hb dL_law_199 rfl (lv_at hl 1 rfl) ?_
  refine gl_calli (As := []) (rest := []) (C := RX0) (n := 0) K cX (lw_V q109 q110 q111 q27 q112) (by decide +kernel) ⟨by decide, by decide⟩ ⟨rfl, rfl⟩ rfl 0 rfl rfl ex hT hS hl rfl (Nat.le_of_ble_eq_true rfl) dL_law_200 ⟨by decide, by decide⟩ (fun a u H locs hp0 hT hS => ?_)
  refine lv_aload_n hx hb dL_law_203 rfl (lv_at hl 2 rfl) ?_
  refine gl_calli (As := []) (rest := [.int a]) (C := RX1) (n := 0) K cM (lw_V q281 q282 q283 q28 q284) (by decide +kernel) ⟨by decide, by decide⟩ ⟨rfl, rfl⟩ rfl 1 rfl rfl em hT.symm hS hl rfl (Nat.le_of_ble_eq_true rfl) dL_law_204 ⟨by decide, by decide⟩ (fun a' u' H locs hp1 hT hS => ?_)
  refine lv_icmp_eq (tgt := 418) hx hb dL_law_207 (by decide) (fun _ => ?_) (fun q => ?_)
  · exact kk a u a' u' H locs hp0 hp1 hT.symm hS
  · exact absurd (ag a u a' u' hp0 hp1) q
set_option maxHeartbeats 4000000 in
/-- the law's case 4: set -/
theorem lc_4 {S S' : Type} {px : Int32 → S → Prop} {ux : S → va_W} {pm : Int32 → S' → Prop} {um : S' → va_W} (cX : MetI l yX0_set cX0_set 3 .int D d [.ref ha, .int v1, .int v2] wx (rmG 0) px ux) (cM : MetI l yX1_set cX1_set 3 .int D d [.ref hm, .int v1, .int v2] wm (rmG 0) pm um) (ex : wx[0]? = some (ha, .inr (0, fx))) (em : wm[0]? = some (hm, .inr (1, fm))) (ag : ∀ (a : Int32) (u : S) (a' : Int32) (u' : S'), px a u → pm a' u' → a = a') (e1 : xs (i + 1) = v1) (e2 : xs (i + 2) = v2) (K : Cx R_law p c m meth s #[Value.ref b] cL_law 4 ret D d A) (vX : va_X b L xs s s.heap) (hbl : b < s.heap.size) (hbA : ¬ A b) (hi : i + 4 ≤ L) (hL : L ≤ 256) (hT : two D A wx wm H) (hS : va_S A s.heap H locs) (hl : lv_has ls 4 [(0, .ref b), (1, .ref ha), (2, .ref hm), (3, .int (nI i))])
    (kk : ∀ (a : Int32) (u : S) (a' : Int32) (u' : S') (H : Heap) (locs : List Loc), px a u → pm a' u' → two D A (ux u) (um u') H → va_S A s.heap H locs → W p l e room_1 s m #[Value.ref b] below meth c H locs 18 243 Q (F0 m 418 ls [])) : W p l e room_1 s m #[Value.ref b] below meth c H locs 18 243 Q (F0 m 212 ls []) := by
  have hx := K.1
  have hb := K.2.1
  refine lv_aload_n hx hb dL_law_212 rfl (lv_at hl 1 rfl) ?_
  refine lv_aload_n hx hb dL_law_213 rfl (lv_at hl 0 rfl) ?_
  refine lv_iload_n hx hb dL_law_214 rfl (lv_at hl 3 rfl) ?_
  refine lv_iconst (v := nI 1) hx hb dL_law_215 (by decide) ?_
  refine gi_add hx hb dL_law_216 ?_
  refine va_sld hx hb vX hbl hbA hS (vp_in_nI (by omega) (by omega)) dL_law_217 ?_
  refine gi_tp (y := v1) (by rw [nI_clamp (by omega)]; exact e1) ?_
  refine lv_aload_n hx hb dL_law_218 rfl (lv_at hl 0 rfl) ?_
  refine lv_iload_n hx hb dL_law_219 rfl (lv_at hl 3 rfl) ?_
  refine lv_iconst (v := nI 2) hx hb dL_law_220 (by decide) ?_
  refine gi_add hx hb dL_law_221 ?_
  refine va_sld hx hb vX hbl hbA hS (vp_in_nI (by omega) (by omega)) dL_law_222 ?_
  refine gi_tp (y := v2) (by rw [nI_clamp (by omega)]; exact e2) ?_
  refine gl_calli (As := [.int v1, .int v2]) (rest := []) (C := RX0) (n := 2) K cX (lw_V q113 q114 q115 q27 q116) (by decide +kernel) ⟨by decide, by decide⟩ ⟨rfl, rfl⟩ rfl 0 rfl rfl ex hT hS hl rfl (Nat.le_of_ble_eq_true rfl) dL_law_223 ⟨by decide, by decide⟩ (fun a u H locs hp0 hT hS => ?_)
  refine lv_aload_n hx hb dL_law_226 rfl (lv_at hl 2 rfl) ?_
  refine lv_aload_n hx hb dL_law_227 rfl (lv_at hl 0 rfl) ?_
  refine lv_iload_n hx hb dL_law_228 rfl (lv_at hl 3 rfl) ?_
  refine lv_iconst (v := nI 1) hx hb dL_law_229 (by decide) ?_
  refine gi_add hx hb dL_law_230 ?_
  refine va_sld hx hb vX hbl hbA hS (vp_in_nI (by omega) (by omega)) dL_law_231 ?_
  refine gi_tp (y := v1) (by rw [nI_clamp (by omega)]; exact e1) ?_
  refine lv_aload_n hx hb dL_law_232 rfl (lv_at hl 0 rfl) ?_
  refine lv_iload_n hx hb dL_law_233 rfl (lv_at hl 3 rfl) ?_
  refine lv_iconst (v := nI 2) hx hb dL_law_234 (by decide) ?_
  refine gi_add hx hb dL_law_235 ?_
  refine va_sld hx hb vX hbl hbA hS (vp_in_nI (by omega) (by omega)) dL_law_236 ?_
  refine gi_tp (y := v2) (by rw [nI_clamp (by omega)]; exact e2) ?_
  refine gl_calli (As := [.int v1, .int v2]) (rest := [.int a]) (C := RX1) (n := 2) K cM (lw_V q285 q286 q287 q28 q288) (by decide +kernel) ⟨by decide, by decide⟩ ⟨rfl, rfl⟩ rfl 1 rfl rfl em hT.symm hS hl rfl (Nat.le_of_ble_eq_true rfl) dL_law_237 ⟨by decide, by decide⟩ (fun a' u' H locs hp1 hT hS => ?_)
  refine lv_icmp_eq (tgt := 418) hx hb dL_law_240 (by decide) (fun _ => ?_) (fun q => ?_)
  · exact kk a u a' u' H locs hp0 hp1 hT.symm hS
  · exact absurd (ag a u a' u' hp0 hp1) q
set_option maxHeartbeats 4000000 in
/-- the law's case 5: get -/
theorem lc_5 {S S' : Type} {px : Int32 → S → Prop} {ux : S → va_W} {pm : Int32 → S' → Prop} {um : S' → va_W} (cX : MetI l yX0_get cX0_get 2 .int D d [.ref ha, .int v1] wx (rmG 0) px ux) (cM : MetI l yX1_get cX1_get 2 .int D d [.ref hm, .int v1] wm (rmG 0) pm um) (ex : wx[0]? = some (ha, .inr (0, fx))) (em : wm[0]? = some (hm, .inr (1, fm))) (ag : ∀ (a : Int32) (u : S) (a' : Int32) (u' : S'), px a u → pm a' u' → a = a') (e1 : xs (i + 1) = v1) (K : Cx R_law p c m meth s #[Value.ref b] cL_law 4 ret D d A) (vX : va_X b L xs s s.heap) (hbl : b < s.heap.size) (hbA : ¬ A b) (hi : i + 4 ≤ L) (hL : L ≤ 256) (hT : two D A wx wm H) (hS : va_S A s.heap H locs) (hl : lv_has ls 4 [(0, .ref b), (1, .ref ha), (2, .ref hm), (3, .int (nI i))])
    (kk : ∀ (a : Int32) (u : S) (a' : Int32) (u' : S') (H : Heap) (locs : List Loc), px a u → pm a' u' → two D A (ux u) (um u') H → va_S A s.heap H locs → W p l e room_1 s m #[Value.ref b] below meth c H locs 18 243 Q (F0 m 418 ls [])) : W p l e room_1 s m #[Value.ref b] below meth c H locs 18 243 Q (F0 m 245 ls []) := by
  have hx := K.1
  have hb := K.2.1
  refine lv_aload_n hx hb dL_law_245 rfl (lv_at hl 1 rfl) ?_
  refine lv_aload_n hx hb dL_law_246 rfl (lv_at hl 0 rfl) ?_
  refine lv_iload_n hx hb dL_law_247 rfl (lv_at hl 3 rfl) ?_
  refine lv_iconst (v := nI 1) hx hb dL_law_248 (by decide) ?_
  refine gi_add hx hb dL_law_249 ?_
  refine va_sld hx hb vX hbl hbA hS (vp_in_nI (by omega) (by omega)) dL_law_250 ?_
  refine gi_tp (y := v1) (by rw [nI_clamp (by omega)]; exact e1) ?_
  refine gl_calli (As := [.int v1]) (rest := []) (C := RX0) (n := 1) K cX (lw_V q117 q118 q119 q27 q120) (by decide +kernel) ⟨by decide, by decide⟩ ⟨rfl, rfl⟩ rfl 0 rfl rfl ex hT hS hl rfl (Nat.le_of_ble_eq_true rfl) dL_law_251 ⟨by decide, by decide⟩ (fun a u H locs hp0 hT hS => ?_)
  refine lv_aload_n hx hb dL_law_254 rfl (lv_at hl 2 rfl) ?_
  refine lv_aload_n hx hb dL_law_255 rfl (lv_at hl 0 rfl) ?_
  refine lv_iload_n hx hb dL_law_256 rfl (lv_at hl 3 rfl) ?_
  refine lv_iconst (v := nI 1) hx hb dL_law_257 (by decide) ?_
  refine gi_add hx hb dL_law_258 ?_
  refine va_sld hx hb vX hbl hbA hS (vp_in_nI (by omega) (by omega)) dL_law_259 ?_
  refine gi_tp (y := v1) (by rw [nI_clamp (by omega)]; exact e1) ?_
  refine gl_calli (As := [.int v1]) (rest := [.int a]) (C := RX1) (n := 1) K cM (lw_V q289 q290 q291 q28 q292) (by decide +kernel) ⟨by decide, by decide⟩ ⟨rfl, rfl⟩ rfl 1 rfl rfl em hT.symm hS hl rfl (Nat.le_of_ble_eq_true rfl) dL_law_260 ⟨by decide, by decide⟩ (fun a' u' H locs hp1 hT hS => ?_)
  refine lv_icmp_eq (tgt := 418) hx hb dL_law_263 (by decide) (fun _ => ?_) (fun q => ?_)
  · exact kk a u a' u' H locs hp0 hp1 hT.symm hS
  · exact absurd (ag a u a' u' hp0 hp1) q
set_option maxHeartbeats 4000000 in
/-- the law's case 6: fund -/
theorem lc_6 {S S' : Type} {px : Int32 → S → Prop} {ux : S → va_W} {pm : Int32 → S' → Prop} {um : S' → va_W} (cX : MetI l yX0_fund cX0_fund 2 .int D d [.ref ha, .int v1] wx (rmG 0) px ux) (cM : MetI l yX1_fund cX1_fund 2 .int D d [.ref hm, .int v1] wm (rmG 0) pm um) (ex : wx[0]? = some (ha, .inr (0, fx))) (em : wm[0]? = some (hm, .inr (1, fm))) (ag : ∀ (a : Int32) (u : S) (a' : Int32) (u' : S'), px a u → pm a' u' → a = a') (e1 : xs (i + 1) = v1) (K : Cx R_law p c m meth s #[Value.ref b] cL_law 4 ret D d A) (vX : va_X b L xs s s.heap) (hbl : b < s.heap.size) (hbA : ¬ A b) (hi : i + 4 ≤ L) (hL : L ≤ 256) (hT : two D A wx wm H) (hS : va_S A s.heap H locs) (hl : lv_has ls 4 [(0, .ref b), (1, .ref ha), (2, .ref hm), (3, .int (nI i))])
    (kk : ∀ (a : Int32) (u : S) (a' : Int32) (u' : S') (H : Heap) (locs : List Loc), px a u → pm a' u' → two D A (ux u) (um u') H → va_S A s.heap H locs → W p l e room_1 s m #[Value.ref b] below meth c H locs 18 243 Q (F0 m 418 ls [])) : W p l e room_1 s m #[Value.ref b] below meth c H locs 18 243 Q (F0 m 268 ls []) := by
  have hx := K.1
  have hb := K.2.1
  refine lv_aload_n hx hb dL_law_268 rfl (lv_at hl 1 rfl) ?_
  refine lv_aload_n hx hb dL_law_269 rfl (lv_at hl 0 rfl) ?_
  refine lv_iload_n hx hb dL_law_270 rfl (lv_at hl 3 rfl) ?_
  refine lv_iconst (v := nI 1) hx hb dL_law_271 (by decide) ?_
  refine gi_add hx hb dL_law_272 ?_
  refine va_sld hx hb vX hbl hbA hS (vp_in_nI (by omega) (by omega)) dL_law_273 ?_
  refine gi_tp (y := v1) (by rw [nI_clamp (by omega)]; exact e1) ?_
  refine gl_calli (As := [.int v1]) (rest := []) (C := RX0) (n := 1) K cX (lw_V q121 q122 q123 q27 q124) (by decide +kernel) ⟨by decide, by decide⟩ ⟨rfl, rfl⟩ rfl 0 rfl rfl ex hT hS hl rfl (Nat.le_of_ble_eq_true rfl) dL_law_274 ⟨by decide, by decide⟩ (fun a u H locs hp0 hT hS => ?_)
  refine lv_aload_n hx hb dL_law_277 rfl (lv_at hl 2 rfl) ?_
  refine lv_aload_n hx hb dL_law_278 rfl (lv_at hl 0 rfl) ?_
  refine lv_iload_n hx hb dL_law_279 rfl (lv_at hl 3 rfl) ?_
  refine lv_iconst (v := nI 1) hx hb dL_law_280 (by decide) ?_
  refine gi_add hx hb dL_law_281 ?_
  refine va_sld hx hb vX hbl hbA hS (vp_in_nI (by omega) (by omega)) dL_law_282 ?_
  refine gi_tp (y := v1) (by rw [nI_clamp (by omega)]; exact e1) ?_
  refine gl_calli (As := [.int v1]) (rest := [.int a]) (C := RX1) (n := 1) K cM (lw_V q293 q294 q295 q28 q296) (by decide +kernel) ⟨by decide, by decide⟩ ⟨rfl, rfl⟩ rfl 1 rfl rfl em hT.symm hS hl rfl (Nat.le_of_ble_eq_true rfl) dL_law_283 ⟨by decide, by decide⟩ (fun a' u' H locs hp1 hT hS => ?_)
  refine lv_icmp_eq (tgt := 418) hx hb dL_law_286 (by decide) (fun _ => ?_) (fun q => ?_)
  · exact kk a u a' u' H locs hp0 hp1 hT.symm hS
  · exact absurd (ag a u a' u' hp0 hp1) q
set_option maxHeartbeats 4000000 in
/-- the law's case 7: gas -/
theorem lc_7 {S S' : Type} {px : Int32 → S → Prop} {ux : S → va_W} {pm : Int32 → S' → Prop} {um : S' → va_W} (cX : MetI l yX0_gas cX0_gas 1 .int D d [.ref ha] wx (rmG 0) px ux) (cM : MetI l yX1_gas cX1_gas 1 .int D d [.ref hm] wm (rmG 0) pm um) (ex : wx[0]? = some (ha, .inr (0, fx))) (em : wm[0]? = some (hm, .inr (1, fm))) (ag : ∀ (a : Int32) (u : S) (a' : Int32) (u' : S'), px a u → pm a' u' → a = a') (K : Cx R_law p c m meth s #[Value.ref b] cL_law 4 ret D d A) (vX : va_X b L xs s s.heap) (hbl : b < s.heap.size) (hbA : ¬ A b) (hi : i + 4 ≤ L) (hL : L ≤ 256) (hT : two D A wx wm H) (hS : va_S A s.heap H locs) (hl : lv_has ls 4 [(0, .ref b), (1, .ref ha), (2, .ref hm), (3, .int (nI i))])
    (kk : ∀ (a : Int32) (u : S) (a' : Int32) (u' : S') (H : Heap) (locs : List Loc), px a u → pm a' u' → two D A (ux u) (um u') H → va_S A s.heap H locs → W p l e room_1 s m #[Value.ref b] below meth c H locs 18 243 Q (F0 m 418 ls [])) : W p l e room_1 s m #[Value.ref b] below meth c H locs 18 243 Q (F0 m 291 ls []) := by
  have hx := K.1
  have hb := K.2.1
  refine lv_aload_n hx hb dL_law_291 rfl (lv_at hl 1 rfl) ?_
  refine gl_calli (As := []) (rest := []) (C := RX0) (n := 0) K cX (lw_V q126 q127 q128 q27 q129) (by decide +kernel) ⟨by decide, by decide⟩ ⟨rfl, rfl⟩ rfl 0 rfl rfl ex hT hS hl rfl (Nat.le_of_ble_eq_true rfl) dL_law_292 ⟨by decide, by decide⟩ (fun a u H locs hp0 hT hS => ?_)
  refine lv_aload_n hx hb dL_law_295 rfl (lv_at hl 2 rfl) ?_
  refine gl_calli (As := []) (rest := [.int a]) (C := RX1) (n := 0) K cM (lw_V q298 q299 q300 q28 q301) (by decide +kernel) ⟨by decide, by decide⟩ ⟨rfl, rfl⟩ rfl 1 rfl rfl em hT.symm hS hl rfl (Nat.le_of_ble_eq_true rfl) dL_law_296 ⟨by decide, by decide⟩ (fun a' u' H locs hp1 hT hS => ?_)
  refine lv_icmp_eq (tgt := 418) hx hb dL_law_299 (by decide) (fun _ => ?_) (fun q => ?_)
  · exact kk a u a' u' H locs hp0 hp1 hT.symm hS
  · exact absurd (ag a u a' u' hp0 hp1) q
set_option maxHeartbeats 4000000 in
/-- the law's case 8: run -/
theorem lc_8 {S S' : Type} {px : Int32 → S → Prop} {ux : S → va_W} {pm : Int32 → S' → Prop} {um : S' → va_W} (cX : MetI l yX0_run cX0_run 2 .int D d [.ref ha] wx (rmG 4) px ux) (cM : MetI l yX1_run cX1_run 2 .int D d [.ref hm] wm (rmG 3) pm um) (ex : wx[0]? = some (ha, .inr (0, fx))) (em : wm[0]? = some (hm, .inr (1, fm))) (ag : ∀ (a : Int32) (u : S) (a' : Int32) (u' : S'), px a u → pm a' u' → a = a') (K : Cx R_law p c m meth s #[Value.ref b] cL_law 4 ret D d A) (vX : va_X b L xs s s.heap) (hbl : b < s.heap.size) (hbA : ¬ A b) (hi : i + 4 ≤ L) (hL : L ≤ 256) (hT : two D A wx wm H) (hS : va_S A s.heap H locs) (hl : lv_has ls 4 [(0, .ref b), (1, .ref ha), (2, .ref hm), (3, .int (nI i))])
    (kk : ∀ (a : Int32) (u : S) (a' : Int32) (u' : S') (H : Heap) (locs : List Loc), px a u → pm a' u' → two D A (ux u) (um u') H → va_S A s.heap H locs → W p l e room_1 s m #[Value.ref b] below meth c H locs 18 243 Q (F0 m 418 ls [])) : W p l e room_1 s m #[Value.ref b] below meth c H locs 18 243 Q (F0 m 304 ls []) := by
  have hx := K.1
  have hb := K.2.1
  refine lv_aload_n hx hb dL_law_304 rfl (lv_at hl 1 rfl) ?_
  refine gl_calli (As := []) (rest := []) (C := RX0) (n := 0) K cX (lw_V q130 q131 q132 q27 q133) (by decide +kernel) ⟨by decide, by decide⟩ ⟨rfl, rfl⟩ rfl 0 rfl rfl ex hT hS hl rfl (Nat.le_of_ble_eq_true rfl) dL_law_305 ⟨by decide, by decide⟩ (fun a u H locs hp0 hT hS => ?_)
  refine lv_aload_n hx hb dL_law_308 rfl (lv_at hl 2 rfl) ?_
  refine gl_calli (As := []) (rest := [.int a]) (C := RX1) (n := 0) K cM (lw_V q302 q303 q304 q28 q305) (by decide +kernel) ⟨by decide, by decide⟩ ⟨rfl, rfl⟩ rfl 1 rfl rfl em hT.symm hS hl rfl (Nat.le_of_ble_eq_true rfl) dL_law_309 ⟨by decide, by decide⟩ (fun a' u' H locs hp1 hT hS => ?_)
  refine lv_icmp_eq (tgt := 418) hx hb dL_law_312 (by decide) (fun _ => ?_) (fun q => ?_)
  · exact kk a u a' u' H locs hp0 hp1 hT.symm hS
  · exact absurd (ag a u a' u' hp0 hp1) q
set_option maxHeartbeats 4000000 in
/-- the law's case 9: ending -/
theorem lc_9 {S S' : Type} {px : Int32 → S → Prop} {ux : S → va_W} {pm : Int32 → S' → Prop} {um : S' → va_W} (cX : MetI l yX0_ending cX0_ending 1 .int D d [.ref ha] wx (rmG 0) px ux) (cM : MetI l yX1_ending cX1_ending 1 .int D d [.ref hm] wm (rmG 0) pm um) (ex : wx[0]? = some (ha, .inr (0, fx))) (em : wm[0]? = some (hm, .inr (1, fm))) (ag : ∀ (a : Int32) (u : S) (a' : Int32) (u' : S'), px a u → pm a' u' → a = a') (K : Cx R_law p c m meth s #[Value.ref b] cL_law 4 ret D d A) (vX : va_X b L xs s s.heap) (hbl : b < s.heap.size) (hbA : ¬ A b) (hi : i + 4 ≤ L) (hL : L ≤ 256) (hT : two D A wx wm H) (hS : va_S A s.heap H locs) (hl : lv_has ls 4 [(0, .ref b), (1, .ref ha), (2, .ref hm), (3, .int (nI i))])
    (kk : ∀ (a : Int32) (u : S) (a' : Int32) (u' : S') (H : Heap) (locs : List Loc), px a u → pm a' u' → two D A (ux u) (um u') H → va_S A s.heap H locs → W p l e room_1 s m #[Value.ref b] below meth c H locs 18 243 Q (F0 m 418 ls [])) : W p l e room_1 s m #[Value.ref b] below meth c H locs 18 243 Q (F0 m 317 ls []) := by
  have hx := K.1
  have hb := K.2.1
  refine lv_aload_n hx hb dL_law_317 rfl (lv_at hl 1 rfl) ?_
  refine gl_calli (As := []) (rest := []) (C := RX0) (n := 0) K cX (lw_V q190 q191 q192 q27 q193) (by decide +kernel) ⟨by decide, by decide⟩ ⟨rfl, rfl⟩ rfl 0 rfl rfl ex hT hS hl rfl (Nat.le_of_ble_eq_true rfl) dL_law_318 ⟨by decide, by decide⟩ (fun a u H locs hp0 hT hS => ?_)
  refine lv_aload_n hx hb dL_law_321 rfl (lv_at hl 2 rfl) ?_
  refine gl_calli (As := []) (rest := [.int a]) (C := RX1) (n := 0) K cM (lw_V q334 q335 q336 q28 q337) (by decide +kernel) ⟨by decide, by decide⟩ ⟨rfl, rfl⟩ rfl 1 rfl rfl em hT.symm hS hl rfl (Nat.le_of_ble_eq_true rfl) dL_law_322 ⟨by decide, by decide⟩ (fun a' u' H locs hp1 hT hS => ?_)
  refine lv_icmp_eq (tgt := 418) hx hb dL_law_325 (by decide) (fun _ => ?_) (fun q => ?_)
  · exact kk a u a' u' H locs hp0 hp1 hT.symm hS
  · exact absurd (ag a u a' u' hp0 hp1) q
set_option maxHeartbeats 4000000 in
/-- the law's case 10: place -/
theorem lc_10 {S S' : Type} {px : Int32 → S → Prop} {ux : S → va_W} {pm : Int32 → S' → Prop} {um : S' → va_W} (cX : MetI l yX0_place cX0_place 1 .int D d [.ref ha] wx (rmG 0) px ux) (cM : MetI l yX1_place cX1_place 1 .int D d [.ref hm] wm (rmG 0) pm um) (ex : wx[0]? = some (ha, .inr (0, fx))) (em : wm[0]? = some (hm, .inr (1, fm))) (ag : ∀ (a : Int32) (u : S) (a' : Int32) (u' : S'), px a u → pm a' u' → a = a') (K : Cx R_law p c m meth s #[Value.ref b] cL_law 4 ret D d A) (vX : va_X b L xs s s.heap) (hbl : b < s.heap.size) (hbA : ¬ A b) (hi : i + 4 ≤ L) (hL : L ≤ 256) (hT : two D A wx wm H) (hS : va_S A s.heap H locs) (hl : lv_has ls 4 [(0, .ref b), (1, .ref ha), (2, .ref hm), (3, .int (nI i))])
    (kk : ∀ (a : Int32) (u : S) (a' : Int32) (u' : S') (H : Heap) (locs : List Loc), px a u → pm a' u' → two D A (ux u) (um u') H → va_S A s.heap H locs → W p l e room_1 s m #[Value.ref b] below meth c H locs 18 243 Q (F0 m 418 ls [])) : W p l e room_1 s m #[Value.ref b] below meth c H locs 18 243 Q (F0 m 330 ls []) := by
  have hx := K.1
  have hb := K.2.1
  refine lv_aload_n hx hb dL_law_330 rfl (lv_at hl 1 rfl) ?_
  refine gl_calli (As := []) (rest := []) (C := RX0) (n := 0) K cX (lw_V q194 q195 q196 q27 q197) (by decide +kernel) ⟨by decide, by decide⟩ ⟨rfl, rfl⟩ rfl 0 rfl rfl ex hT hS hl rfl (Nat.le_of_ble_eq_true rfl) dL_law_331 ⟨by decide, by decide⟩ (fun a u H locs hp0 hT hS => ?_)
  refine lv_aload_n hx hb dL_law_334 rfl (lv_at hl 2 rfl) ?_
  refine gl_calli (As := []) (rest := [.int a]) (C := RX1) (n := 0) K cM (lw_V q338 q339 q340 q28 q341) (by decide +kernel) ⟨by decide, by decide⟩ ⟨rfl, rfl⟩ rfl 1 rfl rfl em hT.symm hS hl rfl (Nat.le_of_ble_eq_true rfl) dL_law_335 ⟨by decide, by decide⟩ (fun a' u' H locs hp1 hT hS => ?_)
  refine lv_icmp_eq (tgt := 418) hx hb dL_law_338 (by decide) (fun _ => ?_) (fun q => ?_)
  · exact kk a u a' u' H locs hp0 hp1 hT.symm hS
  · exact absurd (ag a u a' u' hp0 hp1) q
set_option maxHeartbeats 4000000 in
/-- the law's case 11: steps -/
theorem lc_11 {S S' : Type} {px : Int32 → S → Prop} {ux : S → va_W} {pm : Int32 → S' → Prop} {um : S' → va_W} (cX : MetI l yX0_steps cX0_steps 1 .int D d [.ref ha] wx (rmG 0) px ux) (cM : MetI l yX1_steps cX1_steps 1 .int D d [.ref hm] wm (rmG 0) pm um) (ex : wx[0]? = some (ha, .inr (0, fx))) (em : wm[0]? = some (hm, .inr (1, fm))) (ag : ∀ (a : Int32) (u : S) (a' : Int32) (u' : S'), px a u → pm a' u' → a = a') (K : Cx R_law p c m meth s #[Value.ref b] cL_law 4 ret D d A) (vX : va_X b L xs s s.heap) (hbl : b < s.heap.size) (hbA : ¬ A b) (hi : i + 4 ≤ L) (hL : L ≤ 256) (hT : two D A wx wm H) (hS : va_S A s.heap H locs) (hl : lv_has ls 4 [(0, .ref b), (1, .ref ha), (2, .ref hm), (3, .int (nI i))])
    (kk : ∀ (a : Int32) (u : S) (a' : Int32) (u' : S') (H : Heap) (locs : List Loc), px a u → pm a' u' → two D A (ux u) (um u') H → va_S A s.heap H locs → W p l e room_1 s m #[Value.ref b] below meth c H locs 18 243 Q (F0 m 418 ls [])) : W p l e room_1 s m #[Value.ref b] below meth c H locs 18 243 Q (F0 m 343 ls []) := by
  have hx := K.1
  have hb := K.2.1
  refine lv_aload_n hx hb dL_law_343 rfl (lv_at hl 1 rfl) ?_
  refine gl_calli (As := []) (rest := []) (C := RX0) (n := 0) K cX (lw_V q198 q199 q200 q27 q201) (by decide +kernel) ⟨by decide, by decide⟩ ⟨rfl, rfl⟩ rfl 0 rfl rfl ex hT hS hl rfl (Nat.le_of_ble_eq_true rfl) dL_law_344 ⟨by decide, by decide⟩ (fun a u H locs hp0 hT hS => ?_)
  refine lv_aload_n hx hb dL_law_347 rfl (lv_at hl 2 rfl) ?_
  refine gl_calli (As := []) (rest := [.int a]) (C := RX1) (n := 0) K cM (lw_V q342 q343 q344 q28 q345) (by decide +kernel) ⟨by decide, by decide⟩ ⟨rfl, rfl⟩ rfl 1 rfl rfl em hT.symm hS hl rfl (Nat.le_of_ble_eq_true rfl) dL_law_348 ⟨by decide, by decide⟩ (fun a' u' H locs hp1 hT hS => ?_)
  refine lv_icmp_eq (tgt := 418) hx hb dL_law_351 (by decide) (fun _ => ?_) (fun q => ?_)
  · exact kk a u a' u' H locs hp0 hp1 hT.symm hS
  · exact absurd (ag a u a' u' hp0 hp1) q
set_option maxHeartbeats 4000000 in
/-- the law's case 12: spent -/
theorem lc_12 {S S' : Type} {px : Int32 → S → Prop} {ux : S → va_W} {pm : Int32 → S' → Prop} {um : S' → va_W} (cX : MetI l yX0_spent cX0_spent 1 .int D d [.ref ha] wx (rmG 0) px ux) (cM : MetI l yX1_spent cX1_spent 1 .int D d [.ref hm] wm (rmG 0) pm um) (ex : wx[0]? = some (ha, .inr (0, fx))) (em : wm[0]? = some (hm, .inr (1, fm))) (ag : ∀ (a : Int32) (u : S) (a' : Int32) (u' : S'), px a u → pm a' u' → a = a') (K : Cx R_law p c m meth s #[Value.ref b] cL_law 4 ret D d A) (vX : va_X b L xs s s.heap) (hbl : b < s.heap.size) (hbA : ¬ A b) (hi : i + 4 ≤ L) (hL : L ≤ 256) (hT : two D A wx wm H) (hS : va_S A s.heap H locs) (hl : lv_has ls 4 [(0, .ref b), (1, .ref ha), (2, .ref hm), (3, .int (nI i))])
    (kk : ∀ (a : Int32) (u : S) (a' : Int32) (u' : S') (H : Heap) (locs : List Loc), px a u → pm a' u' → two D A (ux u) (um u') H → va_S A s.heap H locs → W p l e room_1 s m #[Value.ref b] below meth c H locs 18 243 Q (F0 m 418 ls [])) : W p l e room_1 s m #[Value.ref b] below meth c H locs 18 243 Q (F0 m 356 ls []) := by
  have hx := K.1
  have hb := K.2.1
  refine lv_aload_n hx hb dL_law_356 rfl (lv_at hl 1 rfl) ?_
  refine gl_calli (As := []) (rest := []) (C := RX0) (n := 0) K cX (lw_V q202 q203 q204 q27 q205) (by decide +kernel) ⟨by decide, by decide⟩ ⟨rfl, rfl⟩ rfl 0 rfl rfl ex hT hS hl rfl (Nat.le_of_ble_eq_true rfl) dL_law_357 ⟨by decide, by decide⟩ (fun a u H locs hp0 hT hS => ?_)
  refine lv_aload_n hx hb dL_law_360 rfl (lv_at hl 2 rfl) ?_
  refine gl_calli (As := []) (rest := [.int a]) (C := RX1) (n := 0) K cM (lw_V q346 q347 q348 q28 q349) (by decide +kernel) ⟨by decide, by decide⟩ ⟨rfl, rfl⟩ rfl 1 rfl rfl em hT.symm hS hl rfl (Nat.le_of_ble_eq_true rfl) dL_law_361 ⟨by decide, by decide⟩ (fun a' u' H locs hp1 hT hS => ?_)
  refine lv_icmp_eq (tgt := 418) hx hb dL_law_364 (by decide) (fun _ => ?_) (fun q => ?_)
  · exact kk a u a' u' H locs hp0 hp1 hT.symm hS
  · exact absurd (ag a u a' u' hp0 hp1) q
set_option maxHeartbeats 4000000 in
/-- the law's case 13: height -/
theorem lc_13 {S S' : Type} {px : Int32 → S → Prop} {ux : S → va_W} {pm : Int32 → S' → Prop} {um : S' → va_W} (cX : MetI l yX0_height cX0_height 1 .int D d [.ref ha] wx (rmG 0) px ux) (cM : MetI l yX1_height cX1_height 1 .int D d [.ref hm] wm (rmG 0) pm um) (ex : wx[0]? = some (ha, .inr (0, fx))) (em : wm[0]? = some (hm, .inr (1, fm))) (ag : ∀ (a : Int32) (u : S) (a' : Int32) (u' : S'), px a u → pm a' u' → a = a') (K : Cx R_law p c m meth s #[Value.ref b] cL_law 4 ret D d A) (vX : va_X b L xs s s.heap) (hbl : b < s.heap.size) (hbA : ¬ A b) (hi : i + 4 ≤ L) (hL : L ≤ 256) (hT : two D A wx wm H) (hS : va_S A s.heap H locs) (hl : lv_has ls 4 [(0, .ref b), (1, .ref ha), (2, .ref hm), (3, .int (nI i))])
    (kk : ∀ (a : Int32) (u : S) (a' : Int32) (u' : S') (H : Heap) (locs : List Loc), px a u → pm a' u' → two D A (ux u) (um u') H → va_S A s.heap H locs → W p l e room_1 s m #[Value.ref b] below meth c H locs 18 243 Q (F0 m 418 ls [])) : W p l e room_1 s m #[Value.ref b] below meth c H locs 18 243 Q (F0 m 369 ls []) := by
  have hx := K.1
  have hb := K.2.1
  refine lv_aload_n hx hb dL_law_369 rfl (lv_at hl 1 rfl) ?_
  refine gl_calli (As := []) (rest := []) (C := RX0) (n := 0) K cX (lw_V q206 q207 q208 q27 q209) (by decide +kernel) ⟨by decide, by decide⟩ ⟨rfl, rfl⟩ rfl 0 rfl rfl ex hT hS hl rfl (Nat.le_of_ble_eq_true rfl) dL_law_370 ⟨by decide, by decide⟩ (fun a u H locs hp0 hT hS => ?_)
  refine lv_aload_n hx hb dL_law_373 rfl (lv_at hl 2 rfl) ?_
  refine gl_calli (As := []) (rest := [.int a]) (C := RX1) (n := 0) K cM (lw_V q350 q351 q352 q28 q353) (by decide +kernel) ⟨by decide, by decide⟩ ⟨rfl, rfl⟩ rfl 1 rfl rfl em hT.symm hS hl rfl (Nat.le_of_ble_eq_true rfl) dL_law_374 ⟨by decide, by decide⟩ (fun a' u' H locs hp1 hT hS => ?_)
  refine lv_icmp_eq (tgt := 418) hx hb dL_law_377 (by decide) (fun _ => ?_) (fun q => ?_)
  · exact kk a u a' u' H locs hp0 hp1 hT.symm hS
  · exact absurd (ag a u a' u' hp0 hp1) q
set_option maxHeartbeats 4000000 in
/-- the law's case 14: pile -/
theorem lc_14 {S S' : Type} {px : Int32 → S → Prop} {ux : S → va_W} {pm : Int32 → S' → Prop} {um : S' → va_W} (cX : MetI l yX0_pile cX0_pile 2 .int D d [.ref ha, .int v1] wx (rmG 0) px ux) (cM : MetI l yX1_pile cX1_pile 2 .int D d [.ref hm, .int v1] wm (rmG 0) pm um) (ex : wx[0]? = some (ha, .inr (0, fx))) (em : wm[0]? = some (hm, .inr (1, fm))) (ag : ∀ (a : Int32) (u : S) (a' : Int32) (u' : S'), px a u → pm a' u' → a = a') (e1 : xs (i + 1) = v1) (K : Cx R_law p c m meth s #[Value.ref b] cL_law 4 ret D d A) (vX : va_X b L xs s s.heap) (hbl : b < s.heap.size) (hbA : ¬ A b) (hi : i + 4 ≤ L) (hL : L ≤ 256) (hT : two D A wx wm H) (hS : va_S A s.heap H locs) (hl : lv_has ls 4 [(0, .ref b), (1, .ref ha), (2, .ref hm), (3, .int (nI i))])
    (kk : ∀ (a : Int32) (u : S) (a' : Int32) (u' : S') (H : Heap) (locs : List Loc), px a u → pm a' u' → two D A (ux u) (um u') H → va_S A s.heap H locs → W p l e room_1 s m #[Value.ref b] below meth c H locs 18 243 Q (F0 m 418 ls [])) : W p l e room_1 s m #[Value.ref b] below meth c H locs 18 243 Q (F0 m 382 ls []) := by
  have hx := K.1
  have hb := K.2.1
  refine lv_aload_n hx hb dL_law_382 rfl (lv_at hl 1 rfl) ?_
  refine lv_aload_n hx hb dL_law_383 rfl (lv_at hl 0 rfl) ?_
  refine lv_iload_n hx hb dL_law_384 rfl (lv_at hl 3 rfl) ?_
  refine lv_iconst (v := nI 1) hx hb dL_law_385 (by decide) ?_
  refine gi_add hx hb dL_law_386 ?_
  refine va_sld hx hb vX hbl hbA hS (vp_in_nI (by omega) (by omega)) dL_law_387 ?_
  refine gi_tp (y := v1) (by rw [nI_clamp (by omega)]; exact e1) ?_
  refine gl_calli (As := [.int v1]) (rest := []) (C := RX0) (n := 1) K cX (lw_V q210 q211 q212 q27 q213) (by decide +kernel) ⟨by decide, by decide⟩ ⟨rfl, rfl⟩ rfl 0 rfl rfl ex hT hS hl rfl (Nat.le_of_ble_eq_true rfl) dL_law_388 ⟨by decide, by decide⟩ (fun a u H locs hp0 hT hS => ?_)
  refine lv_aload_n hx hb dL_law_391 rfl (lv_at hl 2 rfl) ?_
  refine lv_aload_n hx hb dL_law_392 rfl (lv_at hl 0 rfl) ?_
  refine lv_iload_n hx hb dL_law_393 rfl (lv_at hl 3 rfl) ?_
  refine lv_iconst (v := nI 1) hx hb dL_law_394 (by decide) ?_
  refine gi_add hx hb dL_law_395 ?_
  refine va_sld hx hb vX hbl hbA hS (vp_in_nI (by omega) (by omega)) dL_law_396 ?_
  refine gi_tp (y := v1) (by rw [nI_clamp (by omega)]; exact e1) ?_
  refine gl_calli (As := [.int v1]) (rest := [.int a]) (C := RX1) (n := 1) K cM (lw_V q354 q355 q356 q28 q357) (by decide +kernel) ⟨by decide, by decide⟩ ⟨rfl, rfl⟩ rfl 1 rfl rfl em hT.symm hS hl rfl (Nat.le_of_ble_eq_true rfl) dL_law_397 ⟨by decide, by decide⟩ (fun a' u' H locs hp1 hT hS => ?_)
  refine lv_icmp_eq (tgt := 418) hx hb dL_law_400 (by decide) (fun _ => ?_) (fun q => ?_)
  · exact kk a u a' u' H locs hp0 hp1 hT.symm hS
  · exact absurd (ag a u a' u' hp0 hp1) q
set_option maxHeartbeats 4000000 in
/-- the law's case 15: bill -/
theorem lc_15 {S S' : Type} {px : Int32 → S → Prop} {ux : S → va_W} {pm : Int32 → S' → Prop} {um : S' → va_W} (cX : MetI l yX0_bill cX0_bill 8 .int D d [.ref ha] wx (rmG 4) px ux) (cM : MetI l yX1_bill cX1_bill 8 .int D d [.ref hm] wm (rmG 4) pm um) (ex : wx[0]? = some (ha, .inr (0, fx))) (em : wm[0]? = some (hm, .inr (1, fm))) (ag : ∀ (a : Int32) (u : S) (a' : Int32) (u' : S'), px a u → pm a' u' → a = a') (K : Cx R_law p c m meth s #[Value.ref b] cL_law 4 ret D d A) (vX : va_X b L xs s s.heap) (hbl : b < s.heap.size) (hbA : ¬ A b) (hi : i + 4 ≤ L) (hL : L ≤ 256) (hT : two D A wx wm H) (hS : va_S A s.heap H locs) (hl : lv_has ls 4 [(0, .ref b), (1, .ref ha), (2, .ref hm), (3, .int (nI i))])
    (kk : ∀ (a : Int32) (u : S) (a' : Int32) (u' : S') (H : Heap) (locs : List Loc), px a u → pm a' u' → two D A (ux u) (um u') H → va_S A s.heap H locs → W p l e room_1 s m #[Value.ref b] below meth c H locs 18 243 Q (F0 m 418 ls [])) : W p l e room_1 s m #[Value.ref b] below meth c H locs 18 243 Q (F0 m 405 ls []) := by
  have hx := K.1
  have hb := K.2.1
  refine lv_aload_n hx hb dL_law_405 rfl (lv_at hl 1 rfl) ?_
  refine gl_calli (As := []) (rest := []) (C := RX0) (n := 0) K cX (lw_V q214 q215 q216 q27 q217) (by decide +kernel) ⟨by decide, by decide⟩ ⟨rfl, rfl⟩ rfl 0 rfl rfl ex hT hS hl rfl (Nat.le_of_ble_eq_true rfl) dL_law_406 ⟨by decide, by decide⟩ (fun a u H locs hp0 hT hS => ?_)
  refine lv_aload_n hx hb dL_law_409 rfl (lv_at hl 2 rfl) ?_
  refine gl_calli (As := []) (rest := [.int a]) (C := RX1) (n := 0) K cM (lw_V q358 q359 q360 q28 q361) (by decide +kernel) ⟨by decide, by decide⟩ ⟨rfl, rfl⟩ rfl 1 rfl rfl em hT.symm hS hl rfl (Nat.le_of_ble_eq_true rfl) dL_law_410 ⟨by decide, by decide⟩ (fun a' u' H locs hp1 hT hS => ?_)
  refine lv_icmp_eq (tgt := 418) hx hb dL_law_413 (by decide) (fun _ => ?_) (fun q => ?_)
  · exact kk a u a' u' H locs hp0 hp1 hT.symm hS
  · exact absurd (ag a u a' u' hp0 hp1) q
end LC
end
section
set_option maxRecDepth 100000
/-! the law's loop and its start -/
theorem badN_01 (o b : Int32) : badN o b = 1 ∨ badN o b = 0 := by unfold badN; split <;> simp
theorem okI_of {o b : Int32} (h : badN o b = 0) : okI o b := by
  unfold badN at h
  split at h
  · cases h
  · rename_i q
    have h0 : ¬ o < 0 := fun z => q (Or.inl z)
    obtain ⟨k, hk, rfl⟩ := nI_of h0
    have hk14 : k ≤ 14 := by
      rcases Nat.lt_or_ge 14 k with z | z
      · exact absurd (Or.inr (Or.inl (nI_ge z hk))) q
      · exact z
    refine ⟨k, hk14, rfl, fun z => ?_, fun z => ?_⟩
    · have z2 : nI k = nI 8 ∨ nI k = nI 9 := by rcases z with rfl | rfl; exact Or.inl rfl; exact Or.inr rfl
      have b0 : ¬ b < 0 := fun y => q (Or.inr (Or.inr (Or.inr (Or.inl ⟨z2, Or.inl y⟩))))
      obtain ⟨j, hj, rfl⟩ := nI_of b0
      refine ⟨j, ?_, rfl⟩
      rcases Nat.lt_or_ge 3 j with y | y
      · exact absurd (Or.inr (Or.inr (Or.inr (Or.inl ⟨z2, Or.inr (nI_ge y hj)⟩)))) q
      · omega
    · have z2 : nI k = nI 10 ∨ nI k = nI 11 := by rcases z with rfl | rfl; exact Or.inl rfl; exact Or.inr rfl
      have b0 : ¬ b < 0 := fun y => q (Or.inr (Or.inr (Or.inr (Or.inr ⟨z2, Or.inl y⟩))))
      obtain ⟨j, hj, rfl⟩ := nI_of b0
      refine ⟨j, ?_, rfl⟩
      rcases Nat.lt_or_ge 20 j with y | y
      · exact absurd (Or.inr (Or.inr (Or.inr (Or.inr ⟨z2, Or.inr (nI_ge y hj)⟩)))) q
      · exact y
theorem okP_app {n : Nat} {op nu : vF} {o b : Int32} (h : okP n op nu) (hn : n < 20) (hb : badN o b = 0) : okP (n + 1) (upd op n o) (upd nu n b) := by
  refine ⟨hn, fun i hi => ?_⟩
  unfold upd
  by_cases e : i = n
  · rw [if_pos e, if_pos e]
    exact okI_of hb
  · rw [if_neg e, if_neg e]
    exact h.2 i (by omega)
theorem okP_chg {n j : Nat} {op nu : vF} {o b : Int32} (h : okP n op nu) (hb : badN o b = 0) : okP n (upd op j o) (upd nu j b) := by
  refine ⟨h.1, fun i hi => ?_⟩
  unfold upd
  by_cases e : i = j
  · rw [if_pos e, if_pos e]
    exact okI_of hb
  · rw [if_neg e, if_neg e]
    exact h.2 i hi
theorem out_or {v : Int32} {n : Nat} (hn : n < 2 ^ 31) : (v < 0 ∨ nI n ≤ v) ∨ ∃ j : Nat, j < n ∧ v = nI j := by
  by_cases h0 : v < 0
  · exact Or.inl (Or.inl h0)
  · obtain ⟨j, hj, rfl⟩ := nI_of h0
    rcases Nat.lt_or_ge j n with z | z
    · exact Or.inr ⟨j, z, rfl⟩
    · exact Or.inl (Or.inr (nI_le z hj))
theorem len4 {L i : Nat} (hL : L ≤ 256) (hi : i < 1000) : nI L - nI 4 < nI i ↔ L < i + 4 := by
  rw [Int32.lt_iff_toInt_lt, pk_sub_toInt (by omega) (by omega), nI_toInt (by omega)]
  omega
section LL
variable {p : Program} {l : Launch} {e : Env} {s : State} {m : MethodId} {below : List Frame} {meth : Method} {c : Code} {D : va_G} {d : ClassId} {b L ha hm : Nat} {ra rb : Nat → Nat} {xs : Nat → Int32}
set_option maxHeartbeats 4000000 in
/-- the law's end, with true -/
theorem law_exit {H : Heap} {locs : List Loc} {ls : Array Slot} (K : Cx R_law p c m meth s #[Value.ref b] cL_law 4 ret D d (fun q : Nat => s.heap.size ≤ q)) (hS : va_S (fun q : Nat => s.heap.size ≤ q) s.heap H locs) : W p l e room_1 s m #[Value.ref b] below meth c H locs 18 243 (lw_Z below #[Value.ref b] s) (F0 m 424 ls []) := by
  obtain ⟨hx, hb, -, -, -, -, hlocks, hr, -⟩ := K
  refine lv_iconst (v := 1) hx hb dL_law_424 (by decide) ?_
  refine va_forget (fun q hq => hS.2.2 q hq) ?_
  refine W.widen (k := 600000) (n := 7290000) (by decide) (by decide) ?_
  exact lw_ret hx hb hr hlocks dL_law_425
set_option maxHeartbeats 4000000 in
/-- the loop's head: the test -/
theorem law_head {H : Heap} {locs : List Loc} {ls : Array Slot} {i : Nat} (K : Cx R_law p c m meth s #[Value.ref b] cL_law 4 ret D d (fun q : Nat => s.heap.size ≤ q)) (vX : va_X b L xs s s.heap) (hbl : b < s.heap.size) (hL : L ≤ 256) (hi : i < 1000) (hS : va_S (fun q : Nat => s.heap.size ≤ q) s.heap H locs) (hl : lv_has ls 4 [(0, .ref b), (1, .ref ha), (2, .ref hm), (3, .int (nI i))]) (kk : i + 4 ≤ L → W p l e room_1 s m #[Value.ref b] below meth c H locs 18 243 (lw_Z below #[Value.ref b] s) (F0 m 26 ls [])) : W p l e room_1 s m #[Value.ref b] below meth c H locs 18 243 (lw_Z below #[Value.ref b] s) (F0 m 18 ls []) := by
  have hx := K.1
  have hb := K.2.1
  have hbA : ¬ (fun q : Nat => s.heap.size ≤ q) b := Nat.not_le.mpr hbl
  refine lv_iload_n hx hb dL_law_18 rfl (lv_at hl 3 rfl) ?_
  refine lv_aload_n hx hb dL_law_19 rfl (lv_at hl 0 rfl) ?_
  refine va_slen hx hb vX hbl hbA hS dL_law_20 ?_
  refine gi_tp (y := nI L) rfl ?_
  refine lv_iconst (v := nI 4) hx hb dL_law_21 (by decide) ?_
  refine lv_isub hx hb dL_law_22 ?_
  refine lv_icmp_gt (tgt := 424) hx hb dL_law_23 (by decide) (fun q => ?_) (fun q => ?_)
  · exact law_exit K hS
  · exact kk (Nat.not_lt.mp (fun z => q ((len4 hL hi).mpr z)))
set_option maxHeartbeats 8000000 in
/-- THE LAW'S LOOP: at its head both objects hold one picture -/
theorem law_loop (K : Cx R_law p c m meth s #[Value.ref b] cL_law 4 ret D d (fun q : Nat => s.heap.size ≤ q)) (vX : va_X b L xs s s.heap) (hbl : b < s.heap.size) (hL : L ≤ 256) : ∀ (n i : Nat), L ≤ i + 4 * n → i < 600 → ∀ (sz : Nat) (op : vF) (nu : vF) (va : vF) (ga : Nat) (pl : Nat) (le : vF) (pr : vF) (ne : vF) (ri : vF) (nx : Nat) (en : Nat) (dn : Nat) (tk : Nat) (hg : Nat) (pi : vF) (ke : vF) (kp : vF) (kv kq : vF), okP sz op nu → (pl = 0 ∨ (pl = 1 ∧ okQ 0 sz op le pr ne ri)) → ga ≤ 100000 → hg ≤ 8 → ∀ (H : Heap) (locs : List Loc) (ls : Array Slot), two D (fun q : Nat => s.heap.size ≤ q) (wX ha ra d sz op nu va ga pl le pr ne ri nx en dn tk hg pi ke kp) (wM hm rb d op nu sz va pi hg ga en nx dn tk kv kq) H → va_S (fun q : Nat => s.heap.size ≤ q) s.heap H locs → lv_has ls 4 [(0, .ref b), (1, .ref ha), (2, .ref hm), (3, .int (nI i))] → W p l e room_1 s m #[Value.ref b] below meth c H locs 18 243 (lw_Z below #[Value.ref b] s) (F0 m 18 ls []) := by
  have hx := K.1
  have hb := K.2.1
  have hbA : ¬ (fun q : Nat => s.heap.size ≤ q) b := Nat.not_le.mpr hbl
  intro n
  induction n with
  | zero =>
    intro i h1 h2 sz op nu va ga pl le pr ne ri nx en dn tk hg pi ke kp kv kq _ _ _ _ H locs ls hT hS hl
    exact law_head K vX hbl hL (by omega) hS hl (fun q => absurd q (by omega))
  | succ n ih =>
    intro i h1 h2 sz op nu va ga pl le pr ne ri nx en dn tk hg pi ke kp kv kq hp hpl hga hg8 H locs ls hT hS hl
    refine law_head K vX hbl hL (by omega) hS hl (fun hi => ?_)
    have hz : sz ≤ 20 := hp.1
    have nxt : ∀ (sz : Nat) (op : vF) (nu : vF) (va : vF) (ga : Nat) (pl : Nat) (le : vF) (pr : vF) (ne : vF) (ri : vF) (nx : Nat) (en : Nat) (dn : Nat) (tk : Nat) (hg : Nat) (pi : vF) (ke : vF) (kp : vF) (kv kq : vF), okP sz op nu → (pl = 0 ∨ (pl = 1 ∧ okQ 0 sz op le pr ne ri)) → ga ≤ 100000 → hg ≤ 8 → ∀ (H : Heap) (locs : List Loc), two D (fun q : Nat => s.heap.size ≤ q) (wX ha ra d sz op nu va ga pl le pr ne ri nx en dn tk hg pi ke kp) (wM hm rb d op nu sz va pi hg ga en nx dn tk kv kq) H → va_S (fun q : Nat => s.heap.size ≤ q) s.heap H locs → W p l e room_1 s m #[Value.ref b] below meth c H locs 18 243 (lw_Z below #[Value.ref b] s) (F0 m 418 ls []) := by
      intro sz op nu va ga pl le pr ne ri nx en dn tk hg pi ke kp kv kq hp hpl hga hg8 H locs hT hS
      refine lv_iinc (v := nI (i + 4)) (lv' := [(3, .int (nI (i + 4))), (0, .ref b), (1, .ref ha), (2, .ref hm)]) hx hb dL_law_418 hl (k := 3) rfl (show nI i + nI 4 = nI (i + 4) from nI_add i 4) (by decide) rfl (fun ls hl => ?_)
      refine lv_goto (tgt := 18) hx hb dL_law_421 (by decide) ?_
      exact ih (i + 4) (by omega) (by omega) sz op nu va ga pl le pr ne ri nx en dn tk hg pi ke kp kv kq hp hpl hga hg8 _ _ _ hT hS (lv_sub hl [1, 2, 3, 0] rfl)
    refine lv_aload_n hx hb dL_law_26 rfl (lv_at hl 0 rfl) ?_
    refine lv_iload_n hx hb dL_law_27 rfl (lv_at hl 3 rfl) ?_
    refine va_sld hx hb vX hbl hbA hS (vp_in_nI (by omega) (by omega)) dL_law_28 ?_
    refine lv_bipush (v := nI 15) hx hb dL_law_29 (by decide) ?_
    refine lv_iand hx hb dL_law_31 ?_
    refine gi_tp (spN_and _) ?_
    have hk := spN_lt (xs (nI i).toNatClampNeg)
    generalize spN (xs (nI i).toNatClampNeg) = k at hk ⊢
    rcases (show k = 0 ∨ k = 1 ∨ k = 2 ∨ k = 3 ∨ k = 4 ∨ k = 5 ∨ k = 6 ∨ k = 7 ∨ k = 8 ∨ k = 9 ∨ k = 10 ∨ k = 11 ∨ k = 12 ∨ k = 13 ∨ k = 14 ∨ k = 15 by omega) with rfl | rfl | rfl | rfl | rfl | rfl | rfl | rfl | rfl | rfl | rfl | rfl | rfl | rfl | rfl | rfl
    · refine lv_tableIn (off := 80) (tgt := 112) hx hb dL_law_32 (by decide) (by decide) (by decide) (by decide) ?_
      obtain ⟨o, e1⟩ : ∃ o, xs (i + 1) = o := ⟨_, rfl⟩
      obtain ⟨y, e2⟩ : ∃ y, xs (i + 2) = y := ⟨_, rfl⟩
      rcases badN_01 o y with hb1 | hb0
      · skip
        exact lc_0 (metX_appendA l D d ha ra sz op nu va ga pl le pr ne ri nx en dn tk hg pi ke kp o y hz hb1) (metM_appendA l D d hm rb op nu sz va pi hg ga en nx dn tk kv kq o y hz hb1) rfl rfl (fun a u a' u' q1 q2 => q1.trans q2.symm) e1 e2 K vX hbl hbA hi hL hT hS hl (fun a u a' u' H locs q1 q2 hT hS => by
            exact nxt sz op nu va ga pl le pr ne ri nx en dn tk hg pi ke kp kv kq hp hpl hga hg8 H locs hT hS)
      · by_cases h20 : sz = 20
        · skip
          exact lc_0 (metX_appendB l D d ha ra sz op nu va ga pl le pr ne ri nx en dn tk hg pi ke kp o y h20 hb0) (metM_appendB l D d hm rb op nu sz va pi hg ga en nx dn tk kv kq o y h20 hb0) rfl rfl (fun a u a' u' q1 q2 => q1.trans q2.symm) e1 e2 K vX hbl hbA hi hL hT hS hl (fun a u a' u' H locs q1 q2 hT hS => by
              exact nxt sz op nu va ga pl le pr ne ri nx en dn tk hg pi ke kp kv kq hp hpl hga hg8 H locs hT hS)
        · have hlt : sz < 20 := by omega
          exact lc_0 (metX_appendC l D d ha ra sz op nu va ga pl le pr ne ri nx en dn tk hg pi ke kp o y hlt hb0) (metM_appendC l D d hm rb op nu sz va pi hg ga en nx dn tk kv kq o y hlt hb0) rfl rfl (fun a u a' u' q1 q2 => q1.1.trans q2.1.symm) e1 e2 K vX hbl hbA hi hL hT hS hl (fun a u a' u' H locs q1 q2 hT hS => by
              obtain ⟨u1, u2, u3, u4⟩ := u
              obtain ⟨w1, w2, w3⟩ := u'
              obtain ⟨-, f1, f2, f3, f4⟩ := q1
              obtain ⟨-, g1, g2, g3⟩ := q2
              have f1 : u1 = upd op sz o := f1
              have f2 : u2 = upd nu sz y := f2
              have f3 : u3 = sz + 1 := f3
              have f4 : u4 = 0 := f4
              have g1 : w1 = upd op sz o := g1
              have g2 : w2 = upd nu sz y := g2
              have g3 : w3 = sz + 1 := g3
              subst f1 f2 f3 f4 g1 g2 g3
              exact nxt (sz + 1) (upd op sz o) (upd nu sz y) va ga 0 le pr ne ri nx en dn tk hg pi ke kp kv kq (okP_app hp hlt hb0) (Or.inl rfl) hga hg8 H locs hT hS)
    · refine lv_tableIn (off := 113) (tgt := 145) hx hb dL_law_32 (by decide) (by decide) (by decide) (by decide) ?_
      obtain ⟨v, e1⟩ : ∃ o, xs (i + 1) = o := ⟨_, rfl⟩
      obtain ⟨o, e2⟩ : ∃ o, xs (i + 2) = o := ⟨_, rfl⟩
      obtain ⟨y, e3⟩ : ∃ y, xs (i + 3) = y := ⟨_, rfl⟩
      rcases out_or (v := v) (n := sz) (by omega) with hv | ⟨j, hj, rfl⟩
      · skip
        exact lc_1 (metX_changeA l D d ha ra sz op nu va ga pl le pr ne ri nx en dn tk hg pi ke kp v o y hz hv) (metM_changeA l D d hm rb op nu sz va pi hg ga en nx dn tk kv kq v o y hz hv) rfl rfl (fun a u a' u' q1 q2 => q1.trans q2.symm) e1 e2 e3 K vX hbl hbA hi hL hT hS hl (fun a u a' u' H locs q1 q2 hT hS => by
            exact nxt sz op nu va ga pl le pr ne ri nx en dn tk hg pi ke kp kv kq hp hpl hga hg8 H locs hT hS)
      · rcases badN_01 o y with hb1 | hb0
        · skip
          exact lc_1 (metX_changeB l D d ha ra sz op nu va ga pl le pr ne ri nx en dn tk hg pi ke kp j o y hz hj hb1) (metM_changeB l D d hm rb op nu sz va pi hg ga en nx dn tk kv kq j o y hz hj hb1) rfl rfl (fun a u a' u' q1 q2 => q1.trans q2.symm) e1 e2 e3 K vX hbl hbA hi hL hT hS hl (fun a u a' u' H locs q1 q2 hT hS => by
              exact nxt sz op nu va ga pl le pr ne ri nx en dn tk hg pi ke kp kv kq hp hpl hga hg8 H locs hT hS)
        · skip
          exact lc_1 (metX_changeC l D d ha ra sz op nu va ga pl le pr ne ri nx en dn tk hg pi ke kp j o y hz hj hb0) (metM_changeC l D d hm rb op nu sz va pi hg ga en nx dn tk kv kq j o y hz hj hb0) rfl rfl (fun a u a' u' q1 q2 => q1.1.trans q2.1.symm) e1 e2 e3 K vX hbl hbA hi hL hT hS hl (fun a u a' u' H locs q1 q2 hT hS => by
              obtain ⟨u1, u2, u3⟩ := u
              obtain ⟨w1, w2⟩ := u'
              obtain ⟨-, f1, f2, f3⟩ := q1
              obtain ⟨-, g1, g2⟩ := q2
              have f1 : u1 = upd op j o := f1
              have f2 : u2 = upd nu j y := f2
              have f3 : u3 = 0 := f3
              have g1 : w1 = upd op j o := g1
              have g2 : w2 = upd nu j y := g2
              subst f1 f2 f3 g1 g2
              exact nxt sz (upd op j o) (upd nu j y) va ga 0 le pr ne ri nx en dn tk hg pi ke kp kv kq (okP_chg hp hb0) (Or.inl rfl) hga hg8 H locs hT hS)
    · refine lv_tableIn (off := 156) (tgt := 188) hx hb dL_law_32 (by decide) (by decide) (by decide) (by decide) ?_
      exact lc_2 (metX_clear l D d ha ra sz op nu va ga pl le pr ne ri nx en dn tk hg pi ke kp) (metM_clear l D d hm rb op nu sz va pi hg ga en nx dn tk kv kq) rfl rfl K vX hbl hbA hi hL hT hS hl (fun u u' H locs q1 q2 hT hS => by
          obtain ⟨u1, u2⟩ := u
          have f1 : u1 = 0 := q1.1
          have f2 : u2 = 0 := q1.2
          have g1 : u' = 0 := q2
          subst f1 f2 g1
          exact nxt 0 op nu va ga 0 le pr ne ri nx en dn tk hg pi ke kp kv kq (⟨Nat.zero_le 20, fun j hj => absurd hj (Nat.not_lt_zero j)⟩) (Or.inl rfl) hga hg8 H locs hT hS)
    · refine lv_tableIn (off := 167) (tgt := 199) hx hb dL_law_32 (by decide) (by decide) (by decide) (by decide) ?_
      exact lc_3 (metX_size l D d ha ra sz op nu va ga pl le pr ne ri nx en dn tk hg pi ke kp) (metM_size l D d hm rb op nu sz va pi hg ga en nx dn tk kv kq) rfl rfl (fun a u a' u' q1 q2 => q1.trans q2.symm) K vX hbl hbA hi hL hT hS hl (fun a u a' u' H locs q1 q2 hT hS => by
          exact nxt sz op nu va ga pl le pr ne ri nx en dn tk hg pi ke kp kv kq hp hpl hga hg8 H locs hT hS)
    · refine lv_tableIn (off := 180) (tgt := 212) hx hb dL_law_32 (by decide) (by decide) (by decide) (by decide) ?_
      obtain ⟨v, e1⟩ : ∃ o, xs (i + 1) = o := ⟨_, rfl⟩
      obtain ⟨y, e2⟩ : ∃ o, xs (i + 2) = o := ⟨_, rfl⟩
      rcases out_or (v := v) (n := 4) (by omega) with hv | ⟨j, hj, rfl⟩
      · skip
        exact lc_4 (metX_setA l D d ha ra sz op nu va ga pl le pr ne ri nx en dn tk hg pi ke kp v y hv) (metM_setA l D d hm rb op nu sz va pi hg ga en nx dn tk kv kq v y hv) rfl rfl (fun a u a' u' q1 q2 => q1.trans q2.symm) e1 e2 K vX hbl hbA hi hL hT hS hl (fun a u a' u' H locs q1 q2 hT hS => by
            exact nxt sz op nu va ga pl le pr ne ri nx en dn tk hg pi ke kp kv kq hp hpl hga hg8 H locs hT hS)
      · skip
        exact lc_4 (metX_setB l D d ha ra sz op nu va ga pl le pr ne ri nx en dn tk hg pi ke kp j y hj) (metM_setB l D d hm rb op nu sz va pi hg ga en nx dn tk kv kq j y hj) rfl rfl (fun a u a' u' q1 q2 => q1.1.trans q2.1.symm) e1 e2 K vX hbl hbA hi hL hT hS hl (fun a u a' u' H locs q1 q2 hT hS => by
            have f1 : u = upd va j y := q1.2
            have g1 : u' = upd va j y := q2.2
            subst f1 g1
            exact nxt sz op nu (upd va j y) ga pl le pr ne ri nx en dn tk hg pi ke kp kv kq hp hpl hga hg8 H locs hT hS)
    · refine lv_tableIn (off := 213) (tgt := 245) hx hb dL_law_32 (by decide) (by decide) (by decide) (by decide) ?_
      obtain ⟨v, e1⟩ : ∃ o, xs (i + 1) = o := ⟨_, rfl⟩
      rcases out_or (v := v) (n := 4) (by omega) with hv | ⟨j, hj, rfl⟩
      · skip
        exact lc_5 (metX_getA l D d ha ra sz op nu va ga pl le pr ne ri nx en dn tk hg pi ke kp v hv) (metM_getA l D d hm rb op nu sz va pi hg ga en nx dn tk kv kq v hv) rfl rfl (fun a u a' u' q1 q2 => q1.trans q2.symm) e1 K vX hbl hbA hi hL hT hS hl (fun a u a' u' H locs q1 q2 hT hS => by
            exact nxt sz op nu va ga pl le pr ne ri nx en dn tk hg pi ke kp kv kq hp hpl hga hg8 H locs hT hS)
      · skip
        exact lc_5 (metX_getB l D d ha ra sz op nu va ga pl le pr ne ri nx en dn tk hg pi ke kp j hj) (metM_getB l D d hm rb op nu sz va pi hg ga en nx dn tk kv kq j hj) rfl rfl (fun a u a' u' q1 q2 => q1.trans q2.symm) e1 K vX hbl hbA hi hL hT hS hl (fun a u a' u' H locs q1 q2 hT hS => by
            exact nxt sz op nu va ga pl le pr ne ri nx en dn tk hg pi ke kp kv kq hp hpl hga hg8 H locs hT hS)
    · refine lv_tableIn (off := 236) (tgt := 268) hx hb dL_law_32 (by decide) (by decide) (by decide) (by decide) ?_
      obtain ⟨v, e1⟩ : ∃ o, xs (i + 1) = o := ⟨_, rfl⟩
      rcases out_or (v := v) (n := 2001) (by omega) with hv | ⟨j, hj, rfl⟩
      · skip
        exact lc_6 (metX_fundA l D d ha ra sz op nu va ga pl le pr ne ri nx en dn tk hg pi ke kp v hv) (metM_fundA l D d hm rb op nu sz va pi hg ga en nx dn tk kv kq v hv) rfl rfl (fun a u a' u' q1 q2 => q1.trans q2.symm) e1 K vX hbl hbA hi hL hT hS hl (fun a u a' u' H locs q1 q2 hT hS => by
            exact nxt sz op nu va ga pl le pr ne ri nx en dn tk hg pi ke kp kv kq hp hpl hga hg8 H locs hT hS)
      · rcases Nat.lt_or_ge 100000 (ga + j) with hs | hs
        · skip
          exact lc_6 (metX_fundB l D d ha ra sz op nu va ga pl le pr ne ri nx en dn tk hg pi ke kp j (by omega) hga hs) (metM_fundB l D d hm rb op nu sz va pi hg ga en nx dn tk kv kq j (by omega) hga hs) rfl rfl (fun a u a' u' q1 q2 => q1.trans q2.symm) e1 K vX hbl hbA hi hL hT hS hl (fun a u a' u' H locs q1 q2 hT hS => by
              exact nxt sz op nu va ga pl le pr ne ri nx en dn tk hg pi ke kp kv kq hp hpl hga hg8 H locs hT hS)
        · skip
          exact lc_6 (metX_fundC l D d ha ra sz op nu va ga pl le pr ne ri nx en dn tk hg pi ke kp j (by omega) hga hs) (metM_fundC l D d hm rb op nu sz va pi hg ga en nx dn tk kv kq j (by omega) hga hs) rfl rfl (fun a u a' u' q1 q2 => q1.1.trans q2.1.symm) e1 K vX hbl hbA hi hL hT hS hl (fun a u a' u' H locs q1 q2 hT hS => by
              have f1 : u = ga + j := q1.2
              have g1 : u' = ga + j := q2.2
              subst f1 g1
              exact nxt sz op nu va (ga + j) pl le pr ne ri nx en dn tk hg pi ke kp kv kq hp hpl hs hg8 H locs hT hS)
    · refine lv_tableIn (off := 259) (tgt := 291) hx hb dL_law_32 (by decide) (by decide) (by decide) (by decide) ?_
      exact lc_7 (metX_gas l D d ha ra sz op nu va ga pl le pr ne ri nx en dn tk hg pi ke kp) (metM_gas l D d hm rb op nu sz va pi hg ga en nx dn tk kv kq) rfl rfl (fun a u a' u' q1 q2 => q1.trans q2.symm) K vX hbl hbA hi hL hT hS hl (fun a u a' u' H locs q1 q2 hT hS => by
          exact nxt sz op nu va ga pl le pr ne ri nx en dn tk hg pi ke kp kv kq hp hpl hga hg8 H locs hT hS)
    · refine lv_tableIn (off := 272) (tgt := 304) hx hb dL_law_32 (by decide) (by decide) (by decide) (by decide) ?_
      have hga1 : ga ≤ 1000000 := by omega
      have hgs := rnN_gas (n := sz) (op := op) (nu := nu) 301 (0, ga, 0, 0, 0, pi, va)
      have hok := rnN_ok hp 301 (0, ga, 0, 0, 0, pi, va) ⟨Nat.zero_le 4, hga1, Nat.zero_le 300, Nat.zero_le 20, Nat.zero_le 8⟩
      exact lc_8 (metX_run l D d ha ra sz op nu va ga pl le pr ne ri nx en dn tk hg pi ke kp hp hpl hga1) (metM_run l D d hm rb op nu sz va pi hg ga en nx dn tk kv kq hp hga1) rfl rfl (fun a u a' u' q1 q2 => by rw [q1.1, q2.1, q1.2.1, q2.2]) K vX hbl hbA hi hL hT hS hl (fun a u a' u' H locs q1 q2 hT hS => by
          obtain ⟨x, l1, l2, l3, l4⟩ := u
          obtain ⟨-, f1, f2⟩ := q1
          have f1 : x = rnN sz op nu 301 (0, ga, 0, 0, 0, pi, va) := f1
          have f2 : okQ 0 sz op l1 l2 l3 l4 := f2
          have g1 : u' = x := q2.2.trans f1.symm
          subst g1
          rw [← f1] at hgs hok
          exact nxt sz op nu (qV u') (qG u') 1 l1 l2 l3 l4 (qN u') (qE u') (qD u') (ga - qG u') (qH u') (qP u') ke kp kv kq hp (Or.inr ⟨rfl, f2⟩) (Nat.le_trans hgs hga) hok.2.2.2.2 H locs hT hS)
    · refine lv_tableIn (off := 285) (tgt := 317) hx hb dL_law_32 (by decide) (by decide) (by decide) (by decide) ?_
      exact lc_9 (metX_ending l D d ha ra sz op nu va ga pl le pr ne ri nx en dn tk hg pi ke kp) (metM_ending l D d hm rb op nu sz va pi hg ga en nx dn tk kv kq) rfl rfl (fun a u a' u' q1 q2 => q1.trans q2.symm) K vX hbl hbA hi hL hT hS hl (fun a u a' u' H locs q1 q2 hT hS => by
          exact nxt sz op nu va ga pl le pr ne ri nx en dn tk hg pi ke kp kv kq hp hpl hga hg8 H locs hT hS)
    · refine lv_tableIn (off := 298) (tgt := 330) hx hb dL_law_32 (by decide) (by decide) (by decide) (by decide) ?_
      exact lc_10 (metX_place l D d ha ra sz op nu va ga pl le pr ne ri nx en dn tk hg pi ke kp) (metM_place l D d hm rb op nu sz va pi hg ga en nx dn tk kv kq) rfl rfl (fun a u a' u' q1 q2 => q1.trans q2.symm) K vX hbl hbA hi hL hT hS hl (fun a u a' u' H locs q1 q2 hT hS => by
          exact nxt sz op nu va ga pl le pr ne ri nx en dn tk hg pi ke kp kv kq hp hpl hga hg8 H locs hT hS)
    · refine lv_tableIn (off := 311) (tgt := 343) hx hb dL_law_32 (by decide) (by decide) (by decide) (by decide) ?_
      exact lc_11 (metX_steps l D d ha ra sz op nu va ga pl le pr ne ri nx en dn tk hg pi ke kp) (metM_steps l D d hm rb op nu sz va pi hg ga en nx dn tk kv kq) rfl rfl (fun a u a' u' q1 q2 => q1.trans q2.symm) K vX hbl hbA hi hL hT hS hl (fun a u a' u' H locs q1 q2 hT hS => by
          exact nxt sz op nu va ga pl le pr ne ri nx en dn tk hg pi ke kp kv kq hp hpl hga hg8 H locs hT hS)
    · refine lv_tableIn (off := 324) (tgt := 356) hx hb dL_law_32 (by decide) (by decide) (by decide) (by decide) ?_
      exact lc_12 (metX_spent l D d ha ra sz op nu va ga pl le pr ne ri nx en dn tk hg pi ke kp) (metM_spent l D d hm rb op nu sz va pi hg ga en nx dn tk kv kq) rfl rfl (fun a u a' u' q1 q2 => q1.trans q2.symm) K vX hbl hbA hi hL hT hS hl (fun a u a' u' H locs q1 q2 hT hS => by
          exact nxt sz op nu va ga pl le pr ne ri nx en dn tk hg pi ke kp kv kq hp hpl hga hg8 H locs hT hS)
    · refine lv_tableIn (off := 337) (tgt := 369) hx hb dL_law_32 (by decide) (by decide) (by decide) (by decide) ?_
      exact lc_13 (metX_height l D d ha ra sz op nu va ga pl le pr ne ri nx en dn tk hg pi ke kp) (metM_height l D d hm rb op nu sz va pi hg ga en nx dn tk kv kq) rfl rfl (fun a u a' u' q1 q2 => q1.trans q2.symm) K vX hbl hbA hi hL hT hS hl (fun a u a' u' H locs q1 q2 hT hS => by
          exact nxt sz op nu va ga pl le pr ne ri nx en dn tk hg pi ke kp kv kq hp hpl hga hg8 H locs hT hS)
    · refine lv_tableIn (off := 350) (tgt := 382) hx hb dL_law_32 (by decide) (by decide) (by decide) (by decide) ?_
      obtain ⟨v, e1⟩ : ∃ o, xs (i + 1) = o := ⟨_, rfl⟩
      rcases out_or (v := v) (n := hg) (by omega) with hv | ⟨j, hj, rfl⟩
      · skip
        exact lc_14 (metX_pileA l D d ha ra sz op nu va ga pl le pr ne ri nx en dn tk hg pi ke kp v hg8 hv) (metM_pileA l D d hm rb op nu sz va pi hg ga en nx dn tk kv kq v hg8 hv) rfl rfl (fun a u a' u' q1 q2 => q1.trans q2.symm) e1 K vX hbl hbA hi hL hT hS hl (fun a u a' u' H locs q1 q2 hT hS => by
            exact nxt sz op nu va ga pl le pr ne ri nx en dn tk hg pi ke kp kv kq hp hpl hga hg8 H locs hT hS)
      · skip
        exact lc_14 (metX_pileB l D d ha ra sz op nu va ga pl le pr ne ri nx en dn tk hg pi ke kp j hg8 hj) (metM_pileB l D d hm rb op nu sz va pi hg ga en nx dn tk kv kq j hg8 hj) rfl rfl (fun a u a' u' q1 q2 => q1.trans q2.symm) e1 K vX hbl hbA hi hL hT hS hl (fun a u a' u' H locs q1 q2 hT hS => by
            exact nxt sz op nu va ga pl le pr ne ri nx en dn tk hg pi ke kp kv kq hp hpl hga hg8 H locs hT hS)
    · refine lv_tableIn (off := 373) (tgt := 405) hx hb dL_law_32 (by decide) (by decide) (by decide) (by decide) ?_
      exact lc_15 (metX_bill l D d ha ra sz op nu va ga pl le pr ne ri nx en dn tk hg pi ke kp hp hpl) (metM_bill l D d hm rb op nu sz va pi hg ga en nx dn tk kv kq hp) rfl rfl (fun a u a' u' q1 q2 => q1.1.trans q2.symm) K vX hbl hbA hi hL hT hS hl (fun a u a' u' H locs q1 q2 hT hS => by
          obtain ⟨u1, u2, u3, u4, u5, u6, u7⟩ := u
          obtain ⟨w1, w2⟩ := u'
          have f2 : u1 = 0 ∨ (u1 = 1 ∧ okQ 0 sz op u2 u3 u4 u5) := q1.2
          exact nxt sz op nu va ga u1 u2 u3 u4 u5 nx en dn tk hg pi u6 u7 w1 w2 hp f2 hga hg8 H locs hT hS)
end LL
set_option maxHeartbeats 8000000 in
/-- THE LAW, from its entry -/
theorem whole_start {p : Program} {e : Env} {s : State} {m : MethodId} {below : List Frame} {meth : Method} {c : Code} (l : Launch) {b L : Nat} {xs : Nat → Int32} (hL : L ≤ 256) (C0 : lw_At p s m meth c b L xs) : W p l e room_1 s m #[Value.ref b] below meth c s.heap [] 0 0 (lw_Z below #[Value.ref b] s) (entryFrame m ([Value.ref b] : List Value).toArray 4) := by
  obtain ⟨hx, hb, hr, hml, hown, hts0, vX, hbl, hlocks, hgv⟩ := id C0
  have hts : ∀ w ∈ lw_all, w.before #[Value.ref b] s = true := fun w h => hts0 w (lw_all_tbl h)
  have hA : ∀ q : Nat, s.heap.size ≤ q → (fun q : Nat => s.heap.size ≤ q) q := fun _ h => h
  obtain ⟨c0, iS0, hKn0⟩ := u_known (C := RX0) (T := TX0) (N := 18) (n := 18) hts in_X0 (hts _ q30)
  obtain ⟨c1, iS1, hKn1⟩ := u_known (C := RX1) (T := TX1) (N := 13) (n := 13) hts in_X1 (hts _ q220)
  obtain ⟨dC, dI, hKc⟩ : ∃ (dC : Nat → ClassId) (dI : Nat → Nat → Nat), ∀ (k : Nat) (q : vw_C), gCl[k]? = some q → u_Kn s q.1 q.2.1 q.2.2 (dC k) (dI k) := by
    refine ⟨fun k => if k = 0 then c0 else c1, fun k => if k = 0 then iS0 else iS1, ?_⟩
    intro k q hq
    match k, hq with
    | 0, hq => cases hq; exact hKn0
    | 1, hq => cases hq; exact hKn1
    | k + 2, hq => simp [gCl] at hq
  obtain ⟨d, kA, comp, h1, h2, h3⟩ := Cond.arrayClass_spec (hts _ q92)
  have hK : va_K (dC, dI) gCl [(d, .int)] s := by
    refine ⟨hKc, fun k q hq => ?_⟩
    match k, hq with
    | 0, hq => cases hq; exact ⟨fun n z => ⟨fun k h => (by cases h), kA, h2, comp, h3⟩, h1⟩
    | k + 1, hq => simp at hq
  have K : Cx R_law p c m meth s #[Value.ref b] cL_law 4 ret (dC, dI) d (fun q : Nat => s.heap.size ≤ q) := ⟨hx, hb, hts, hown, hK, hml, hlocks, hr, hA⟩
  have hS : va_S (fun q : Nat => s.heap.size ≤ q) s.heap s.heap [] := va_S.rf
  have hP : va_P (dC, dI) gCl [] s.heap := fun k q h => by simp at h
  have hD : va_D (fun q : Nat => s.heap.size ≤ q) [] := ⟨fun i j p q h => by simp at h, fun k q h => by simp at h⟩
  have hl := lv_entry ([.ref b]) (n := 4) (Nat.le_of_ble_eq_true rfl)
  rw [lg_entry_eq]
  generalize (lg_sl ([.ref b]) ++ List.replicate (4 - (lg_sl ([.ref b])).length) Slot.unset).toArray = ls at hl ⊢
  have hl : lv_has ls 4 [(0, .ref b)] := hl
  refine va_new (ci := 0) (fs := zX) (C := RX0) (T := TX0) (N := 18) hx hb hts in_X0 tyX0 tyX0_ok hown (hts _ q29) (hts _ q30) (hts _ q27) hK hP hD hS hA rfl (fun j hj => by rcases (show j = 0 ∨ j = 1 ∨ j = 2 ∨ j = 3 ∨ j = 4 ∨ j = 5 ∨ j = 6 ∨ j = 7 ∨ j = 8 ∨ j = 9 ∨ j = 10 ∨ j = 11 ∨ j = 12 ∨ j = 13 ∨ j = 14 ∨ j = 15 ∨ j = 16 ∨ j = 17 by omega) with rfl | rfl | rfl | rfl | rfl | rfl | rfl | rfl | rfl | rfl | rfl | rfl | rfl | rfl | rfl | rfl | rfl | rfl <;> rfl) (Nat.le_of_ble_eq_true rfl) (Nat.le_of_ble_eq_true rfl) dL_law_0 (fun ha H hP hD hS => ?_)
  refine W.widen (k := 1) (n := 18) (Nat.le_refl _) (Nat.le_refl _) ?_
  have hT : two (dC, dI) (fun q : Nat => s.heap.size ≤ q) [(ha, .inr (0, zX))] [] H := two_of hP hD
  refine lv_dup hx hb dL_law_3 rfl ?_
  refine gl_init (rest := [.ref ha]) K (metX_init l (dC, dI) d ha) q33 q27 q31 q32 rfl (by decide +kernel) ⟨by decide, by decide⟩ ⟨rfl, rfl⟩ hT hS hl (Nat.le_of_ble_eq_true rfl) dL_law_4 ⟨by decide, by decide⟩ (fun ra H locs hT hS => ?_)
  refine W.widen (k := 11) (n := 166) (Nat.le_refl _) (Nat.le_refl _) ?_
  refine lv_astore_n (lv' := [(1, .ref ha), (0, .ref b)]) hx hb dL_law_7 rfl hl (by decide) rfl (fun ls hl => ?_)
  refine va_new (ci := 1) (fs := zM) (C := RX1) (T := TX1) (N := 13) hx hb hts in_X1 tyX1 tyX1_ok hown (hts _ q219) (hts _ q220) (hts _ q28) hK hT.1 hT.2.2.1 hS hA rfl (fun j hj => by rcases (show j = 0 ∨ j = 1 ∨ j = 2 ∨ j = 3 ∨ j = 4 ∨ j = 5 ∨ j = 6 ∨ j = 7 ∨ j = 8 ∨ j = 9 ∨ j = 10 ∨ j = 11 ∨ j = 12 by omega) with rfl | rfl | rfl | rfl | rfl | rfl | rfl | rfl | rfl | rfl | rfl | rfl | rfl <;> rfl) (Nat.le_of_ble_eq_true rfl) (Nat.le_of_ble_eq_true rfl) dL_law_8 (fun hm H hP hD hS => ?_)
  refine W.widen (k := 12) (n := 179) (Nat.le_refl _) (Nat.le_refl _) ?_
  have hT : two (dC, dI) (fun q : Nat => s.heap.size ≤ q) (wX ha ra d 0 zF zF zF 0 0 zF zF zF zF 0 0 0 0 0 zF zF zF) [(hm, .inr (1, zM))] H := two_of hP hD
  refine lv_dup hx hb dL_law_11 rfl ?_
  refine gl_init (rest := [.ref hm]) K (metM_init l (dC, dI) d hm) q223 q28 q221 q222 rfl (by decide +kernel) ⟨by decide, by decide⟩ ⟨rfl, rfl⟩ hT.symm hS hl (Nat.le_of_ble_eq_true rfl) dL_law_12 ⟨by decide, by decide⟩ (fun rb H locs hT hS => ?_)
  refine W.widen (k := 18) (n := 243) (Nat.le_refl _) (Nat.le_refl _) ?_
  refine lv_astore_n (lv' := [(2, .ref hm), (1, .ref ha), (0, .ref b)]) hx hb dL_law_15 rfl hl (by decide) rfl (fun ls hl => ?_)
  refine lv_iconst (v := nI 0) hx hb dL_law_16 (by decide) ?_
  refine lv_istore_n (lv' := [(3, .int (nI 0)), (2, .ref hm), (1, .ref ha), (0, .ref b)]) hx hb dL_law_17 rfl hl (by decide) rfl (fun ls hl => ?_)
  exact law_loop K vX hbl hL L 0 (by omega) (by omega) 0 zF zF zF 0 0 zF zF zF zF 0 0 0 0 0 zF zF zF zF zF ⟨Nat.zero_le 20, fun j hj => absurd hj (Nat.not_lt_zero j)⟩ (Or.inl rfl) (by decide) (by decide) H locs ls hT.symm hS (lv_sub hl [3, 2, 1, 0] rfl)
end
section
set_option maxHeartbeats 4000000 in
theorem lw_walk (l : Launch) (b : Addr) (xs : List Int32) : MetFree l x (headSpec (Jvm.Cond.code x code maxLocals ret :: tables_1) room_1) (lw_P b xs) (fun _ _ _ _ _ => True) lw_Q := by
  refine MetFree.of_bodyS (code := code) (maxLocals := maxLocals) (ret := ret) (by decide) ?_ ?_
  · intro args s m h hn
    obtain ⟨meth, c, h1, h2, h3, h4, h5, h6, -, -⟩ := Cond.code_spec hn (atoms_spec (ws := Jvm.Cond.code x code maxLocals ret :: tables_1) h _ List.mem_cons_self)
    exact ⟨meth, c, h1, h2, h3, h4, h5, h6⟩
  · intro p e s m args below meth c s₁ B hml0 hP _
    obtain ⟨rfl, hx, hbd, hgv⟩ := hP
    obtain ⟨scr, harrAt, hlist, hof, hsmall⟩ := hx
    obtain ⟨hcb, hkn, -, -⟩ := State.arrayAt?_spec harrAt
    have hown : s.vm.findClass R_law = some m.cls := findClass_of_methodNamed B.named
    have hts0 : ∀ c ∈ (Jvm.Cond.code x code maxLocals ret :: tables_1), c.before #[Value.ref b] s = true := atoms_spec (ws := Jvm.Cond.code x code maxLocals ret :: tables_1) B.pre
    have hts : ∀ w ∈ lw_tbl, w.before #[Value.ref b] s = true := k2_hts_sels lw_privs (fun w hw => hts0 w (List.mem_cons_of_mem _ hw)) lw_privs_ok
    have hml : c.maxLocals = 4 := B.maxLocals_eq (hts0 _ List.mem_cons_self)
    have X₀ : Stand p l e room_1 s m #[Value.ref b] below meth c s₁ [] 0 0 := Stand.of_body B
    have hh0 : s₁.heap = s.heap := by rw [B.state]; rfl
    have hsz : scr.slots.size = xs.length := by rw [← Array.length_toList, hlist, List.length_map]
    have hval : ∀ j : Nat, j < xs.length → scr.slots[j]? = some (.int (xs.getD j 0)) := fun j hj => by
      rw [← Array.getElem?_toList, hlist]
      simp [hj]
    have hbl : b < s.heap.size := (Array.getElem?_eq_some_iff.mp hcb).1
    have hX : va_X b xs.length (fun j => xs.getD j 0) s s.heap := ⟨scr, hcb, hof, hkn, hsz, hval⟩
    have K : W p l e room_1 s m #[Value.ref b] below meth c s₁.heap [] 0 0 (lw_Z below #[Value.ref b] s) (entryFrame m ([Value.ref b] : List Value).toArray 4) := by
      rw [hh0]
      exact whole_start l hbd ⟨B.exec, B.bytes, B.returns, hml, hown, hts, hX, hbl, B.notSynchronized, hgv⟩
    obtain ⟨t, a1, o, b1, b2, b3⟩ := K s₁ rfl X₀
    exact ⟨t, o, a1, b1, b2, b3⟩
theorem lw_pre_spec {args : Array Value} {s : State} (h : (Jvm.Cond.and given_1 narrow_1).before args s = true) (hr : rest_1_c.before args s = true) : ∃ (b : Addr) (xs : List Int32), lw_P b xs args s := by
  have hs := flat_of_before _ h
  have hq := flat_of_before _ hr
  have hc : (Cond.count 1).before args s = true := hs _ (by decide +kernel)
  have harr : (Cond.arrayOf (.arg 0) .int).before args s = true := hs _ (by decide +kernel)
  have hle : (Cond.le (.length (.arg 0)) (.int 256)).before args s = true := hs _ (by decide +kernel)
  have hlen : (Cond.isInt (.length (.arg 0))).before args s = true := hq _ (by decide +kernel)
  have hall : (Cond.all (.arg 0) (.isInt (.elem (.arg 0) (.index 0)))).before args s = true := hq _ (by decide +kernel)
  obtain ⟨b, xs, hb, hx⟩ := State.ints_of_pre rfl harr hlen hall
  have hsm : xs.length < 2 ^ 31 := hx.choose_spec.2.2.2
  have hev : (Term.length (.arg 0)).eval args s none [] s = some (.int xs.length.toInt32) := hx.length_eval hb
  have hv := Cond.le_ints hev (show (Term.int 256).eval args s none [] s = some (.int 256) from rfl)
  have hd : xs.length.toInt32 ≤ 256 := by
    simpa [Cond.before, Cond.holds, hv] using hle
  have hN : xs.length ≤ 256 := (Int32.ofNat_le_ofNat hsm (by decide)).mp (show Int32.ofNat xs.length ≤ Int32.ofNat 256 from hd)
  exact ⟨b, xs, Cond.one_arg hc (show args[0]? = some (.ref b) from hb), hx, hN, h⟩
theorem lw_comes (l : Launch) : Comes l x (Jvm.Cond.code x code maxLocals ret :: tables_1) room_1 (fun tb e args s => Calls_1 tb e args s ∧ rest_1 tb e args s ∧ Pre_1 tb e args s)
    (fun _ _ args s o t => lw_Q args s o t) := by
  intro p e ha hc hk s m args below hf hfit hheap happ hpre
  obtain ⟨b, xs, hP⟩ := lw_pre_spec hpre.2.2 hpre.2.1
  obtain ⟨k, o, h1, h2, h3, hQ⟩ := lw_walk l b xs p e ha hc hk s m args below hf ((Spec.applies_iff_loose hf).mp happ).1 hP trivial
  exact ⟨k, o, h1, h2, h3, hQ⟩
theorem lw_frame {s t : State} {o : Outcome} {args : Array Value} (h : Framed s o t [] 600000 7290000) :
    Framed s o t (fieldLocs frame_1_writes args s ++ arrayLocs frame_1_arrays args s ++ staticLocs frame_1_statics s) 600000 7290000 := h
theorem lw_limb (L : Cond) (hL : ∀ (args : Array Value) (s t : State), L.after args s (.returned (some (.int 1))) t = true) :
    ArmFor flags0 classFile x code maxLocals ret World_1 tables_1 room_1 Calls_1 rest_1 Pre_1
      (fun tb e a s o t => postC L tb e a s o t ∧ Framed s o t (fieldLocs frame_1_writes a s ++ arrayLocs frame_1_arrays a s ++ staticLocs frame_1_statics s) 600000 7290000) := by
  intro l _ _ _ p e ha hc hk s m args below hf hfit hheap happ hpre
  obtain ⟨k, o, h1, h2, h3, rfl, hF⟩ := lw_comes l p e ha hc hk s m args below hf hfit hheap happ hpre
  exact ⟨k, _, h1, h2, h3, hL args s _, lw_frame hF⟩
theorem i_vc : Claimed_1_1 ∧ Claimed_1_2 := ⟨lw_limb limb_1_1 (fun args s t => by simp [limb_1_1, Cond.after, Cond.holds, Cond.value]), lw_limb limb_1_2 (fun args s t => Cond.after_iff.mpr (by
  first | (rw [show limb_1_2 = Cond.eq .result (.int 1) from rfl, Cond.eq_ints (x := 1) (y := 1) rfl rfl]; simp; done) | (simp [limb_1_2, Cond.value, Term.eval]; done)))⟩
end
