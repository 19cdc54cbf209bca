section
-- ===== PART A: goes FIRST, ahead of the names: the tables' words, and 'selects' of the private methods out of them =====
/-- a private method of a class that the tables say can be made, by its rows of tables_1 -/
def lw_okq (q : MethodName × Nat) : Prop := (q.1.cls ≠ "java/lang/invoke/MethodHandle" ∧ q.1.cls ≠ "java/lang/invoke/VarHandle") ∧ Cond.instantiable q.1.cls q.2 ∈ tables_1 ∧ Cond.privateMethod q.1 ∈ tables_1 ∧ Cond.instanceMethod q.1 ∈ tables_1
set_option maxRecDepth 100000
theorem lw_t1 {w : Cond} (h : w ∈ tables_1_1) : w ∈ tables_1 := List.mem_append_left _ h
theorem lw_t2 {w : Cond} (h : w ∈ tables_1_2) : w ∈ tables_1 := List.mem_append_right _ h
theorem lw_p0 : lw_okq (⟨"WovenDebugger", "noInstruction", "(I)Z"⟩, 24) := ⟨⟨by decide +kernel, by decide +kernel⟩, lw_t1 (List.mem_of_getElem? (i := 4) rfl), lw_t1 (List.mem_of_getElem? (i := 95) rfl), lw_t1 (List.mem_of_getElem? (i := 96) rfl)⟩
theorem lw_p1 : lw_okq (⟨"WovenDebugger", "weave", "()V"⟩, 24) := ⟨⟨by decide +kernel, by decide +kernel⟩, lw_t1 (List.mem_of_getElem? (i := 4) rfl), lw_t1 (List.mem_of_getElem? (i := 99) rfl), lw_t1 (List.mem_of_getElem? (i := 100) rfl)⟩
theorem lw_p2 : lw_okq (⟨"WovenDebugger", "reweave", "()V"⟩, 24) := ⟨⟨by decide +kernel, by decide +kernel⟩, lw_t1 (List.mem_of_getElem? (i := 4) rfl), lw_t1 (List.mem_of_getElem? (i := 107) rfl), lw_t1 (List.mem_of_getElem? (i := 108) rfl)⟩
theorem lw_p3 : lw_okq (⟨"WovenDebugger", "notRunning", "()Z"⟩, 24) := ⟨⟨by decide +kernel, by decide +kernel⟩, lw_t1 (List.mem_of_getElem? (i := 4) rfl), lw_t1 (List.mem_of_getElem? (i := 119) rfl), lw_t1 (List.mem_of_getElem? (i := 120) rfl)⟩
theorem lw_p4 : lw_okq (⟨"WovenDebugger", "run", "(I)I"⟩, 24) := ⟨⟨by decide +kernel, by decide +kernel⟩, lw_t1 (List.mem_of_getElem? (i := 4) rfl), lw_t1 (List.mem_of_getElem? (i := 126) rfl), lw_t1 (List.mem_of_getElem? (i := 127) rfl)⟩
theorem lw_p5 : lw_okq (⟨"WovenDebugger", "perform", "()V"⟩, 24) := ⟨⟨by decide +kernel, by decide +kernel⟩, lw_t1 (List.mem_of_getElem? (i := 4) rfl), lw_t1 (List.mem_of_getElem? (i := 130) rfl), lw_t1 (List.mem_of_getElem? (i := 131) rfl)⟩
theorem lw_p6 : lw_okq (⟨"WovenDebugger", "base", "()I"⟩, 24) := ⟨⟨by decide +kernel, by decide +kernel⟩, lw_t1 (List.mem_of_getElem? (i := 4) rfl), lw_t1 (List.mem_of_getElem? (i := 134) rfl), lw_t1 (List.mem_of_getElem? (i := 135) rfl)⟩
theorem lw_p7 : lw_okq (⟨"WovenDebugger", "compute", "(IIII)V"⟩, 24) := ⟨⟨by decide +kernel, by decide +kernel⟩, lw_t1 (List.mem_of_getElem? (i := 4) rfl), lw_t1 (List.mem_of_getElem? (i := 138) rfl), lw_t1 (List.mem_of_getElem? (i := 139) rfl)⟩
theorem lw_p8 : lw_okq (⟨"WovenDebugger", "jump", "(I)V"⟩, 24) := ⟨⟨by decide +kernel, by decide +kernel⟩, lw_t1 (List.mem_of_getElem? (i := 4) rfl), lw_t1 (List.mem_of_getElem? (i := 142) rfl), lw_t1 (List.mem_of_getElem? (i := 143) rfl)⟩
theorem lw_p9 : lw_okq (⟨"WovenDebugger", "call", "(II)V"⟩, 24) := ⟨⟨by decide +kernel, by decide +kernel⟩, lw_t1 (List.mem_of_getElem? (i := 4) rfl), lw_t1 (List.mem_of_getElem? (i := 146) rfl), lw_t1 (List.mem_of_getElem? (i := 147) rfl)⟩
theorem lw_p10 : lw_okq (⟨"WovenDebugger", "giveBack", "()V"⟩, 24) := ⟨⟨by decide +kernel, by decide +kernel⟩, lw_t1 (List.mem_of_getElem? (i := 4) rfl), lw_t1 (List.mem_of_getElem? (i := 150) rfl), lw_t1 (List.mem_of_getElem? (i := 151) rfl)⟩
theorem lw_p11 : lw_okq (⟨"WovenDebugger", "arrive", "()V"⟩, 24) := ⟨⟨by decide +kernel, by decide +kernel⟩, lw_t1 (List.mem_of_getElem? (i := 4) rfl), lw_t1 (List.mem_of_getElem? (i := 154) rfl), lw_t1 (List.mem_of_getElem? (i := 155) rfl)⟩
theorem lw_p12 : lw_okq (⟨"WovenDebugger", "plantNext", "(Z)V"⟩, 24) := ⟨⟨by decide +kernel, by decide +kernel⟩, lw_t1 (List.mem_of_getElem? (i := 4) rfl), lw_t1 (List.mem_of_getElem? (i := 162) rfl), lw_t1 (List.mem_of_getElem? (i := 163) rfl)⟩
theorem lw_p13 : lw_okq (⟨"WovenDebugger", "plant", "(I)V"⟩, 24) := ⟨⟨by decide +kernel, by decide +kernel⟩, lw_t1 (List.mem_of_getElem? (i := 4) rfl), lw_t1 (List.mem_of_getElem? (i := 166) rfl), lw_t1 (List.mem_of_getElem? (i := 167) rfl)⟩
theorem lw_p14 : lw_okq (⟨"WovenDebugger", "runPlanted", "(I)I"⟩, 24) := ⟨⟨by decide +kernel, by decide +kernel⟩, lw_t1 (List.mem_of_getElem? (i := 4) rfl), lw_t1 (List.mem_of_getElem? (i := 170) rfl), lw_t1 (List.mem_of_getElem? (i := 171) rfl)⟩
theorem lw_p15 : lw_okq (⟨"WovenDebugger", "unplantAll", "()V"⟩, 24) := ⟨⟨by decide +kernel, by decide +kernel⟩, lw_t1 (List.mem_of_getElem? (i := 4) rfl), lw_t1 (List.mem_of_getElem? (i := 174) rfl), lw_t1 (List.mem_of_getElem? (i := 175) rfl)⟩
def lw_privs_1 : List (MethodName × Nat) := [(⟨"WovenDebugger", "noInstruction", "(I)Z"⟩, 24), (⟨"WovenDebugger", "weave", "()V"⟩, 24), (⟨"WovenDebugger", "reweave", "()V"⟩, 24), (⟨"WovenDebugger", "notRunning", "()Z"⟩, 24), (⟨"WovenDebugger", "run", "(I)I"⟩, 24), (⟨"WovenDebugger", "perform", "()V"⟩, 24), (⟨"WovenDebugger", "base", "()I"⟩, 24), (⟨"WovenDebugger", "compute", "(IIII)V"⟩, 24), (⟨"WovenDebugger", "jump", "(I)V"⟩, 24), (⟨"WovenDebugger", "call", "(II)V"⟩, 24), (⟨"WovenDebugger", "giveBack", "()V"⟩, 24), (⟨"WovenDebugger", "arrive", "()V"⟩, 24), (⟨"WovenDebugger", "plantNext", "(Z)V"⟩, 24), (⟨"WovenDebugger", "plant", "(I)V"⟩, 24), (⟨"WovenDebugger", "runPlanted", "(I)I"⟩, 24), (⟨"WovenDebugger", "unplantAll", "()V"⟩, 24)]
theorem lw_r1 : ∀ q ∈ lw_privs_1, lw_okq q := List.forall_mem_cons.mpr ⟨lw_p0, List.forall_mem_cons.mpr ⟨lw_p1, List.forall_mem_cons.mpr ⟨lw_p2, List.forall_mem_cons.mpr ⟨lw_p3, List.forall_mem_cons.mpr ⟨lw_p4, List.forall_mem_cons.mpr ⟨lw_p5, List.forall_mem_cons.mpr ⟨lw_p6, List.forall_mem_cons.mpr ⟨lw_p7, List.forall_mem_cons.mpr ⟨lw_p8, List.forall_mem_cons.mpr ⟨lw_p9, List.forall_mem_cons.mpr ⟨lw_p10, List.forall_mem_cons.mpr ⟨lw_p11, List.forall_mem_cons.mpr ⟨lw_p12, List.forall_mem_cons.mpr ⟨lw_p13, List.forall_mem_cons.mpr ⟨lw_p14, List.forall_mem_cons.mpr ⟨lw_p15, fun _ h => absurd h List.not_mem_nil⟩⟩⟩⟩⟩⟩⟩⟩⟩⟩⟩⟩⟩⟩⟩⟩
theorem lw_p16 : lw_okq (⟨"WovenDebuggerModel", "noInstruction", "(I)Z"⟩, 13) := ⟨⟨by decide +kernel, by decide +kernel⟩, lw_t1 (List.mem_of_getElem? (i := 218) rfl), lw_t2 (List.mem_of_getElem? (i := 32) rfl), lw_t2 (List.mem_of_getElem? (i := 33) rfl)⟩
theorem lw_p17 : lw_okq (⟨"WovenDebuggerModel", "breaks", "()I"⟩, 13) := ⟨⟨by decide +kernel, by decide +kernel⟩, lw_t1 (List.mem_of_getElem? (i := 218) rfl), lw_t2 (List.mem_of_getElem? (i := 40) rfl), lw_t2 (List.mem_of_getElem? (i := 41) rfl)⟩
theorem lw_p18 : lw_okq (⟨"WovenDebuggerModel", "run", "(II)I"⟩, 13) := ⟨⟨by decide +kernel, by decide +kernel⟩, lw_t1 (List.mem_of_getElem? (i := 218) rfl), lw_t2 (List.mem_of_getElem? (i := 52) rfl), lw_t2 (List.mem_of_getElem? (i := 53) rfl)⟩
theorem lw_p19 : lw_okq (⟨"WovenDebuggerModel", "carryOut", "()V"⟩, 13) := ⟨⟨by decide +kernel, by decide +kernel⟩, lw_t1 (List.mem_of_getElem? (i := 218) rfl), lw_t2 (List.mem_of_getElem? (i := 56) rfl), lw_t2 (List.mem_of_getElem? (i := 57) rfl)⟩
theorem lw_p20 : lw_okq (⟨"WovenDebuggerModel", "out", "(I)V"⟩, 13) := ⟨⟨by decide +kernel, by decide +kernel⟩, lw_t1 (List.mem_of_getElem? (i := 218) rfl), lw_t2 (List.mem_of_getElem? (i := 60) rfl), lw_t2 (List.mem_of_getElem? (i := 61) rfl)⟩
def lw_privs_2 : List (MethodName × Nat) := [(⟨"WovenDebuggerModel", "noInstruction", "(I)Z"⟩, 13), (⟨"WovenDebuggerModel", "breaks", "()I"⟩, 13), (⟨"WovenDebuggerModel", "run", "(II)I"⟩, 13), (⟨"WovenDebuggerModel", "carryOut", "()V"⟩, 13), (⟨"WovenDebuggerModel", "out", "(I)V"⟩, 13)]
theorem lw_r2 : ∀ q ∈ lw_privs_2, lw_okq q := List.forall_mem_cons.mpr ⟨lw_p16, List.forall_mem_cons.mpr ⟨lw_p17, List.forall_mem_cons.mpr ⟨lw_p18, List.forall_mem_cons.mpr ⟨lw_p19, List.forall_mem_cons.mpr ⟨lw_p20, fun _ h => absurd h List.not_mem_nil⟩⟩⟩⟩⟩
def lw_privs : List (MethodName × Nat) := lw_privs_1 ++ (lw_privs_2)
def lw_tbl : List Cond := k2_sels lw_privs ++ tables_1
theorem lw_privs_ok : ∀ q ∈ lw_privs, lw_okq q := by
  show ∀ q ∈ lw_privs_1 ++ (lw_privs_2), lw_okq q
  exact List.forall_mem_append.mpr ⟨lw_r1, lw_r2⟩
-- ===== ONE list of words for every method: the tables' words that hold all through a run =====
def lw_all : List Cond := lw_tbl.filter goodWord
/-- a word of the tables by its place: claim/WORDS.tsv -/
theorem lw_w {w : Cond} (i : Nat) (h : lw_tbl[i]? = some w) (g : goodWord w = true) : w ∈ lw_all := List.mem_filter.mpr ⟨List.mem_of_getElem? h, g⟩
theorem lw_all_tbl {w : Cond} (h : w ∈ lw_all) : w ∈ lw_tbl := (List.mem_filter.mp h).1
theorem lw_self : GoodIn lw_all lw_all := fun w h => ⟨h, good_of_word (List.mem_filter.mp h).2⟩
/-- a class's field words, by their places -/
theorem lw_in (ws : List Cond) (ps : List Nat) (hp : ws = ps.filterMap (fun i => lw_tbl[i]?)) (hg : ws.all goodWord = true) : ∀ w ∈ ws, w ∈ lw_all := by
  intro w h
  have h1 := List.all_eq_true.mp hg w h
  rw [hp] at h
  obtain ⟨i, -, hi⟩ := List.mem_filterMap.mp h
  exact lw_w i hi h1
/-- the words of a contract for the method y with code b, L locals, answer r -/
abbrev ws_ (y : MethodName) (b : ByteArray) (L : Nat) (r : Option FieldType) : List Cond := Cond.code y b L r :: lw_all
theorem lw_meth {y : MethodName} {b : ByteArray} {L : Nat} {r : Option FieldType} (h : Cond.code y b L r ∈ lw_all) : GoodIn lw_all (ws_ y b L r) := by
  intro w hw
  rcases List.mem_cons.mp hw with e | e
  · rw [e]
    exact lw_self _ h
  · exact lw_self _ e
theorem lw_app {a c : List Cond} (ha : ∀ w ∈ a, w ∈ lw_all) (hc : GoodIn lw_all c) : GoodIn lw_all (a ++ c) := by
  intro w hw
  rcases List.mem_append.mp hw with e | e
  · exact lw_self w (ha w e)
  · exact hc w e
/-- what a call through an object asks: cwV n hts (lw_V ..) -/
theorem lw_V {own : String} {idx : Nat} {C : String} {y : MethodName} {b : ByteArray} {L : Nat} {r : Option FieldType} (h1 : Cond.methodLink own idx y ∈ lw_all) (h2 : Cond.instanceMethod y ∈ lw_all) (h3 : Cond.selects C y y ∈ lw_all) (h4 : Cond.initialized C ∈ lw_all) (h5 : Cond.code y b L r ∈ lw_all) : GoodIn lw_all (wsV own idx C y (ws_ y b L r)) := by
  refine lw_app ?_ (lw_meth h5)
  intro w hw
  simp only [List.mem_cons, List.not_mem_nil, or_false] at hw
  rcases hw with e | e | e | e
  · rw [e]; exact h1
  · rw [e]; exact h2
  · rw [e]; exact h3
  · rw [e]; exact h4
/-- what a static call asks: va_cwS n hts (lw_S ..) -/
theorem lw_S {own : String} {idx : Nat} {y : MethodName} {b : ByteArray} {L : Nat} {r : Option FieldType} (h1 : Cond.methodLink own idx y ∈ lw_all) (h2 : Cond.static y ∈ lw_all) (h3 : Cond.initialized y.cls ∈ lw_all) (h4 : Cond.code y b L r ∈ lw_all) : GoodIn lw_all (va_wsS own idx y (ws_ y b L r)) := by
  refine lw_app ?_ (lw_meth h4)
  intro w hw
  simp only [List.mem_cons, List.not_mem_nil, or_false] at hw
  rcases hw with e | e | e
  · rw [e]; exact h1
  · rw [e]; exact h2
  · rw [e]; exact h3
/-- the words of a contract for a method WITH HANDLERS (hh: its table) -/
abbrev wsW_ (y : MethodName) (b : ByteArray) (L : Nat) (r : Option FieldType) (hh : List (Nat × Nat × Nat × Nat)) : List Cond := Cond.codeWith y b L r hh :: lw_all
theorem lw_methW {y : MethodName} {b : ByteArray} {L : Nat} {r : Option FieldType} {hh : List (Nat × Nat × Nat × Nat)} (h : Cond.codeWith y b L r hh ∈ lw_all) : GoodIn lw_all (wsW_ y b L r hh) := by
  intro w hw
  rcases List.mem_cons.mp hw with e | e
  · rw [e]
    exact lw_self _ h
  · exact lw_self _ e
/-- any list of words by their places (lw_in), good -/
theorem lw_good {ws : List Cond} (h : ∀ w ∈ ws, w ∈ lw_all) : GoodIn lw_all ws := fun w hw => lw_self w (h w hw)
/-- what a call of a method with handlers asks: vx_cwVW n hts (lw_VW ..), vx_cwSW n hts (lw_SW ..) -/
theorem lw_VW {own : String} {idx : Nat} {C : String} {y : MethodName} {b : ByteArray} {L : Nat} {r : Option FieldType} {hh : List (Nat × Nat × Nat × Nat)} (h1 : Cond.methodLink own idx y ∈ lw_all) (h2 : Cond.instanceMethod y ∈ lw_all) (h3 : Cond.selects C y y ∈ lw_all) (h4 : Cond.initialized C ∈ lw_all) (h5 : Cond.codeWith y b L r hh ∈ lw_all) : GoodIn lw_all (wsV own idx C y (wsW_ y b L r hh)) := by
  refine lw_app ?_ (lw_methW h5)
  intro w hw
  simp only [List.mem_cons, List.not_mem_nil, or_false] at hw
  rcases hw with e | e | e | e
  · rw [e]; exact h1
  · rw [e]; exact h2
  · rw [e]; exact h3
  · rw [e]; exact h4
theorem lw_SW {own : String} {idx : Nat} {y : MethodName} {b : ByteArray} {L : Nat} {r : Option FieldType} {hh : List (Nat × Nat × Nat × Nat)} (h1 : Cond.methodLink own idx y ∈ lw_all) (h2 : Cond.static y ∈ lw_all) (h3 : Cond.initialized y.cls ∈ lw_all) (h4 : Cond.codeWith y b L r hh ∈ lw_all) : GoodIn lw_all (va_wsS own idx y (wsW_ y b L r hh)) := by
  refine lw_app ?_ (lw_methW h4)
  intro w hw
  simp only [List.mem_cons, List.not_mem_nil, or_false] at hw
  rcases hw with e | e | e
  · rw [e]; exact h1
  · rw [e]; exact h2
  · rw [e]; exact h3
/-- a word by its place in its run of the tables -/
theorem lw_at {r : List Cond} (hr : ∀ w ∈ r, w ∈ lw_tbl) {w : Cond} (i : Nat) (h : r[i]? = some w) : w ∈ lw_tbl := hr w (List.mem_of_getElem? h)
theorem lw_g {w : Cond} (h : w ∈ lw_tbl) (g : goodWord w = true) : w ∈ lw_all := List.mem_filter.mpr ⟨h, g⟩
theorem lw_ms : ∀ w ∈ k2_sels lw_privs, w ∈ lw_tbl := fun w h => show w ∈ k2_sels lw_privs ++ tables_1 from List.mem_append_left _ h
theorem lw_m1 : ∀ w ∈ tables_1_1, w ∈ lw_tbl := fun w h => show w ∈ k2_sels lw_privs ++ tables_1 from List.mem_append_right (k2_sels lw_privs) (show w ∈ tables_1 from List.mem_append_left _ h)
theorem lw_m2 : ∀ w ∈ tables_1_2, w ∈ lw_tbl := fun w h => show w ∈ k2_sels lw_privs ++ tables_1 from List.mem_append_right (k2_sels lw_privs) (show w ∈ tables_1 from List.mem_append_right _ h)
theorem qs0 : (Cond.selects "WovenDebugger" ⟨"WovenDebugger", "noInstruction", "(I)Z"⟩ ⟨"WovenDebugger", "noInstruction", "(I)Z"⟩) ∈ lw_all := lw_g (lw_at lw_ms 0 rfl) rfl
theorem qs1 : (Cond.selects "WovenDebugger" ⟨"WovenDebugger", "weave", "()V"⟩ ⟨"WovenDebugger", "weave", "()V"⟩) ∈ lw_all := lw_g (lw_at lw_ms 1 rfl) rfl
theorem qs2 : (Cond.selects "WovenDebugger" ⟨"WovenDebugger", "reweave", "()V"⟩ ⟨"WovenDebugger", "reweave", "()V"⟩) ∈ lw_all := lw_g (lw_at lw_ms 2 rfl) rfl
theorem qs3 : (Cond.selects "WovenDebugger" ⟨"WovenDebugger", "notRunning", "()Z"⟩ ⟨"WovenDebugger", "notRunning", "()Z"⟩) ∈ lw_all := lw_g (lw_at lw_ms 3 rfl) rfl
theorem qs4 : (Cond.selects "WovenDebugger" ⟨"WovenDebugger", "run", "(I)I"⟩ ⟨"WovenDebugger", "run", "(I)I"⟩) ∈ lw_all := lw_g (lw_at lw_ms 4 rfl) rfl
theorem qs5 : (Cond.selects "WovenDebugger" ⟨"WovenDebugger", "perform", "()V"⟩ ⟨"WovenDebugger", "perform", "()V"⟩) ∈ lw_all := lw_g (lw_at lw_ms 5 rfl) rfl
theorem qs6 : (Cond.selects "WovenDebugger" ⟨"WovenDebugger", "base", "()I"⟩ ⟨"WovenDebugger", "base", "()I"⟩) ∈ lw_all := lw_g (lw_at lw_ms 6 rfl) rfl
theorem qs7 : (Cond.selects "WovenDebugger" ⟨"WovenDebugger", "compute", "(IIII)V"⟩ ⟨"WovenDebugger", "compute", "(IIII)V"⟩) ∈ lw_all := lw_g (lw_at lw_ms 7 rfl) rfl
theorem qs8 : (Cond.selects "WovenDebugger" ⟨"WovenDebugger", "jump", "(I)V"⟩ ⟨"WovenDebugger", "jump", "(I)V"⟩) ∈ lw_all := lw_g (lw_at lw_ms 8 rfl) rfl
theorem qs9 : (Cond.selects "WovenDebugger" ⟨"WovenDebugger", "call", "(II)V"⟩ ⟨"WovenDebugger", "call", "(II)V"⟩) ∈ lw_all := lw_g (lw_at lw_ms 9 rfl) rfl
theorem qs10 : (Cond.selects "WovenDebugger" ⟨"WovenDebugger", "giveBack", "()V"⟩ ⟨"WovenDebugger", "giveBack", "()V"⟩) ∈ lw_all := lw_g (lw_at lw_ms 10 rfl) rfl
theorem qs11 : (Cond.selects "WovenDebugger" ⟨"WovenDebugger", "arrive", "()V"⟩ ⟨"WovenDebugger", "arrive", "()V"⟩) ∈ lw_all := lw_g (lw_at lw_ms 11 rfl) rfl
theorem qs12 : (Cond.selects "WovenDebugger" ⟨"WovenDebugger", "plantNext", "(Z)V"⟩ ⟨"WovenDebugger", "plantNext", "(Z)V"⟩) ∈ lw_all := lw_g (lw_at lw_ms 12 rfl) rfl
theorem qs13 : (Cond.selects "WovenDebugger" ⟨"WovenDebugger", "plant", "(I)V"⟩ ⟨"WovenDebugger", "plant", "(I)V"⟩) ∈ lw_all := lw_g (lw_at lw_ms 13 rfl) rfl
theorem qs14 : (Cond.selects "WovenDebugger" ⟨"WovenDebugger", "runPlanted", "(I)I"⟩ ⟨"WovenDebugger", "runPlanted", "(I)I"⟩) ∈ lw_all := lw_g (lw_at lw_ms 14 rfl) rfl
theorem qs15 : (Cond.selects "WovenDebugger" ⟨"WovenDebugger", "unplantAll", "()V"⟩ ⟨"WovenDebugger", "unplantAll", "()V"⟩) ∈ lw_all := lw_g (lw_at lw_ms 15 rfl) rfl
theorem qs16 : (Cond.selects "WovenDebuggerModel" ⟨"WovenDebuggerModel", "noInstruction", "(I)Z"⟩ ⟨"WovenDebuggerModel", "noInstruction", "(I)Z"⟩) ∈ lw_all := lw_g (lw_at lw_ms 16 rfl) rfl
theorem qs17 : (Cond.selects "WovenDebuggerModel" ⟨"WovenDebuggerModel", "breaks", "()I"⟩ ⟨"WovenDebuggerModel", "breaks", "()I"⟩) ∈ lw_all := lw_g (lw_at lw_ms 17 rfl) rfl
theorem qs18 : (Cond.selects "WovenDebuggerModel" ⟨"WovenDebuggerModel", "run", "(II)I"⟩ ⟨"WovenDebuggerModel", "run", "(II)I"⟩) ∈ lw_all := lw_g (lw_at lw_ms 18 rfl) rfl
theorem qs19 : (Cond.selects "WovenDebuggerModel" ⟨"WovenDebuggerModel", "carryOut", "()V"⟩ ⟨"WovenDebuggerModel", "carryOut", "()V"⟩) ∈ lw_all := lw_g (lw_at lw_ms 19 rfl) rfl
theorem qs20 : (Cond.selects "WovenDebuggerModel" ⟨"WovenDebuggerModel", "out", "(I)V"⟩ ⟨"WovenDebuggerModel", "out", "(I)V"⟩) ∈ lw_all := lw_g (lw_at lw_ms 20 rfl) rfl
end
section
/-! WovenDebugger -/
set_option maxRecDepth 100000
def RX0 : String := "WovenDebugger"
def TX0 : u_T := fun k => match k with
  | 0 => ("WovenDebugger", "length", "I", false)
  | 1 => ("WovenDebugger", "op", "[I", true)
  | 2 => ("WovenDebugger", "first", "[I", true)
  | 3 => ("WovenDebugger", "second", "[I", true)
  | 4 => ("WovenDebugger", "breaks", "I", false)
  | 5 => ("WovenDebugger", "broken", "[Z", true)
  | 6 => ("WovenDebugger", "skips", "[I", true)
  | 7 => ("WovenDebugger", "planted", "[Z", true)
  | 8 => ("WovenDebugger", "goalDepth", "I", false)
  | 9 => ("WovenDebugger", "wovenOp", "[I", true)
  | 10 => ("WovenDebugger", "wovenFrom", "[I", true)
  | 11 => ("WovenDebugger", "leads", "[I", true)
  | 12 => ("WovenDebugger", "entry", "[I", true)
  | 13 => ("WovenDebugger", "body", "[I", true)
  | 14 => ("WovenDebugger", "state", "I", false)
  | 15 => ("WovenDebugger", "at", "I", false)
  | 16 => ("WovenDebugger", "lost", "Z", false)
  | 17 => ("WovenDebugger", "lostCounter", "I", false)
  | 18 => ("WovenDebugger", "frames", "I", false)
  | 19 => ("WovenDebugger", "locals", "[I", true)
  | 20 => ("WovenDebugger", "goesOn", "[I", true)
  | 21 => ("WovenDebugger", "takes", "[I", true)
  | 22 => ("WovenDebugger", "written", "I", false)
  | _ => ("WovenDebugger", "lastOut", "[I", true)
def tyX0 : Nat → FieldType := fun k => match k with
  | 0 => .int
  | 1 => .array .int
  | 2 => .array .int
  | 3 => .array .int
  | 4 => .int
  | 5 => .array .boolean
  | 6 => .array .int
  | 7 => .array .boolean
  | 8 => .int
  | 9 => .array .int
  | 10 => .array .int
  | 11 => .array .int
  | 12 => .array .int
  | 13 => .array .int
  | 14 => .int
  | 15 => .int
  | 16 => .boolean
  | 17 => .int
  | 18 => .int
  | 19 => .array .int
  | 20 => .array .int
  | 21 => .array .int
  | 22 => .int
  | _ => .array .int
abbrev wsX00 : List Cond := u_ws RX0 TX0 24
set_option maxRecDepth 100000 in
theorem nmX0 : ∀ a, a < 24 → ∀ b, b < 24 → a ≠ b → (TX0 a).2.1 ≠ (TX0 b).2.1 := by decide +kernel
set_option maxRecDepth 100000 in
theorem tyX0_ok : ∀ k, k < 24 → parseFieldDescriptor (TX0 k).2.2.1 = some (tyX0 k) := by decide +kernel
abbrev cX0_init : ByteArray := prog_1_method_1_code
def yX0_init : MethodName := ⟨RX0, "<init>", "()V"⟩
abbrev cX0_emit : ByteArray := prog_1_method_3_code
def yX0_emit : MethodName := ⟨RX0, "emit", "(III)I"⟩
abbrev cX0_start : ByteArray := prog_1_method_4_code
def yX0_start : MethodName := ⟨RX0, "start", "(I)I"⟩
abbrev cX0_noInstruction : ByteArray := prog_1_method_2_code
def yX0_noInstruction : MethodName := ⟨RX0, "noInstruction", "(I)Z"⟩
abbrev cX0_weave : ByteArray := prog_1_method_7_code
def yX0_weave : MethodName := ⟨RX0, "weave", "()V"⟩
abbrev cX0_setBreak : ByteArray := prog_1_method_5_code
def yX0_setBreak : MethodName := ⟨RX0, "setBreak", "(II)I"⟩
abbrev cX0_reweave : ByteArray := prog_1_method_8_code
def yX0_reweave : MethodName := ⟨RX0, "reweave", "()V"⟩
abbrev cX0_clearBreak : ByteArray := prog_1_method_6_code
def yX0_clearBreak : MethodName := ⟨RX0, "clearBreak", "(I)I"⟩
abbrev cX0_resume : ByteArray := prog_1_method_23_code
def yX0_resume : MethodName := ⟨RX0, "resume", "(I)I"⟩
abbrev cX0_notRunning : ByteArray := prog_1_method_19_code
def yX0_notRunning : MethodName := ⟨RX0, "notRunning", "()Z"⟩
abbrev cX0_clampMax : ByteArray := prog_1_method_20_code
def yX0_clampMax : MethodName := ⟨RX0, "clampMax", "(I)I"⟩
abbrev cX0_run : ByteArray := prog_1_method_17_code
def yX0_run : MethodName := ⟨RX0, "run", "(I)I"⟩
abbrev cX0_perform : ByteArray := prog_1_method_12_code
def yX0_perform : MethodName := ⟨RX0, "perform", "()V"⟩
abbrev cX0_base : ByteArray := prog_1_method_11_code
def yX0_base : MethodName := ⟨RX0, "base", "()I"⟩
abbrev cX0_compute : ByteArray := prog_1_method_13_code
def yX0_compute : MethodName := ⟨RX0, "compute", "(IIII)V"⟩
abbrev cX0_jump : ByteArray := prog_1_method_14_code
def yX0_jump : MethodName := ⟨RX0, "jump", "(I)V"⟩
abbrev cX0_call : ByteArray := prog_1_method_15_code
def yX0_call : MethodName := ⟨RX0, "call", "(II)V"⟩
abbrev cX0_giveBack : ByteArray := prog_1_method_16_code
def yX0_giveBack : MethodName := ⟨RX0, "giveBack", "()V"⟩
abbrev cX0_arrive : ByteArray := prog_1_method_18_code
def yX0_arrive : MethodName := ⟨RX0, "arrive", "()V"⟩
abbrev cX0_stepInto : ByteArray := prog_1_method_24_code
def yX0_stepInto : MethodName := ⟨RX0, "stepInto", "()I"⟩
abbrev cX0_plantNext : ByteArray := prog_1_method_21_code
def yX0_plantNext : MethodName := ⟨RX0, "plantNext", "(Z)V"⟩
abbrev cX0_plant : ByteArray := prog_1_method_9_code
def yX0_plant : MethodName := ⟨RX0, "plant", "(I)V"⟩
abbrev cX0_runPlanted : ByteArray := prog_1_method_22_code
def yX0_runPlanted : MethodName := ⟨RX0, "runPlanted", "(I)I"⟩
abbrev cX0_unplantAll : ByteArray := prog_1_method_10_code
def yX0_unplantAll : MethodName := ⟨RX0, "unplantAll", "()V"⟩
abbrev cX0_stepOver : ByteArray := prog_1_method_25_code
def yX0_stepOver : MethodName := ⟨RX0, "stepOver", "(I)I"⟩
abbrev cX0_stepOut : ByteArray := prog_1_method_26_code
def yX0_stepOut : MethodName := ⟨RX0, "stepOut", "(I)I"⟩
abbrev cX0_setLocal : ByteArray := prog_1_method_27_code
def yX0_setLocal : MethodName := ⟨RX0, "setLocal", "(II)I"⟩
abbrev cX0_state : ByteArray := prog_1_method_28_code
def yX0_state : MethodName := ⟨RX0, "state", "()I"⟩
abbrev cX0_depth : ByteArray := prog_1_method_29_code
def yX0_depth : MethodName := ⟨RX0, "depth", "()I"⟩
abbrev cX0_counter : ByteArray := prog_1_method_30_code
def yX0_counter : MethodName := ⟨RX0, "counter", "(I)I"⟩
abbrev cX0_local : ByteArray := prog_1_method_31_code
def yX0_local : MethodName := ⟨RX0, "local", "(II)I"⟩
abbrev cX0_outputs : ByteArray := prog_1_method_32_code
def yX0_outputs : MethodName := ⟨RX0, "outputs", "()I"⟩
abbrev cX0_output : ByteArray := prog_1_method_33_code
def yX0_output : MethodName := ⟨RX0, "output", "(I)I"⟩
abbrev cX0_skip : ByteArray := prog_1_method_34_code
def yX0_skip : MethodName := ⟨RX0, "skip", "(I)I"⟩
theorem q22 : (Jvm.Cond.initialized "WovenDebugger") ∈ lw_all := lw_g (lw_at lw_m1 1 rfl) rfl
theorem q25 : (Jvm.Cond.instantiable "WovenDebugger" (24 : Nat)) ∈ lw_all := lw_g (lw_at lw_m1 4 rfl) rfl
theorem q27 : (Jvm.Cond.instanceMethod ({ cls := "WovenDebugger", name := "<init>", desc := "()V" } : Jvm.MethodName)) ∈ lw_all := lw_g (lw_at lw_m1 6 rfl) rfl
theorem q28 : (Jvm.Cond.code ({ cls := "WovenDebugger", name := "<init>", desc := "()V" } : Jvm.MethodName) prog_1_method_1_code (1 : Nat) (Option.none : Option Jvm.ClassFile.FieldType)) ∈ lw_all := lw_g (lw_at lw_m1 7 rfl) rfl
theorem q29 : (Jvm.Cond.methodLink "WovenDebugger" (1 : Nat) ({ cls := "java/lang/Object", name := "<init>", desc := "()V" } : Jvm.MethodName)) ∈ lw_all := lw_g (lw_at lw_m1 8 rfl) rfl
theorem q32 : (Jvm.Cond.fieldLink "WovenDebugger" (60 : Nat) "WovenDebugger" "length" "I") ∈ lw_all := lw_g (lw_at lw_m1 11 rfl) rfl
theorem q33 : (Jvm.Cond.fieldLink "WovenDebugger" (7 : Nat) "WovenDebugger" "op" "[I") ∈ lw_all := lw_g (lw_at lw_m1 12 rfl) rfl
theorem q34 : (Jvm.Cond.fieldLink "WovenDebugger" (13 : Nat) "WovenDebugger" "first" "[I") ∈ lw_all := lw_g (lw_at lw_m1 13 rfl) rfl
theorem q35 : (Jvm.Cond.fieldLink "WovenDebugger" (16 : Nat) "WovenDebugger" "second" "[I") ∈ lw_all := lw_g (lw_at lw_m1 14 rfl) rfl
theorem q36 : (Jvm.Cond.fieldLink "WovenDebugger" (83 : Nat) "WovenDebugger" "breaks" "I") ∈ lw_all := lw_g (lw_at lw_m1 15 rfl) rfl
theorem q37 : (Jvm.Cond.fieldLink "WovenDebugger" (19 : Nat) "WovenDebugger" "broken" "[Z") ∈ lw_all := lw_g (lw_at lw_m1 16 rfl) rfl
theorem q38 : (Jvm.Cond.fieldLink "WovenDebugger" (23 : Nat) "WovenDebugger" "skips" "[I") ∈ lw_all := lw_g (lw_at lw_m1 17 rfl) rfl
theorem q39 : (Jvm.Cond.fieldLink "WovenDebugger" (26 : Nat) "WovenDebugger" "planted" "[Z") ∈ lw_all := lw_g (lw_at lw_m1 18 rfl) rfl
theorem q40 : (Jvm.Cond.fieldLink "WovenDebugger" (117 : Nat) "WovenDebugger" "goalDepth" "I") ∈ lw_all := lw_g (lw_at lw_m1 19 rfl) rfl
theorem q41 : (Jvm.Cond.fieldLink "WovenDebugger" (29 : Nat) "WovenDebugger" "wovenOp" "[I") ∈ lw_all := lw_g (lw_at lw_m1 20 rfl) rfl
theorem q42 : (Jvm.Cond.fieldLink "WovenDebugger" (32 : Nat) "WovenDebugger" "wovenFrom" "[I") ∈ lw_all := lw_g (lw_at lw_m1 21 rfl) rfl
theorem q43 : (Jvm.Cond.fieldLink "WovenDebugger" (35 : Nat) "WovenDebugger" "leads" "[I") ∈ lw_all := lw_g (lw_at lw_m1 22 rfl) rfl
theorem q44 : (Jvm.Cond.fieldLink "WovenDebugger" (38 : Nat) "WovenDebugger" "entry" "[I") ∈ lw_all := lw_g (lw_at lw_m1 23 rfl) rfl
theorem q45 : (Jvm.Cond.fieldLink "WovenDebugger" (41 : Nat) "WovenDebugger" "body" "[I") ∈ lw_all := lw_g (lw_at lw_m1 24 rfl) rfl
theorem q46 : (Jvm.Cond.fieldLink "WovenDebugger" (56 : Nat) "WovenDebugger" "state" "I") ∈ lw_all := lw_g (lw_at lw_m1 25 rfl) rfl
theorem q47 : (Jvm.Cond.fieldLink "WovenDebugger" (73 : Nat) "WovenDebugger" "at" "I") ∈ lw_all := lw_g (lw_at lw_m1 26 rfl) rfl
theorem q48 : (Jvm.Cond.fieldLink "WovenDebugger" (76 : Nat) "WovenDebugger" "lost" "Z") ∈ lw_all := lw_g (lw_at lw_m1 27 rfl) rfl
theorem q49 : (Jvm.Cond.fieldLink "WovenDebugger" (108 : Nat) "WovenDebugger" "lostCounter" "I") ∈ lw_all := lw_g (lw_at lw_m1 28 rfl) rfl
theorem q50 : (Jvm.Cond.fieldLink "WovenDebugger" (70 : Nat) "WovenDebugger" "frames" "I") ∈ lw_all := lw_g (lw_at lw_m1 29 rfl) rfl
theorem q51 : (Jvm.Cond.fieldLink "WovenDebugger" (44 : Nat) "WovenDebugger" "locals" "[I") ∈ lw_all := lw_g (lw_at lw_m1 30 rfl) rfl
theorem q52 : (Jvm.Cond.fieldLink "WovenDebugger" (47 : Nat) "WovenDebugger" "goesOn" "[I") ∈ lw_all := lw_g (lw_at lw_m1 31 rfl) rfl
theorem q53 : (Jvm.Cond.fieldLink "WovenDebugger" (50 : Nat) "WovenDebugger" "takes" "[I") ∈ lw_all := lw_g (lw_at lw_m1 32 rfl) rfl
theorem q54 : (Jvm.Cond.fieldLink "WovenDebugger" (80 : Nat) "WovenDebugger" "written" "I") ∈ lw_all := lw_g (lw_at lw_m1 33 rfl) rfl
theorem q55 : (Jvm.Cond.fieldLink "WovenDebugger" (53 : Nat) "WovenDebugger" "lastOut" "[I") ∈ lw_all := lw_g (lw_at lw_m1 34 rfl) rfl
theorem q56 : (Jvm.Cond.lays "WovenDebugger" "WovenDebugger" "length" "I") ∈ lw_all := lw_g (lw_at lw_m1 35 rfl) rfl
theorem q57 : (Jvm.Cond.soleField "WovenDebugger" "length") ∈ lw_all := lw_g (lw_at lw_m1 36 rfl) rfl
theorem q58 : (Jvm.Cond.laysFinal "WovenDebugger" "WovenDebugger" "op" "[I") ∈ lw_all := lw_g (lw_at lw_m1 37 rfl) rfl
theorem q59 : (Jvm.Cond.soleField "WovenDebugger" "op") ∈ lw_all := lw_g (lw_at lw_m1 38 rfl) rfl
theorem q60 : (Jvm.Cond.laysFinal "WovenDebugger" "WovenDebugger" "first" "[I") ∈ lw_all := lw_g (lw_at lw_m1 39 rfl) rfl
theorem q61 : (Jvm.Cond.soleField "WovenDebugger" "first") ∈ lw_all := lw_g (lw_at lw_m1 40 rfl) rfl
theorem q62 : (Jvm.Cond.laysFinal "WovenDebugger" "WovenDebugger" "second" "[I") ∈ lw_all := lw_g (lw_at lw_m1 41 rfl) rfl
theorem q63 : (Jvm.Cond.soleField "WovenDebugger" "second") ∈ lw_all := lw_g (lw_at lw_m1 42 rfl) rfl
theorem q64 : (Jvm.Cond.lays "WovenDebugger" "WovenDebugger" "breaks" "I") ∈ lw_all := lw_g (lw_at lw_m1 43 rfl) rfl
theorem q65 : (Jvm.Cond.soleField "WovenDebugger" "breaks") ∈ lw_all := lw_g (lw_at lw_m1 44 rfl) rfl
theorem q66 : (Jvm.Cond.laysFinal "WovenDebugger" "WovenDebugger" "broken" "[Z") ∈ lw_all := lw_g (lw_at lw_m1 45 rfl) rfl
theorem q67 : (Jvm.Cond.soleField "WovenDebugger" "broken") ∈ lw_all := lw_g (lw_at lw_m1 46 rfl) rfl
theorem q68 : (Jvm.Cond.laysFinal "WovenDebugger" "WovenDebugger" "skips" "[I") ∈ lw_all := lw_g (lw_at lw_m1 47 rfl) rfl
theorem q69 : (Jvm.Cond.soleField "WovenDebugger" "skips") ∈ lw_all := lw_g (lw_at lw_m1 48 rfl) rfl
theorem q70 : (Jvm.Cond.laysFinal "WovenDebugger" "WovenDebugger" "planted" "[Z") ∈ lw_all := lw_g (lw_at lw_m1 49 rfl) rfl
theorem q71 : (Jvm.Cond.soleField "WovenDebugger" "planted") ∈ lw_all := lw_g (lw_at lw_m1 50 rfl) rfl
theorem q72 : (Jvm.Cond.lays "WovenDebugger" "WovenDebugger" "goalDepth" "I") ∈ lw_all := lw_g (lw_at lw_m1 51 rfl) rfl
theorem q73 : (Jvm.Cond.soleField "WovenDebugger" "goalDepth") ∈ lw_all := lw_g (lw_at lw_m1 52 rfl) rfl
theorem q74 : (Jvm.Cond.laysFinal "WovenDebugger" "WovenDebugger" "wovenOp" "[I") ∈ lw_all := lw_g (lw_at lw_m1 53 rfl) rfl
theorem q75 : (Jvm.Cond.soleField "WovenDebugger" "wovenOp") ∈ lw_all := lw_g (lw_at lw_m1 54 rfl) rfl
theorem q76 : (Jvm.Cond.laysFinal "WovenDebugger" "WovenDebugger" "wovenFrom" "[I") ∈ lw_all := lw_g (lw_at lw_m1 55 rfl) rfl
theorem q77 : (Jvm.Cond.soleField "WovenDebugger" "wovenFrom") ∈ lw_all := lw_g (lw_at lw_m1 56 rfl) rfl
theorem q78 : (Jvm.Cond.laysFinal "WovenDebugger" "WovenDebugger" "leads" "[I") ∈ lw_all := lw_g (lw_at lw_m1 57 rfl) rfl
theorem q79 : (Jvm.Cond.soleField "WovenDebugger" "leads") ∈ lw_all := lw_g (lw_at lw_m1 58 rfl) rfl
theorem q80 : (Jvm.Cond.laysFinal "WovenDebugger" "WovenDebugger" "entry" "[I") ∈ lw_all := lw_g (lw_at lw_m1 59 rfl) rfl
theorem q81 : (Jvm.Cond.soleField "WovenDebugger" "entry") ∈ lw_all := lw_g (lw_at lw_m1 60 rfl) rfl
theorem q82 : (Jvm.Cond.laysFinal "WovenDebugger" "WovenDebugger" "body" "[I") ∈ lw_all := lw_g (lw_at lw_m1 61 rfl) rfl
theorem q83 : (Jvm.Cond.soleField "WovenDebugger" "body") ∈ lw_all := lw_g (lw_at lw_m1 62 rfl) rfl
theorem q84 : (Jvm.Cond.lays "WovenDebugger" "WovenDebugger" "state" "I") ∈ lw_all := lw_g (lw_at lw_m1 63 rfl) rfl
theorem q85 : (Jvm.Cond.soleField "WovenDebugger" "state") ∈ lw_all := lw_g (lw_at lw_m1 64 rfl) rfl
theorem q86 : (Jvm.Cond.lays "WovenDebugger" "WovenDebugger" "at" "I") ∈ lw_all := lw_g (lw_at lw_m1 65 rfl) rfl
theorem q87 : (Jvm.Cond.soleField "WovenDebugger" "at") ∈ lw_all := lw_g (lw_at lw_m1 66 rfl) rfl
theorem q88 : (Jvm.Cond.lays "WovenDebugger" "WovenDebugger" "lost" "Z") ∈ lw_all := lw_g (lw_at lw_m1 67 rfl) rfl
theorem q89 : (Jvm.Cond.soleField "WovenDebugger" "lost") ∈ lw_all := lw_g (lw_at lw_m1 68 rfl) rfl
theorem q90 : (Jvm.Cond.lays "WovenDebugger" "WovenDebugger" "lostCounter" "I") ∈ lw_all := lw_g (lw_at lw_m1 69 rfl) rfl
theorem q91 : (Jvm.Cond.soleField "WovenDebugger" "lostCounter") ∈ lw_all := lw_g (lw_at lw_m1 70 rfl) rfl
theorem q92 : (Jvm.Cond.lays "WovenDebugger" "WovenDebugger" "frames" "I") ∈ lw_all := lw_g (lw_at lw_m1 71 rfl) rfl
theorem q93 : (Jvm.Cond.soleField "WovenDebugger" "frames") ∈ lw_all := lw_g (lw_at lw_m1 72 rfl) rfl
theorem q94 : (Jvm.Cond.laysFinal "WovenDebugger" "WovenDebugger" "locals" "[I") ∈ lw_all := lw_g (lw_at lw_m1 73 rfl) rfl
theorem q95 : (Jvm.Cond.soleField "WovenDebugger" "locals") ∈ lw_all := lw_g (lw_at lw_m1 74 rfl) rfl
theorem q96 : (Jvm.Cond.laysFinal "WovenDebugger" "WovenDebugger" "goesOn" "[I") ∈ lw_all := lw_g (lw_at lw_m1 75 rfl) rfl
theorem q97 : (Jvm.Cond.soleField "WovenDebugger" "goesOn") ∈ lw_all := lw_g (lw_at lw_m1 76 rfl) rfl
theorem q98 : (Jvm.Cond.laysFinal "WovenDebugger" "WovenDebugger" "takes" "[I") ∈ lw_all := lw_g (lw_at lw_m1 77 rfl) rfl
theorem q99 : (Jvm.Cond.soleField "WovenDebugger" "takes") ∈ lw_all := lw_g (lw_at lw_m1 78 rfl) rfl
theorem q100 : (Jvm.Cond.lays "WovenDebugger" "WovenDebugger" "written" "I") ∈ lw_all := lw_g (lw_at lw_m1 79 rfl) rfl
theorem q101 : (Jvm.Cond.soleField "WovenDebugger" "written") ∈ lw_all := lw_g (lw_at lw_m1 80 rfl) rfl
theorem q102 : (Jvm.Cond.laysFinal "WovenDebugger" "WovenDebugger" "lastOut" "[I") ∈ lw_all := lw_g (lw_at lw_m1 81 rfl) rfl
theorem q103 : (Jvm.Cond.soleField "WovenDebugger" "lastOut") ∈ lw_all := lw_g (lw_at lw_m1 82 rfl) rfl
theorem q104 : (Jvm.Cond.superclass "WovenDebugger" "java/lang/Object") ∈ lw_all := lw_g (lw_at lw_m1 83 rfl) rfl
theorem q108 : (Jvm.Cond.instanceMethod ({ cls := "WovenDebugger", name := "emit", desc := "(III)I" } : Jvm.MethodName)) ∈ lw_all := lw_g (lw_at lw_m1 87 rfl) rfl
theorem q109 : (Jvm.Cond.selects "WovenDebugger" ({ cls := "WovenDebugger", name := "emit", desc := "(III)I" } : Jvm.MethodName) ({ cls := "WovenDebugger", name := "emit", desc := "(III)I" } : Jvm.MethodName)) ∈ lw_all := lw_g (lw_at lw_m1 88 rfl) rfl
theorem q110 : (Jvm.Cond.code ({ cls := "WovenDebugger", name := "emit", desc := "(III)I" } : Jvm.MethodName) prog_1_method_3_code (5 : Nat) (Option.some Jvm.ClassFile.FieldType.int)) ∈ lw_all := lw_g (lw_at lw_m1 89 rfl) rfl
theorem q112 : (Jvm.Cond.instanceMethod ({ cls := "WovenDebugger", name := "start", desc := "(I)I" } : Jvm.MethodName)) ∈ lw_all := lw_g (lw_at lw_m1 91 rfl) rfl
theorem q113 : (Jvm.Cond.selects "WovenDebugger" ({ cls := "WovenDebugger", name := "start", desc := "(I)I" } : Jvm.MethodName) ({ cls := "WovenDebugger", name := "start", desc := "(I)I" } : Jvm.MethodName)) ∈ lw_all := lw_g (lw_at lw_m1 92 rfl) rfl
theorem q114 : (Jvm.Cond.code ({ cls := "WovenDebugger", name := "start", desc := "(I)I" } : Jvm.MethodName) prog_1_method_4_code (3 : Nat) (Option.some Jvm.ClassFile.FieldType.int)) ∈ lw_all := lw_g (lw_at lw_m1 93 rfl) rfl
theorem q115 : (Jvm.Cond.methodLink "WovenDebugger" (63 : Nat) ({ cls := "WovenDebugger", name := "noInstruction", desc := "(I)Z" } : Jvm.MethodName)) ∈ lw_all := lw_g (lw_at lw_m1 94 rfl) rfl
theorem q116 : (Jvm.Cond.privateMethod ({ cls := "WovenDebugger", name := "noInstruction", desc := "(I)Z" } : Jvm.MethodName)) ∈ lw_tbl := lw_at lw_m1 95 rfl
theorem q117 : (Jvm.Cond.instanceMethod ({ cls := "WovenDebugger", name := "noInstruction", desc := "(I)Z" } : Jvm.MethodName)) ∈ lw_all := lw_g (lw_at lw_m1 96 rfl) rfl
theorem q118 : (Jvm.Cond.code ({ cls := "WovenDebugger", name := "noInstruction", desc := "(I)Z" } : Jvm.MethodName) prog_1_method_2_code (2 : Nat) (Option.some Jvm.ClassFile.FieldType.boolean)) ∈ lw_all := lw_g (lw_at lw_m1 97 rfl) rfl
theorem q119 : (Jvm.Cond.methodLink "WovenDebugger" (67 : Nat) ({ cls := "WovenDebugger", name := "weave", desc := "()V" } : Jvm.MethodName)) ∈ lw_all := lw_g (lw_at lw_m1 98 rfl) rfl
theorem q120 : (Jvm.Cond.privateMethod ({ cls := "WovenDebugger", name := "weave", desc := "()V" } : Jvm.MethodName)) ∈ lw_tbl := lw_at lw_m1 99 rfl
theorem q121 : (Jvm.Cond.instanceMethod ({ cls := "WovenDebugger", name := "weave", desc := "()V" } : Jvm.MethodName)) ∈ lw_all := lw_g (lw_at lw_m1 100 rfl) rfl
theorem q122 : (Jvm.Cond.code ({ cls := "WovenDebugger", name := "weave", desc := "()V" } : Jvm.MethodName) prog_1_method_7_code (4 : Nat) (Option.none : Option Jvm.ClassFile.FieldType)) ∈ lw_all := lw_g (lw_at lw_m1 101 rfl) rfl
theorem q124 : (Jvm.Cond.instanceMethod ({ cls := "WovenDebugger", name := "setBreak", desc := "(II)I" } : Jvm.MethodName)) ∈ lw_all := lw_g (lw_at lw_m1 103 rfl) rfl
theorem q125 : (Jvm.Cond.selects "WovenDebugger" ({ cls := "WovenDebugger", name := "setBreak", desc := "(II)I" } : Jvm.MethodName) ({ cls := "WovenDebugger", name := "setBreak", desc := "(II)I" } : Jvm.MethodName)) ∈ lw_all := lw_g (lw_at lw_m1 104 rfl) rfl
theorem q126 : (Jvm.Cond.code ({ cls := "WovenDebugger", name := "setBreak", desc := "(II)I" } : Jvm.MethodName) prog_1_method_5_code (3 : Nat) (Option.some Jvm.ClassFile.FieldType.int)) ∈ lw_all := lw_g (lw_at lw_m1 105 rfl) rfl
theorem q127 : (Jvm.Cond.methodLink "WovenDebugger" (86 : Nat) ({ cls := "WovenDebugger", name := "reweave", desc := "()V" } : Jvm.MethodName)) ∈ lw_all := lw_g (lw_at lw_m1 106 rfl) rfl
theorem q128 : (Jvm.Cond.privateMethod ({ cls := "WovenDebugger", name := "reweave", desc := "()V" } : Jvm.MethodName)) ∈ lw_tbl := lw_at lw_m1 107 rfl
theorem q129 : (Jvm.Cond.instanceMethod ({ cls := "WovenDebugger", name := "reweave", desc := "()V" } : Jvm.MethodName)) ∈ lw_all := lw_g (lw_at lw_m1 108 rfl) rfl
theorem q130 : (Jvm.Cond.code ({ cls := "WovenDebugger", name := "reweave", desc := "()V" } : Jvm.MethodName) prog_1_method_8_code (2 : Nat) (Option.none : Option Jvm.ClassFile.FieldType)) ∈ lw_all := lw_g (lw_at lw_m1 109 rfl) rfl
theorem q132 : (Jvm.Cond.instanceMethod ({ cls := "WovenDebugger", name := "clearBreak", desc := "(I)I" } : Jvm.MethodName)) ∈ lw_all := lw_g (lw_at lw_m1 111 rfl) rfl
theorem q133 : (Jvm.Cond.selects "WovenDebugger" ({ cls := "WovenDebugger", name := "clearBreak", desc := "(I)I" } : Jvm.MethodName) ({ cls := "WovenDebugger", name := "clearBreak", desc := "(I)I" } : Jvm.MethodName)) ∈ lw_all := lw_g (lw_at lw_m1 112 rfl) rfl
theorem q134 : (Jvm.Cond.code ({ cls := "WovenDebugger", name := "clearBreak", desc := "(I)I" } : Jvm.MethodName) prog_1_method_6_code (2 : Nat) (Option.some Jvm.ClassFile.FieldType.int)) ∈ lw_all := lw_g (lw_at lw_m1 113 rfl) rfl
theorem q136 : (Jvm.Cond.instanceMethod ({ cls := "WovenDebugger", name := "resume", desc := "(I)I" } : Jvm.MethodName)) ∈ lw_all := lw_g (lw_at lw_m1 115 rfl) rfl
theorem q137 : (Jvm.Cond.selects "WovenDebugger" ({ cls := "WovenDebugger", name := "resume", desc := "(I)I" } : Jvm.MethodName) ({ cls := "WovenDebugger", name := "resume", desc := "(I)I" } : Jvm.MethodName)) ∈ lw_all := lw_g (lw_at lw_m1 116 rfl) rfl
theorem q138 : (Jvm.Cond.code ({ cls := "WovenDebugger", name := "resume", desc := "(I)I" } : Jvm.MethodName) prog_1_method_23_code (3 : Nat) (Option.some Jvm.ClassFile.FieldType.int)) ∈ lw_all := lw_g (lw_at lw_m1 117 rfl) rfl
theorem q139 : (Jvm.Cond.methodLink "WovenDebugger" (130 : Nat) ({ cls := "WovenDebugger", name := "notRunning", desc := "()Z" } : Jvm.MethodName)) ∈ lw_all := lw_g (lw_at lw_m1 118 rfl) rfl
theorem q140 : (Jvm.Cond.privateMethod ({ cls := "WovenDebugger", name := "notRunning", desc := "()Z" } : Jvm.MethodName)) ∈ lw_tbl := lw_at lw_m1 119 rfl
theorem q141 : (Jvm.Cond.instanceMethod ({ cls := "WovenDebugger", name := "notRunning", desc := "()Z" } : Jvm.MethodName)) ∈ lw_all := lw_g (lw_at lw_m1 120 rfl) rfl
theorem q142 : (Jvm.Cond.code ({ cls := "WovenDebugger", name := "notRunning", desc := "()Z" } : Jvm.MethodName) prog_1_method_19_code (1 : Nat) (Option.some Jvm.ClassFile.FieldType.boolean)) ∈ lw_all := lw_g (lw_at lw_m1 121 rfl) rfl
theorem q143 : (Jvm.Cond.methodLink "WovenDebugger" (134 : Nat) ({ cls := "WovenDebugger", name := "clampMax", desc := "(I)I" } : Jvm.MethodName)) ∈ lw_all := lw_g (lw_at lw_m1 122 rfl) rfl
theorem q144 : (Jvm.Cond.static ({ cls := "WovenDebugger", name := "clampMax", desc := "(I)I" } : Jvm.MethodName)) ∈ lw_all := lw_g (lw_at lw_m1 123 rfl) rfl
theorem q145 : (Jvm.Cond.code ({ cls := "WovenDebugger", name := "clampMax", desc := "(I)I" } : Jvm.MethodName) prog_1_method_20_code (1 : Nat) (Option.some Jvm.ClassFile.FieldType.int)) ∈ lw_all := lw_g (lw_at lw_m1 124 rfl) rfl
theorem q146 : (Jvm.Cond.methodLink "WovenDebugger" (123 : Nat) ({ cls := "WovenDebugger", name := "run", desc := "(I)I" } : Jvm.MethodName)) ∈ lw_all := lw_g (lw_at lw_m1 125 rfl) rfl
theorem q147 : (Jvm.Cond.privateMethod ({ cls := "WovenDebugger", name := "run", desc := "(I)I" } : Jvm.MethodName)) ∈ lw_tbl := lw_at lw_m1 126 rfl
theorem q148 : (Jvm.Cond.instanceMethod ({ cls := "WovenDebugger", name := "run", desc := "(I)I" } : Jvm.MethodName)) ∈ lw_all := lw_g (lw_at lw_m1 127 rfl) rfl
theorem q149 : (Jvm.Cond.code ({ cls := "WovenDebugger", name := "run", desc := "(I)I" } : Jvm.MethodName) prog_1_method_17_code (3 : Nat) (Option.some Jvm.ClassFile.FieldType.int)) ∈ lw_all := lw_g (lw_at lw_m1 128 rfl) rfl
theorem q150 : (Jvm.Cond.methodLink "WovenDebugger" (111 : Nat) ({ cls := "WovenDebugger", name := "perform", desc := "()V" } : Jvm.MethodName)) ∈ lw_all := lw_g (lw_at lw_m1 129 rfl) rfl
theorem q151 : (Jvm.Cond.privateMethod ({ cls := "WovenDebugger", name := "perform", desc := "()V" } : Jvm.MethodName)) ∈ lw_tbl := lw_at lw_m1 130 rfl
theorem q152 : (Jvm.Cond.instanceMethod ({ cls := "WovenDebugger", name := "perform", desc := "()V" } : Jvm.MethodName)) ∈ lw_all := lw_g (lw_at lw_m1 131 rfl) rfl
theorem q153 : (Jvm.Cond.code ({ cls := "WovenDebugger", name := "perform", desc := "()V" } : Jvm.MethodName) prog_1_method_12_code (6 : Nat) (Option.none : Option Jvm.ClassFile.FieldType)) ∈ lw_all := lw_g (lw_at lw_m1 132 rfl) rfl
theorem q154 : (Jvm.Cond.methodLink "WovenDebugger" (89 : Nat) ({ cls := "WovenDebugger", name := "base", desc := "()I" } : Jvm.MethodName)) ∈ lw_all := lw_g (lw_at lw_m1 133 rfl) rfl
theorem q155 : (Jvm.Cond.privateMethod ({ cls := "WovenDebugger", name := "base", desc := "()I" } : Jvm.MethodName)) ∈ lw_tbl := lw_at lw_m1 134 rfl
theorem q156 : (Jvm.Cond.instanceMethod ({ cls := "WovenDebugger", name := "base", desc := "()I" } : Jvm.MethodName)) ∈ lw_all := lw_g (lw_at lw_m1 135 rfl) rfl
theorem q157 : (Jvm.Cond.code ({ cls := "WovenDebugger", name := "base", desc := "()I" } : Jvm.MethodName) prog_1_method_11_code (1 : Nat) (Option.some Jvm.ClassFile.FieldType.int)) ∈ lw_all := lw_g (lw_at lw_m1 136 rfl) rfl
theorem q158 : (Jvm.Cond.methodLink "WovenDebugger" (93 : Nat) ({ cls := "WovenDebugger", name := "compute", desc := "(IIII)V" } : Jvm.MethodName)) ∈ lw_all := lw_g (lw_at lw_m1 137 rfl) rfl
theorem q159 : (Jvm.Cond.privateMethod ({ cls := "WovenDebugger", name := "compute", desc := "(IIII)V" } : Jvm.MethodName)) ∈ lw_tbl := lw_at lw_m1 138 rfl
theorem q160 : (Jvm.Cond.instanceMethod ({ cls := "WovenDebugger", name := "compute", desc := "(IIII)V" } : Jvm.MethodName)) ∈ lw_all := lw_g (lw_at lw_m1 139 rfl) rfl
theorem q161 : (Jvm.Cond.code ({ cls := "WovenDebugger", name := "compute", desc := "(IIII)V" } : Jvm.MethodName) prog_1_method_13_code (5 : Nat) (Option.none : Option Jvm.ClassFile.FieldType)) ∈ lw_all := lw_g (lw_at lw_m1 140 rfl) rfl
theorem q162 : (Jvm.Cond.methodLink "WovenDebugger" (97 : Nat) ({ cls := "WovenDebugger", name := "jump", desc := "(I)V" } : Jvm.MethodName)) ∈ lw_all := lw_g (lw_at lw_m1 141 rfl) rfl
theorem q163 : (Jvm.Cond.privateMethod ({ cls := "WovenDebugger", name := "jump", desc := "(I)V" } : Jvm.MethodName)) ∈ lw_tbl := lw_at lw_m1 142 rfl
theorem q164 : (Jvm.Cond.instanceMethod ({ cls := "WovenDebugger", name := "jump", desc := "(I)V" } : Jvm.MethodName)) ∈ lw_all := lw_g (lw_at lw_m1 143 rfl) rfl
theorem q165 : (Jvm.Cond.code ({ cls := "WovenDebugger", name := "jump", desc := "(I)V" } : Jvm.MethodName) prog_1_method_14_code (2 : Nat) (Option.none : Option Jvm.ClassFile.FieldType)) ∈ lw_all := lw_g (lw_at lw_m1 144 rfl) rfl
theorem q166 : (Jvm.Cond.methodLink "WovenDebugger" (101 : Nat) ({ cls := "WovenDebugger", name := "call", desc := "(II)V" } : Jvm.MethodName)) ∈ lw_all := lw_g (lw_at lw_m1 145 rfl) rfl
theorem q167 : (Jvm.Cond.privateMethod ({ cls := "WovenDebugger", name := "call", desc := "(II)V" } : Jvm.MethodName)) ∈ lw_tbl := lw_at lw_m1 146 rfl
theorem q168 : (Jvm.Cond.instanceMethod ({ cls := "WovenDebugger", name := "call", desc := "(II)V" } : Jvm.MethodName)) ∈ lw_all := lw_g (lw_at lw_m1 147 rfl) rfl
theorem q169 : (Jvm.Cond.code ({ cls := "WovenDebugger", name := "call", desc := "(II)V" } : Jvm.MethodName) prog_1_method_15_code (5 : Nat) (Option.none : Option Jvm.ClassFile.FieldType)) ∈ lw_all := lw_g (lw_at lw_m1 148 rfl) rfl
theorem q170 : (Jvm.Cond.methodLink "WovenDebugger" (105 : Nat) ({ cls := "WovenDebugger", name := "giveBack", desc := "()V" } : Jvm.MethodName)) ∈ lw_all := lw_g (lw_at lw_m1 149 rfl) rfl
theorem q171 : (Jvm.Cond.privateMethod ({ cls := "WovenDebugger", name := "giveBack", desc := "()V" } : Jvm.MethodName)) ∈ lw_tbl := lw_at lw_m1 150 rfl
theorem q172 : (Jvm.Cond.instanceMethod ({ cls := "WovenDebugger", name := "giveBack", desc := "()V" } : Jvm.MethodName)) ∈ lw_all := lw_g (lw_at lw_m1 151 rfl) rfl
theorem q173 : (Jvm.Cond.code ({ cls := "WovenDebugger", name := "giveBack", desc := "()V" } : Jvm.MethodName) prog_1_method_16_code (2 : Nat) (Option.none : Option Jvm.ClassFile.FieldType)) ∈ lw_all := lw_g (lw_at lw_m1 152 rfl) rfl
theorem q174 : (Jvm.Cond.methodLink "WovenDebugger" (114 : Nat) ({ cls := "WovenDebugger", name := "arrive", desc := "()V" } : Jvm.MethodName)) ∈ lw_all := lw_g (lw_at lw_m1 153 rfl) rfl
theorem q175 : (Jvm.Cond.privateMethod ({ cls := "WovenDebugger", name := "arrive", desc := "()V" } : Jvm.MethodName)) ∈ lw_tbl := lw_at lw_m1 154 rfl
theorem q176 : (Jvm.Cond.instanceMethod ({ cls := "WovenDebugger", name := "arrive", desc := "()V" } : Jvm.MethodName)) ∈ lw_all := lw_g (lw_at lw_m1 155 rfl) rfl
theorem q177 : (Jvm.Cond.code ({ cls := "WovenDebugger", name := "arrive", desc := "()V" } : Jvm.MethodName) prog_1_method_18_code (2 : Nat) (Option.none : Option Jvm.ClassFile.FieldType)) ∈ lw_all := lw_g (lw_at lw_m1 156 rfl) rfl
theorem q179 : (Jvm.Cond.instanceMethod ({ cls := "WovenDebugger", name := "stepInto", desc := "()I" } : Jvm.MethodName)) ∈ lw_all := lw_g (lw_at lw_m1 158 rfl) rfl
theorem q180 : (Jvm.Cond.selects "WovenDebugger" ({ cls := "WovenDebugger", name := "stepInto", desc := "()I" } : Jvm.MethodName) ({ cls := "WovenDebugger", name := "stepInto", desc := "()I" } : Jvm.MethodName)) ∈ lw_all := lw_g (lw_at lw_m1 159 rfl) rfl
theorem q181 : (Jvm.Cond.code ({ cls := "WovenDebugger", name := "stepInto", desc := "()I" } : Jvm.MethodName) prog_1_method_24_code (1 : Nat) (Option.some Jvm.ClassFile.FieldType.int)) ∈ lw_all := lw_g (lw_at lw_m1 160 rfl) rfl
theorem q182 : (Jvm.Cond.methodLink "WovenDebugger" (137 : Nat) ({ cls := "WovenDebugger", name := "plantNext", desc := "(Z)V" } : Jvm.MethodName)) ∈ lw_all := lw_g (lw_at lw_m1 161 rfl) rfl
theorem q183 : (Jvm.Cond.privateMethod ({ cls := "WovenDebugger", name := "plantNext", desc := "(Z)V" } : Jvm.MethodName)) ∈ lw_tbl := lw_at lw_m1 162 rfl
theorem q184 : (Jvm.Cond.instanceMethod ({ cls := "WovenDebugger", name := "plantNext", desc := "(Z)V" } : Jvm.MethodName)) ∈ lw_all := lw_g (lw_at lw_m1 163 rfl) rfl
theorem q185 : (Jvm.Cond.code ({ cls := "WovenDebugger", name := "plantNext", desc := "(Z)V" } : Jvm.MethodName) prog_1_method_21_code (4 : Nat) (Option.none : Option Jvm.ClassFile.FieldType)) ∈ lw_all := lw_g (lw_at lw_m1 164 rfl) rfl
theorem q186 : (Jvm.Cond.methodLink "WovenDebugger" (120 : Nat) ({ cls := "WovenDebugger", name := "plant", desc := "(I)V" } : Jvm.MethodName)) ∈ lw_all := lw_g (lw_at lw_m1 165 rfl) rfl
theorem q187 : (Jvm.Cond.privateMethod ({ cls := "WovenDebugger", name := "plant", desc := "(I)V" } : Jvm.MethodName)) ∈ lw_tbl := lw_at lw_m1 166 rfl
theorem q188 : (Jvm.Cond.instanceMethod ({ cls := "WovenDebugger", name := "plant", desc := "(I)V" } : Jvm.MethodName)) ∈ lw_all := lw_g (lw_at lw_m1 167 rfl) rfl
theorem q189 : (Jvm.Cond.code ({ cls := "WovenDebugger", name := "plant", desc := "(I)V" } : Jvm.MethodName) prog_1_method_9_code (3 : Nat) (Option.none : Option Jvm.ClassFile.FieldType)) ∈ lw_all := lw_g (lw_at lw_m1 168 rfl) rfl
theorem q190 : (Jvm.Cond.methodLink "WovenDebugger" (141 : Nat) ({ cls := "WovenDebugger", name := "runPlanted", desc := "(I)I" } : Jvm.MethodName)) ∈ lw_all := lw_g (lw_at lw_m1 169 rfl) rfl
theorem q191 : (Jvm.Cond.privateMethod ({ cls := "WovenDebugger", name := "runPlanted", desc := "(I)I" } : Jvm.MethodName)) ∈ lw_tbl := lw_at lw_m1 170 rfl
theorem q192 : (Jvm.Cond.instanceMethod ({ cls := "WovenDebugger", name := "runPlanted", desc := "(I)I" } : Jvm.MethodName)) ∈ lw_all := lw_g (lw_at lw_m1 171 rfl) rfl
theorem q193 : (Jvm.Cond.code ({ cls := "WovenDebugger", name := "runPlanted", desc := "(I)I" } : Jvm.MethodName) prog_1_method_22_code (3 : Nat) (Option.some Jvm.ClassFile.FieldType.int)) ∈ lw_all := lw_g (lw_at lw_m1 172 rfl) rfl
theorem q194 : (Jvm.Cond.methodLink "WovenDebugger" (127 : Nat) ({ cls := "WovenDebugger", name := "unplantAll", desc := "()V" } : Jvm.MethodName)) ∈ lw_all := lw_g (lw_at lw_m1 173 rfl) rfl
theorem q195 : (Jvm.Cond.privateMethod ({ cls := "WovenDebugger", name := "unplantAll", desc := "()V" } : Jvm.MethodName)) ∈ lw_tbl := lw_at lw_m1 174 rfl
theorem q196 : (Jvm.Cond.instanceMethod ({ cls := "WovenDebugger", name := "unplantAll", desc := "()V" } : Jvm.MethodName)) ∈ lw_all := lw_g (lw_at lw_m1 175 rfl) rfl
theorem q197 : (Jvm.Cond.code ({ cls := "WovenDebugger", name := "unplantAll", desc := "()V" } : Jvm.MethodName) prog_1_method_10_code (2 : Nat) (Option.none : Option Jvm.ClassFile.FieldType)) ∈ lw_all := lw_g (lw_at lw_m1 176 rfl) rfl
theorem q199 : (Jvm.Cond.instanceMethod ({ cls := "WovenDebugger", name := "stepOver", desc := "(I)I" } : Jvm.MethodName)) ∈ lw_all := lw_g (lw_at lw_m1 178 rfl) rfl
theorem q200 : (Jvm.Cond.selects "WovenDebugger" ({ cls := "WovenDebugger", name := "stepOver", desc := "(I)I" } : Jvm.MethodName) ({ cls := "WovenDebugger", name := "stepOver", desc := "(I)I" } : Jvm.MethodName)) ∈ lw_all := lw_g (lw_at lw_m1 179 rfl) rfl
theorem q201 : (Jvm.Cond.code ({ cls := "WovenDebugger", name := "stepOver", desc := "(I)I" } : Jvm.MethodName) prog_1_method_25_code (3 : Nat) (Option.some Jvm.ClassFile.FieldType.int)) ∈ lw_all := lw_g (lw_at lw_m1 180 rfl) rfl
theorem q203 : (Jvm.Cond.instanceMethod ({ cls := "WovenDebugger", name := "stepOut", desc := "(I)I" } : Jvm.MethodName)) ∈ lw_all := lw_g (lw_at lw_m1 182 rfl) rfl
theorem q204 : (Jvm.Cond.selects "WovenDebugger" ({ cls := "WovenDebugger", name := "stepOut", desc := "(I)I" } : Jvm.MethodName) ({ cls := "WovenDebugger", name := "stepOut", desc := "(I)I" } : Jvm.MethodName)) ∈ lw_all := lw_g (lw_at lw_m1 183 rfl) rfl
theorem q205 : (Jvm.Cond.code ({ cls := "WovenDebugger", name := "stepOut", desc := "(I)I" } : Jvm.MethodName) prog_1_method_26_code (3 : Nat) (Option.some Jvm.ClassFile.FieldType.int)) ∈ lw_all := lw_g (lw_at lw_m1 184 rfl) rfl
theorem q207 : (Jvm.Cond.instanceMethod ({ cls := "WovenDebugger", name := "setLocal", desc := "(II)I" } : Jvm.MethodName)) ∈ lw_all := lw_g (lw_at lw_m1 186 rfl) rfl
theorem q208 : (Jvm.Cond.selects "WovenDebugger" ({ cls := "WovenDebugger", name := "setLocal", desc := "(II)I" } : Jvm.MethodName) ({ cls := "WovenDebugger", name := "setLocal", desc := "(II)I" } : Jvm.MethodName)) ∈ lw_all := lw_g (lw_at lw_m1 187 rfl) rfl
theorem q209 : (Jvm.Cond.code ({ cls := "WovenDebugger", name := "setLocal", desc := "(II)I" } : Jvm.MethodName) prog_1_method_27_code (3 : Nat) (Option.some Jvm.ClassFile.FieldType.int)) ∈ lw_all := lw_g (lw_at lw_m1 188 rfl) rfl
theorem q211 : (Jvm.Cond.instanceMethod ({ cls := "WovenDebugger", name := "state", desc := "()I" } : Jvm.MethodName)) ∈ lw_all := lw_g (lw_at lw_m1 190 rfl) rfl
theorem q212 : (Jvm.Cond.selects "WovenDebugger" ({ cls := "WovenDebugger", name := "state", desc := "()I" } : Jvm.MethodName) ({ cls := "WovenDebugger", name := "state", desc := "()I" } : Jvm.MethodName)) ∈ lw_all := lw_g (lw_at lw_m1 191 rfl) rfl
theorem q213 : (Jvm.Cond.code ({ cls := "WovenDebugger", name := "state", desc := "()I" } : Jvm.MethodName) prog_1_method_28_code (1 : Nat) (Option.some Jvm.ClassFile.FieldType.int)) ∈ lw_all := lw_g (lw_at lw_m1 192 rfl) rfl
theorem q215 : (Jvm.Cond.instanceMethod ({ cls := "WovenDebugger", name := "depth", desc := "()I" } : Jvm.MethodName)) ∈ lw_all := lw_g (lw_at lw_m1 194 rfl) rfl
theorem q216 : (Jvm.Cond.selects "WovenDebugger" ({ cls := "WovenDebugger", name := "depth", desc := "()I" } : Jvm.MethodName) ({ cls := "WovenDebugger", name := "depth", desc := "()I" } : Jvm.MethodName)) ∈ lw_all := lw_g (lw_at lw_m1 195 rfl) rfl
theorem q217 : (Jvm.Cond.code ({ cls := "WovenDebugger", name := "depth", desc := "()I" } : Jvm.MethodName) prog_1_method_29_code (1 : Nat) (Option.some Jvm.ClassFile.FieldType.int)) ∈ lw_all := lw_g (lw_at lw_m1 196 rfl) rfl
theorem q219 : (Jvm.Cond.instanceMethod ({ cls := "WovenDebugger", name := "counter", desc := "(I)I" } : Jvm.MethodName)) ∈ lw_all := lw_g (lw_at lw_m1 198 rfl) rfl
theorem q220 : (Jvm.Cond.selects "WovenDebugger" ({ cls := "WovenDebugger", name := "counter", desc := "(I)I" } : Jvm.MethodName) ({ cls := "WovenDebugger", name := "counter", desc := "(I)I" } : Jvm.MethodName)) ∈ lw_all := lw_g (lw_at lw_m1 199 rfl) rfl
theorem q221 : (Jvm.Cond.code ({ cls := "WovenDebugger", name := "counter", desc := "(I)I" } : Jvm.MethodName) prog_1_method_30_code (2 : Nat) (Option.some Jvm.ClassFile.FieldType.int)) ∈ lw_all := lw_g (lw_at lw_m1 200 rfl) rfl
theorem q223 : (Jvm.Cond.instanceMethod ({ cls := "WovenDebugger", name := "local", desc := "(II)I" } : Jvm.MethodName)) ∈ lw_all := lw_g (lw_at lw_m1 202 rfl) rfl
theorem q224 : (Jvm.Cond.selects "WovenDebugger" ({ cls := "WovenDebugger", name := "local", desc := "(II)I" } : Jvm.MethodName) ({ cls := "WovenDebugger", name := "local", desc := "(II)I" } : Jvm.MethodName)) ∈ lw_all := lw_g (lw_at lw_m1 203 rfl) rfl
theorem q225 : (Jvm.Cond.code ({ cls := "WovenDebugger", name := "local", desc := "(II)I" } : Jvm.MethodName) prog_1_method_31_code (3 : Nat) (Option.some Jvm.ClassFile.FieldType.int)) ∈ lw_all := lw_g (lw_at lw_m1 204 rfl) rfl
theorem q227 : (Jvm.Cond.instanceMethod ({ cls := "WovenDebugger", name := "outputs", desc := "()I" } : Jvm.MethodName)) ∈ lw_all := lw_g (lw_at lw_m1 206 rfl) rfl
theorem q228 : (Jvm.Cond.selects "WovenDebugger" ({ cls := "WovenDebugger", name := "outputs", desc := "()I" } : Jvm.MethodName) ({ cls := "WovenDebugger", name := "outputs", desc := "()I" } : Jvm.MethodName)) ∈ lw_all := lw_g (lw_at lw_m1 207 rfl) rfl
theorem q229 : (Jvm.Cond.code ({ cls := "WovenDebugger", name := "outputs", desc := "()I" } : Jvm.MethodName) prog_1_method_32_code (1 : Nat) (Option.some Jvm.ClassFile.FieldType.int)) ∈ lw_all := lw_g (lw_at lw_m1 208 rfl) rfl
theorem q231 : (Jvm.Cond.instanceMethod ({ cls := "WovenDebugger", name := "output", desc := "(I)I" } : Jvm.MethodName)) ∈ lw_all := lw_g (lw_at lw_m1 210 rfl) rfl
theorem q232 : (Jvm.Cond.selects "WovenDebugger" ({ cls := "WovenDebugger", name := "output", desc := "(I)I" } : Jvm.MethodName) ({ cls := "WovenDebugger", name := "output", desc := "(I)I" } : Jvm.MethodName)) ∈ lw_all := lw_g (lw_at lw_m1 211 rfl) rfl
theorem q233 : (Jvm.Cond.code ({ cls := "WovenDebugger", name := "output", desc := "(I)I" } : Jvm.MethodName) prog_1_method_33_code (2 : Nat) (Option.some Jvm.ClassFile.FieldType.int)) ∈ lw_all := lw_g (lw_at lw_m1 212 rfl) rfl
theorem q235 : (Jvm.Cond.instanceMethod ({ cls := "WovenDebugger", name := "skip", desc := "(I)I" } : Jvm.MethodName)) ∈ lw_all := lw_g (lw_at lw_m1 214 rfl) rfl
theorem q236 : (Jvm.Cond.selects "WovenDebugger" ({ cls := "WovenDebugger", name := "skip", desc := "(I)I" } : Jvm.MethodName) ({ cls := "WovenDebugger", name := "skip", desc := "(I)I" } : Jvm.MethodName)) ∈ lw_all := lw_g (lw_at lw_m1 215 rfl) rfl
theorem q237 : (Jvm.Cond.code ({ cls := "WovenDebugger", name := "skip", desc := "(I)I" } : Jvm.MethodName) prog_1_method_34_code (2 : Nat) (Option.some Jvm.ClassFile.FieldType.int)) ∈ lw_all := lw_g (lw_at lw_m1 216 rfl) rfl
theorem in_X0 : ∀ w ∈ wsX00, w ∈ lw_all := lw_in wsX00 [56, 58, 60, 62, 64, 66, 68, 70, 72, 74, 76, 78, 80, 82, 84, 86, 88, 90, 92, 94, 96, 98, 100, 102] (by decide +kernel) (by decide +kernel)
/-! java/lang/Object -/
def RJ0 : String := "java/lang/Object"
abbrev cJ0_init : ByteArray := object_method_1_code
def yJ0_init : MethodName := ⟨RJ0, "<init>", "()V"⟩
theorem q30 : (Jvm.Cond.instanceMethod ({ cls := "java/lang/Object", name := "<init>", desc := "()V" } : Jvm.MethodName)) ∈ lw_all := lw_g (lw_at lw_m1 9 rfl) rfl
theorem q31 : (Jvm.Cond.code ({ cls := "java/lang/Object", name := "<init>", desc := "()V" } : Jvm.MethodName) object_method_1_code (1 : Nat) (Option.none : Option Jvm.ClassFile.FieldType)) ∈ lw_all := lw_g (lw_at lw_m1 10 rfl) rfl
theorem dJ0_init_0 : decode cJ0_init 0 = .ok (.return_, 1) := by decide +kernel
theorem q105 : (Jvm.Cond.arrayClass Jvm.ClassFile.FieldType.int) ∈ lw_all := lw_g (lw_at lw_m1 84 rfl) rfl
theorem q106 : (Jvm.Cond.arrayClass Jvm.ClassFile.FieldType.boolean) ∈ lw_all := lw_g (lw_at lw_m1 85 rfl) rfl
theorem q21 : (Jvm.Cond.initialized "WovenDebuggerLaw") ∈ lw_all := lw_g (lw_at lw_m1 0 rfl) rfl
theorem q24 : (Jvm.Cond.classLink "WovenDebuggerLaw" (7 : Nat) "WovenDebugger") ∈ lw_all := lw_g (lw_at lw_m1 3 rfl) rfl
theorem q26 : (Jvm.Cond.methodLink "WovenDebuggerLaw" (9 : Nat) ({ cls := "WovenDebugger", name := "<init>", desc := "()V" } : Jvm.MethodName)) ∈ lw_all := lw_g (lw_at lw_m1 5 rfl) rfl
theorem q107 : (Jvm.Cond.methodLink "WovenDebuggerLaw" (13 : Nat) ({ cls := "WovenDebugger", name := "emit", desc := "(III)I" } : Jvm.MethodName)) ∈ lw_all := lw_g (lw_at lw_m1 86 rfl) rfl
theorem q111 : (Jvm.Cond.methodLink "WovenDebuggerLaw" (18 : Nat) ({ cls := "WovenDebugger", name := "start", desc := "(I)I" } : Jvm.MethodName)) ∈ lw_all := lw_g (lw_at lw_m1 90 rfl) rfl
theorem q123 : (Jvm.Cond.methodLink "WovenDebuggerLaw" (23 : Nat) ({ cls := "WovenDebugger", name := "setBreak", desc := "(II)I" } : Jvm.MethodName)) ∈ lw_all := lw_g (lw_at lw_m1 102 rfl) rfl
theorem q131 : (Jvm.Cond.methodLink "WovenDebuggerLaw" (28 : Nat) ({ cls := "WovenDebugger", name := "clearBreak", desc := "(I)I" } : Jvm.MethodName)) ∈ lw_all := lw_g (lw_at lw_m1 110 rfl) rfl
theorem q135 : (Jvm.Cond.methodLink "WovenDebuggerLaw" (32 : Nat) ({ cls := "WovenDebugger", name := "resume", desc := "(I)I" } : Jvm.MethodName)) ∈ lw_all := lw_g (lw_at lw_m1 114 rfl) rfl
theorem q178 : (Jvm.Cond.methodLink "WovenDebuggerLaw" (36 : Nat) ({ cls := "WovenDebugger", name := "stepInto", desc := "()I" } : Jvm.MethodName)) ∈ lw_all := lw_g (lw_at lw_m1 157 rfl) rfl
theorem q198 : (Jvm.Cond.methodLink "WovenDebuggerLaw" (41 : Nat) ({ cls := "WovenDebugger", name := "stepOver", desc := "(I)I" } : Jvm.MethodName)) ∈ lw_all := lw_g (lw_at lw_m1 177 rfl) rfl
theorem q202 : (Jvm.Cond.methodLink "WovenDebuggerLaw" (45 : Nat) ({ cls := "WovenDebugger", name := "stepOut", desc := "(I)I" } : Jvm.MethodName)) ∈ lw_all := lw_g (lw_at lw_m1 181 rfl) rfl
theorem q206 : (Jvm.Cond.methodLink "WovenDebuggerLaw" (49 : Nat) ({ cls := "WovenDebugger", name := "setLocal", desc := "(II)I" } : Jvm.MethodName)) ∈ lw_all := lw_g (lw_at lw_m1 185 rfl) rfl
theorem q210 : (Jvm.Cond.methodLink "WovenDebuggerLaw" (53 : Nat) ({ cls := "WovenDebugger", name := "state", desc := "()I" } : Jvm.MethodName)) ∈ lw_all := lw_g (lw_at lw_m1 189 rfl) rfl
theorem q214 : (Jvm.Cond.methodLink "WovenDebuggerLaw" (57 : Nat) ({ cls := "WovenDebugger", name := "depth", desc := "()I" } : Jvm.MethodName)) ∈ lw_all := lw_g (lw_at lw_m1 193 rfl) rfl
theorem q218 : (Jvm.Cond.methodLink "WovenDebuggerLaw" (61 : Nat) ({ cls := "WovenDebugger", name := "counter", desc := "(I)I" } : Jvm.MethodName)) ∈ lw_all := lw_g (lw_at lw_m1 197 rfl) rfl
theorem q222 : (Jvm.Cond.methodLink "WovenDebuggerLaw" (65 : Nat) ({ cls := "WovenDebugger", name := "local", desc := "(II)I" } : Jvm.MethodName)) ∈ lw_all := lw_g (lw_at lw_m1 201 rfl) rfl
theorem q226 : (Jvm.Cond.methodLink "WovenDebuggerLaw" (69 : Nat) ({ cls := "WovenDebugger", name := "outputs", desc := "()I" } : Jvm.MethodName)) ∈ lw_all := lw_g (lw_at lw_m1 205 rfl) rfl
theorem q230 : (Jvm.Cond.methodLink "WovenDebuggerLaw" (73 : Nat) ({ cls := "WovenDebugger", name := "output", desc := "(I)I" } : Jvm.MethodName)) ∈ lw_all := lw_g (lw_at lw_m1 209 rfl) rfl
theorem q234 : (Jvm.Cond.methodLink "WovenDebuggerLaw" (77 : Nat) ({ cls := "WovenDebugger", name := "skip", desc := "(I)I" } : Jvm.MethodName)) ∈ lw_all := lw_g (lw_at lw_m1 213 rfl) rfl
theorem q238 : (Jvm.Cond.classLink "WovenDebuggerLaw" (10 : Nat) "WovenDebuggerModel") ∈ lw_all := lw_g (lw_at lw_m1 217 rfl) rfl
theorem q240 : (Jvm.Cond.methodLink "WovenDebuggerLaw" (12 : Nat) ({ cls := "WovenDebuggerModel", name := "<init>", desc := "()V" } : Jvm.MethodName)) ∈ lw_all := lw_g (lw_at lw_m1 219 rfl) rfl
theorem q284 : (Jvm.Cond.methodLink "WovenDebuggerLaw" (17 : Nat) ({ cls := "WovenDebuggerModel", name := "emit", desc := "(III)I" } : Jvm.MethodName)) ∈ lw_all := lw_g (lw_at lw_m2 23 rfl) rfl
theorem q288 : (Jvm.Cond.methodLink "WovenDebuggerLaw" (22 : Nat) ({ cls := "WovenDebuggerModel", name := "start", desc := "(I)I" } : Jvm.MethodName)) ∈ lw_all := lw_g (lw_at lw_m2 27 rfl) rfl
theorem q296 : (Jvm.Cond.methodLink "WovenDebuggerLaw" (27 : Nat) ({ cls := "WovenDebuggerModel", name := "setBreak", desc := "(II)I" } : Jvm.MethodName)) ∈ lw_all := lw_g (lw_at lw_m2 35 rfl) rfl
theorem q304 : (Jvm.Cond.methodLink "WovenDebuggerLaw" (31 : Nat) ({ cls := "WovenDebuggerModel", name := "clearBreak", desc := "(I)I" } : Jvm.MethodName)) ∈ lw_all := lw_g (lw_at lw_m2 43 rfl) rfl
theorem q308 : (Jvm.Cond.methodLink "WovenDebuggerLaw" (35 : Nat) ({ cls := "WovenDebuggerModel", name := "resume", desc := "(I)I" } : Jvm.MethodName)) ∈ lw_all := lw_g (lw_at lw_m2 47 rfl) rfl
theorem q324 : (Jvm.Cond.methodLink "WovenDebuggerLaw" (40 : Nat) ({ cls := "WovenDebuggerModel", name := "stepInto", desc := "()I" } : Jvm.MethodName)) ∈ lw_all := lw_g (lw_at lw_m2 63 rfl) rfl
theorem q328 : (Jvm.Cond.methodLink "WovenDebuggerLaw" (44 : Nat) ({ cls := "WovenDebuggerModel", name := "stepOver", desc := "(I)I" } : Jvm.MethodName)) ∈ lw_all := lw_g (lw_at lw_m2 67 rfl) rfl
theorem q332 : (Jvm.Cond.methodLink "WovenDebuggerLaw" (48 : Nat) ({ cls := "WovenDebuggerModel", name := "stepOut", desc := "(I)I" } : Jvm.MethodName)) ∈ lw_all := lw_g (lw_at lw_m2 71 rfl) rfl
theorem q336 : (Jvm.Cond.methodLink "WovenDebuggerLaw" (52 : Nat) ({ cls := "WovenDebuggerModel", name := "setLocal", desc := "(II)I" } : Jvm.MethodName)) ∈ lw_all := lw_g (lw_at lw_m2 75 rfl) rfl
theorem q340 : (Jvm.Cond.methodLink "WovenDebuggerLaw" (56 : Nat) ({ cls := "WovenDebuggerModel", name := "state", desc := "()I" } : Jvm.MethodName)) ∈ lw_all := lw_g (lw_at lw_m2 79 rfl) rfl
theorem q344 : (Jvm.Cond.methodLink "WovenDebuggerLaw" (60 : Nat) ({ cls := "WovenDebuggerModel", name := "depth", desc := "()I" } : Jvm.MethodName)) ∈ lw_all := lw_g (lw_at lw_m2 83 rfl) rfl
theorem q348 : (Jvm.Cond.methodLink "WovenDebuggerLaw" (64 : Nat) ({ cls := "WovenDebuggerModel", name := "counter", desc := "(I)I" } : Jvm.MethodName)) ∈ lw_all := lw_g (lw_at lw_m2 87 rfl) rfl
theorem q352 : (Jvm.Cond.methodLink "WovenDebuggerLaw" (68 : Nat) ({ cls := "WovenDebuggerModel", name := "local", desc := "(II)I" } : Jvm.MethodName)) ∈ lw_all := lw_g (lw_at lw_m2 91 rfl) rfl
theorem q356 : (Jvm.Cond.methodLink "WovenDebuggerLaw" (72 : Nat) ({ cls := "WovenDebuggerModel", name := "outputs", desc := "()I" } : Jvm.MethodName)) ∈ lw_all := lw_g (lw_at lw_m2 95 rfl) rfl
theorem q360 : (Jvm.Cond.methodLink "WovenDebuggerLaw" (76 : Nat) ({ cls := "WovenDebuggerModel", name := "output", desc := "(I)I" } : Jvm.MethodName)) ∈ lw_all := lw_g (lw_at lw_m2 99 rfl) rfl
theorem q364 : (Jvm.Cond.methodLink "WovenDebuggerLaw" (80 : Nat) ({ cls := "WovenDebuggerModel", name := "skip", desc := "(I)I" } : Jvm.MethodName)) ∈ lw_all := lw_g (lw_at lw_m2 103 rfl) rfl
end
section
set_option maxRecDepth 100000
theorem dX0_init_0 : decode cX0_init 0 = .ok (.aload_n 0, 1) := by decide +kernel
theorem dX0_init_1 : decode cX0_init 1 = .ok (.invokespecial 1, 3) := by decide +kernel
theorem dX0_init_4 : decode cX0_init 4 = .ok (.aload_n 0, 1) := by decide +kernel
theorem dX0_init_5 : decode cX0_init 5 = .ok (.bipush 20, 2) := by decide +kernel
theorem dX0_init_7 : decode cX0_init 7 = .ok (.newarray .int, 2) := by decide +kernel
theorem dX0_init_9 : decode cX0_init 9 = .ok (.putfield 7, 3) := by decide +kernel
theorem dX0_init_12 : decode cX0_init 12 = .ok (.aload_n 0, 1) := by decide +kernel
theorem dX0_init_13 : decode cX0_init 13 = .ok (.bipush 20, 2) := by decide +kernel
theorem dX0_init_15 : decode cX0_init 15 = .ok (.newarray .int, 2) := by decide +kernel
theorem dX0_init_17 : decode cX0_init 17 = .ok (.putfield 13, 3) := by decide +kernel
theorem dX0_init_20 : decode cX0_init 20 = .ok (.aload_n 0, 1) := by decide +kernel
theorem dX0_init_21 : decode cX0_init 21 = .ok (.bipush 20, 2) := by decide +kernel
theorem dX0_init_23 : decode cX0_init 23 = .ok (.newarray .int, 2) := by decide +kernel
theorem dX0_init_25 : decode cX0_init 25 = .ok (.putfield 16, 3) := by decide +kernel
theorem dX0_init_28 : decode cX0_init 28 = .ok (.aload_n 0, 1) := by decide +kernel
theorem dX0_init_29 : decode cX0_init 29 = .ok (.bipush 20, 2) := by decide +kernel
theorem dX0_init_31 : decode cX0_init 31 = .ok (.newarray .boolean, 2) := by decide +kernel
theorem dX0_init_33 : decode cX0_init 33 = .ok (.putfield 19, 3) := by decide +kernel
theorem dX0_init_36 : decode cX0_init 36 = .ok (.aload_n 0, 1) := by decide +kernel
theorem dX0_init_37 : decode cX0_init 37 = .ok (.bipush 20, 2) := by decide +kernel
theorem dX0_init_39 : decode cX0_init 39 = .ok (.newarray .int, 2) := by decide +kernel
theorem dX0_init_41 : decode cX0_init 41 = .ok (.putfield 23, 3) := by decide +kernel
theorem dX0_init_44 : decode cX0_init 44 = .ok (.aload_n 0, 1) := by decide +kernel
theorem dX0_init_45 : decode cX0_init 45 = .ok (.bipush 20, 2) := by decide +kernel
theorem dX0_init_47 : decode cX0_init 47 = .ok (.newarray .boolean, 2) := by decide +kernel
theorem dX0_init_49 : decode cX0_init 49 = .ok (.putfield 26, 3) := by decide +kernel
theorem dX0_init_52 : decode cX0_init 52 = .ok (.aload_n 0, 1) := by decide +kernel
theorem dX0_init_53 : decode cX0_init 53 = .ok (.bipush 48, 2) := by decide +kernel
theorem dX0_init_55 : decode cX0_init 55 = .ok (.newarray .int, 2) := by decide +kernel
theorem dX0_init_57 : decode cX0_init 57 = .ok (.putfield 29, 3) := by decide +kernel
theorem dX0_init_60 : decode cX0_init 60 = .ok (.aload_n 0, 1) := by decide +kernel
theorem dX0_init_61 : decode cX0_init 61 = .ok (.bipush 48, 2) := by decide +kernel
theorem dX0_init_63 : decode cX0_init 63 = .ok (.newarray .int, 2) := by decide +kernel
theorem dX0_init_65 : decode cX0_init 65 = .ok (.putfield 32, 3) := by decide +kernel
theorem dX0_init_68 : decode cX0_init 68 = .ok (.aload_n 0, 1) := by decide +kernel
theorem dX0_init_69 : decode cX0_init 69 = .ok (.bipush 48, 2) := by decide +kernel
theorem dX0_init_71 : decode cX0_init 71 = .ok (.newarray .int, 2) := by decide +kernel
theorem dX0_init_73 : decode cX0_init 73 = .ok (.putfield 35, 3) := by decide +kernel
theorem dX0_init_76 : decode cX0_init 76 = .ok (.aload_n 0, 1) := by decide +kernel
theorem dX0_init_77 : decode cX0_init 77 = .ok (.bipush 21, 2) := by decide +kernel
theorem dX0_init_79 : decode cX0_init 79 = .ok (.newarray .int, 2) := by decide +kernel
theorem dX0_init_81 : decode cX0_init 81 = .ok (.putfield 38, 3) := by decide +kernel
theorem dX0_init_84 : decode cX0_init 84 = .ok (.aload_n 0, 1) := by decide +kernel
theorem dX0_init_85 : decode cX0_init 85 = .ok (.bipush 21, 2) := by decide +kernel
theorem dX0_init_87 : decode cX0_init 87 = .ok (.newarray .int, 2) := by decide +kernel
theorem dX0_init_89 : decode cX0_init 89 = .ok (.putfield 41, 3) := by decide +kernel
theorem dX0_init_92 : decode cX0_init 92 = .ok (.aload_n 0, 1) := by decide +kernel
theorem dX0_init_93 : decode cX0_init 93 = .ok (.bipush 24, 2) := by decide +kernel
theorem dX0_init_95 : decode cX0_init 95 = .ok (.newarray .int, 2) := by decide +kernel
theorem dX0_init_97 : decode cX0_init 97 = .ok (.putfield 44, 3) := by decide +kernel
theorem dX0_init_100 : decode cX0_init 100 = .ok (.aload_n 0, 1) := by decide +kernel
theorem dX0_init_101 : decode cX0_init 101 = .ok (.bipush 6, 2) := by decide +kernel
theorem dX0_init_103 : decode cX0_init 103 = .ok (.newarray .int, 2) := by decide +kernel
theorem dX0_init_105 : decode cX0_init 105 = .ok (.putfield 47, 3) := by decide +kernel
theorem dX0_init_108 : decode cX0_init 108 = .ok (.aload_n 0, 1) := by decide +kernel
theorem dX0_init_109 : decode cX0_init 109 = .ok (.bipush 6, 2) := by decide +kernel
theorem dX0_init_111 : decode cX0_init 111 = .ok (.newarray .int, 2) := by decide +kernel
theorem dX0_init_113 : decode cX0_init 113 = .ok (.putfield 50, 3) := by decide +kernel
theorem dX0_init_116 : decode cX0_init 116 = .ok (.aload_n 0, 1) := by decide +kernel
theorem dX0_init_117 : decode cX0_init 117 = .ok (.bipush 8, 2) := by decide +kernel
theorem dX0_init_119 : decode cX0_init 119 = .ok (.newarray .int, 2) := by decide +kernel
theorem dX0_init_121 : decode cX0_init 121 = .ok (.putfield 53, 3) := by decide +kernel
theorem dX0_init_124 : decode cX0_init 124 = .ok (.aload_n 0, 1) := by decide +kernel
theorem dX0_init_125 : decode cX0_init 125 = .ok (.iconst 0, 1) := by decide +kernel
theorem dX0_init_126 : decode cX0_init 126 = .ok (.putfield 56, 3) := by decide +kernel
theorem dX0_init_129 : decode cX0_init 129 = .ok (.return_, 1) := by decide +kernel
theorem dX0_emit_0 : decode cX0_emit 0 = .ok (.iload_n 1, 1) := by decide +kernel
theorem dX0_emit_1 : decode cX0_emit 1 = .ok (.ifCond .lt 9, 3) := by decide +kernel
theorem dX0_emit_4 : decode cX0_emit 4 = .ok (.iload_n 1, 1) := by decide +kernel
theorem dX0_emit_5 : decode cX0_emit 5 = .ok (.bipush 10, 2) := by decide +kernel
theorem dX0_emit_7 : decode cX0_emit 7 = .ok (.if_icmp .le 5, 3) := by decide +kernel
theorem dX0_emit_10 : decode cX0_emit 10 = .ok (.iconst (-1), 1) := by decide +kernel
theorem dX0_emit_11 : decode cX0_emit 11 = .ok (.ireturn, 1) := by decide +kernel
theorem dX0_emit_12 : decode cX0_emit 12 = .ok (.aload_n 0, 1) := by decide +kernel
theorem dX0_emit_13 : decode cX0_emit 13 = .ok (.getfield 60, 3) := by decide +kernel
theorem dX0_emit_16 : decode cX0_emit 16 = .ok (.bipush 20, 2) := by decide +kernel
theorem dX0_emit_18 : decode cX0_emit 18 = .ok (.if_icmp .lt 6, 3) := by decide +kernel
theorem dX0_emit_21 : decode cX0_emit 21 = .ok (.bipush (-2), 2) := by decide +kernel
theorem dX0_emit_23 : decode cX0_emit 23 = .ok (.ireturn, 1) := by decide +kernel
theorem dX0_emit_24 : decode cX0_emit 24 = .ok (.aload_n 0, 1) := by decide +kernel
theorem dX0_emit_25 : decode cX0_emit 25 = .ok (.getfield 56, 3) := by decide +kernel
theorem dX0_emit_28 : decode cX0_emit 28 = .ok (.ifCond .eq 6, 3) := by decide +kernel
theorem dX0_emit_31 : decode cX0_emit 31 = .ok (.bipush (-3), 2) := by decide +kernel
theorem dX0_emit_33 : decode cX0_emit 33 = .ok (.ireturn, 1) := by decide +kernel
theorem dX0_emit_34 : decode cX0_emit 34 = .ok (.aload_n 0, 1) := by decide +kernel
theorem dX0_emit_35 : decode cX0_emit 35 = .ok (.getfield 60, 3) := by decide +kernel
theorem dX0_emit_38 : decode cX0_emit 38 = .ok (.istore 4, 2) := by decide +kernel
theorem dX0_emit_40 : decode cX0_emit 40 = .ok (.aload_n 0, 1) := by decide +kernel
theorem dX0_emit_41 : decode cX0_emit 41 = .ok (.getfield 7, 3) := by decide +kernel
theorem dX0_emit_44 : decode cX0_emit 44 = .ok (.iload 4, 2) := by decide +kernel
theorem dX0_emit_46 : decode cX0_emit 46 = .ok (.iload_n 1, 1) := by decide +kernel
theorem dX0_emit_47 : decode cX0_emit 47 = .ok (.iastore, 1) := by decide +kernel
theorem dX0_emit_48 : decode cX0_emit 48 = .ok (.aload_n 0, 1) := by decide +kernel
theorem dX0_emit_49 : decode cX0_emit 49 = .ok (.getfield 13, 3) := by decide +kernel
theorem dX0_emit_52 : decode cX0_emit 52 = .ok (.iload 4, 2) := by decide +kernel
theorem dX0_emit_54 : decode cX0_emit 54 = .ok (.iload_n 2, 1) := by decide +kernel
theorem dX0_emit_55 : decode cX0_emit 55 = .ok (.iastore, 1) := by decide +kernel
theorem dX0_emit_56 : decode cX0_emit 56 = .ok (.aload_n 0, 1) := by decide +kernel
theorem dX0_emit_57 : decode cX0_emit 57 = .ok (.getfield 16, 3) := by decide +kernel
theorem dX0_emit_60 : decode cX0_emit 60 = .ok (.iload 4, 2) := by decide +kernel
theorem dX0_emit_62 : decode cX0_emit 62 = .ok (.iload_n 3, 1) := by decide +kernel
theorem dX0_emit_63 : decode cX0_emit 63 = .ok (.iastore, 1) := by decide +kernel
theorem dX0_emit_64 : decode cX0_emit 64 = .ok (.aload_n 0, 1) := by decide +kernel
theorem dX0_emit_65 : decode cX0_emit 65 = .ok (.dup, 1) := by decide +kernel
theorem dX0_emit_66 : decode cX0_emit 66 = .ok (.getfield 60, 3) := by decide +kernel
theorem dX0_emit_69 : decode cX0_emit 69 = .ok (.iconst 1, 1) := by decide +kernel
theorem dX0_emit_70 : decode cX0_emit 70 = .ok (.iadd, 1) := by decide +kernel
theorem dX0_emit_71 : decode cX0_emit 71 = .ok (.putfield 60, 3) := by decide +kernel
theorem dX0_emit_74 : decode cX0_emit 74 = .ok (.iload 4, 2) := by decide +kernel
theorem dX0_emit_76 : decode cX0_emit 76 = .ok (.ireturn, 1) := by decide +kernel
theorem dX0_start_0 : decode cX0_start 0 = .ok (.aload_n 0, 1) := by decide +kernel
theorem dX0_start_1 : decode cX0_start 1 = .ok (.iload_n 1, 1) := by decide +kernel
theorem dX0_start_2 : decode cX0_start 2 = .ok (.invokevirtual 63, 3) := by decide +kernel
theorem dX0_start_5 : decode cX0_start 5 = .ok (.ifCond .eq 6, 3) := by decide +kernel
theorem dX0_start_8 : decode cX0_start 8 = .ok (.bipush (-3), 2) := by decide +kernel
theorem dX0_start_10 : decode cX0_start 10 = .ok (.ireturn, 1) := by decide +kernel
theorem dX0_start_11 : decode cX0_start 11 = .ok (.aload_n 0, 1) := by decide +kernel
theorem dX0_start_12 : decode cX0_start 12 = .ok (.invokevirtual 67, 3) := by decide +kernel
theorem dX0_start_15 : decode cX0_start 15 = .ok (.aload_n 0, 1) := by decide +kernel
theorem dX0_start_16 : decode cX0_start 16 = .ok (.iconst 1, 1) := by decide +kernel
theorem dX0_start_17 : decode cX0_start 17 = .ok (.putfield 70, 3) := by decide +kernel
theorem dX0_start_20 : decode cX0_start 20 = .ok (.iconst 0, 1) := by decide +kernel
theorem dX0_start_21 : decode cX0_start 21 = .ok (.istore_n 2, 1) := by decide +kernel
theorem dX0_start_22 : decode cX0_start 22 = .ok (.iload_n 2, 1) := by decide +kernel
theorem dX0_start_23 : decode cX0_start 23 = .ok (.iconst 4, 1) := by decide +kernel
theorem dX0_start_24 : decode cX0_start 24 = .ok (.if_icmp .ge 16, 3) := by decide +kernel
theorem dX0_start_27 : decode cX0_start 27 = .ok (.aload_n 0, 1) := by decide +kernel
theorem dX0_start_28 : decode cX0_start 28 = .ok (.getfield 44, 3) := by decide +kernel
theorem dX0_start_31 : decode cX0_start 31 = .ok (.iload_n 2, 1) := by decide +kernel
theorem dX0_start_32 : decode cX0_start 32 = .ok (.iconst 0, 1) := by decide +kernel
theorem dX0_start_33 : decode cX0_start 33 = .ok (.iastore, 1) := by decide +kernel
theorem dX0_start_34 : decode cX0_start 34 = .ok (.iinc 2 1, 3) := by decide +kernel
theorem dX0_start_37 : decode cX0_start 37 = .ok (.goto (-15), 3) := by decide +kernel
theorem dX0_start_40 : decode cX0_start 40 = .ok (.aload_n 0, 1) := by decide +kernel
theorem dX0_start_41 : decode cX0_start 41 = .ok (.aload_n 0, 1) := by decide +kernel
theorem dX0_start_42 : decode cX0_start 42 = .ok (.getfield 38, 3) := by decide +kernel
theorem dX0_start_45 : decode cX0_start 45 = .ok (.iload_n 1, 1) := by decide +kernel
theorem dX0_start_46 : decode cX0_start 46 = .ok (.iaload, 1) := by decide +kernel
theorem dX0_start_47 : decode cX0_start 47 = .ok (.putfield 73, 3) := by decide +kernel
theorem dX0_start_50 : decode cX0_start 50 = .ok (.aload_n 0, 1) := by decide +kernel
theorem dX0_start_51 : decode cX0_start 51 = .ok (.iconst 0, 1) := by decide +kernel
theorem dX0_start_52 : decode cX0_start 52 = .ok (.putfield 76, 3) := by decide +kernel
theorem dX0_start_55 : decode cX0_start 55 = .ok (.aload_n 0, 1) := by decide +kernel
theorem dX0_start_56 : decode cX0_start 56 = .ok (.iconst 0, 1) := by decide +kernel
theorem dX0_start_57 : decode cX0_start 57 = .ok (.putfield 80, 3) := by decide +kernel
theorem dX0_start_60 : decode cX0_start 60 = .ok (.aload_n 0, 1) := by decide +kernel
theorem dX0_start_61 : decode cX0_start 61 = .ok (.iconst 1, 1) := by decide +kernel
theorem dX0_start_62 : decode cX0_start 62 = .ok (.putfield 56, 3) := by decide +kernel
theorem dX0_start_65 : decode cX0_start 65 = .ok (.iconst 0, 1) := by decide +kernel
theorem dX0_start_66 : decode cX0_start 66 = .ok (.ireturn, 1) := by decide +kernel
theorem dX0_noInstruction_0 : decode cX0_noInstruction 0 = .ok (.iload_n 1, 1) := by decide +kernel
theorem dX0_noInstruction_1 : decode cX0_noInstruction 1 = .ok (.ifCond .lt 11, 3) := by decide +kernel
theorem dX0_noInstruction_4 : decode cX0_noInstruction 4 = .ok (.iload_n 1, 1) := by decide +kernel
theorem dX0_noInstruction_5 : decode cX0_noInstruction 5 = .ok (.aload_n 0, 1) := by decide +kernel
theorem dX0_noInstruction_6 : decode cX0_noInstruction 6 = .ok (.getfield 60, 3) := by decide +kernel
theorem dX0_noInstruction_9 : decode cX0_noInstruction 9 = .ok (.if_icmp .lt 7, 3) := by decide +kernel
theorem dX0_noInstruction_12 : decode cX0_noInstruction 12 = .ok (.iconst 1, 1) := by decide +kernel
theorem dX0_noInstruction_13 : decode cX0_noInstruction 13 = .ok (.goto 4, 3) := by decide +kernel
theorem dX0_noInstruction_16 : decode cX0_noInstruction 16 = .ok (.iconst 0, 1) := by decide +kernel
theorem dX0_noInstruction_17 : decode cX0_noInstruction 17 = .ok (.ireturn, 1) := by decide +kernel
theorem dX0_weave_0 : decode cX0_weave 0 = .ok (.iconst 0, 1) := by decide +kernel
theorem dX0_weave_1 : decode cX0_weave 1 = .ok (.istore_n 1, 1) := by decide +kernel
theorem dX0_weave_2 : decode cX0_weave 2 = .ok (.iconst 0, 1) := by decide +kernel
theorem dX0_weave_3 : decode cX0_weave 3 = .ok (.istore_n 2, 1) := by decide +kernel
theorem dX0_weave_4 : decode cX0_weave 4 = .ok (.iload_n 2, 1) := by decide +kernel
theorem dX0_weave_5 : decode cX0_weave 5 = .ok (.aload_n 0, 1) := by decide +kernel
theorem dX0_weave_6 : decode cX0_weave 6 = .ok (.getfield 60, 3) := by decide +kernel
theorem dX0_weave_9 : decode cX0_weave 9 = .ok (.if_icmp .ge 81, 3) := by decide +kernel
theorem dX0_weave_12 : decode cX0_weave 12 = .ok (.aload_n 0, 1) := by decide +kernel
theorem dX0_weave_13 : decode cX0_weave 13 = .ok (.getfield 38, 3) := by decide +kernel
theorem dX0_weave_16 : decode cX0_weave 16 = .ok (.iload_n 2, 1) := by decide +kernel
theorem dX0_weave_17 : decode cX0_weave 17 = .ok (.iload_n 1, 1) := by decide +kernel
theorem dX0_weave_18 : decode cX0_weave 18 = .ok (.iastore, 1) := by decide +kernel
theorem dX0_weave_19 : decode cX0_weave 19 = .ok (.aload_n 0, 1) := by decide +kernel
theorem dX0_weave_20 : decode cX0_weave 20 = .ok (.getfield 19, 3) := by decide +kernel
theorem dX0_weave_23 : decode cX0_weave 23 = .ok (.iload_n 2, 1) := by decide +kernel
theorem dX0_weave_24 : decode cX0_weave 24 = .ok (.baload, 1) := by decide +kernel
theorem dX0_weave_25 : decode cX0_weave 25 = .ok (.ifCond .ne 12, 3) := by decide +kernel
theorem dX0_weave_28 : decode cX0_weave 28 = .ok (.aload_n 0, 1) := by decide +kernel
theorem dX0_weave_29 : decode cX0_weave 29 = .ok (.getfield 26, 3) := by decide +kernel
theorem dX0_weave_32 : decode cX0_weave 32 = .ok (.iload_n 2, 1) := by decide +kernel
theorem dX0_weave_33 : decode cX0_weave 33 = .ok (.baload, 1) := by decide +kernel
theorem dX0_weave_34 : decode cX0_weave 34 = .ok (.ifCond .eq 21, 3) := by decide +kernel
theorem dX0_weave_37 : decode cX0_weave 37 = .ok (.aload_n 0, 1) := by decide +kernel
theorem dX0_weave_38 : decode cX0_weave 38 = .ok (.getfield 29, 3) := by decide +kernel
theorem dX0_weave_41 : decode cX0_weave 41 = .ok (.iload_n 1, 1) := by decide +kernel
theorem dX0_weave_42 : decode cX0_weave 42 = .ok (.bipush 11, 2) := by decide +kernel
theorem dX0_weave_44 : decode cX0_weave 44 = .ok (.iastore, 1) := by decide +kernel
theorem dX0_weave_45 : decode cX0_weave 45 = .ok (.aload_n 0, 1) := by decide +kernel
theorem dX0_weave_46 : decode cX0_weave 46 = .ok (.getfield 32, 3) := by decide +kernel
theorem dX0_weave_49 : decode cX0_weave 49 = .ok (.iload_n 1, 1) := by decide +kernel
theorem dX0_weave_50 : decode cX0_weave 50 = .ok (.iload_n 2, 1) := by decide +kernel
theorem dX0_weave_51 : decode cX0_weave 51 = .ok (.iastore, 1) := by decide +kernel
theorem dX0_weave_52 : decode cX0_weave 52 = .ok (.iinc 1 1, 3) := by decide +kernel
theorem dX0_weave_55 : decode cX0_weave 55 = .ok (.aload_n 0, 1) := by decide +kernel
theorem dX0_weave_56 : decode cX0_weave 56 = .ok (.getfield 41, 3) := by decide +kernel
theorem dX0_weave_59 : decode cX0_weave 59 = .ok (.iload_n 2, 1) := by decide +kernel
theorem dX0_weave_60 : decode cX0_weave 60 = .ok (.iload_n 1, 1) := by decide +kernel
theorem dX0_weave_61 : decode cX0_weave 61 = .ok (.iastore, 1) := by decide +kernel
theorem dX0_weave_62 : decode cX0_weave 62 = .ok (.aload_n 0, 1) := by decide +kernel
theorem dX0_weave_63 : decode cX0_weave 63 = .ok (.getfield 29, 3) := by decide +kernel
theorem dX0_weave_66 : decode cX0_weave 66 = .ok (.iload_n 1, 1) := by decide +kernel
theorem dX0_weave_67 : decode cX0_weave 67 = .ok (.aload_n 0, 1) := by decide +kernel
theorem dX0_weave_68 : decode cX0_weave 68 = .ok (.getfield 7, 3) := by decide +kernel
theorem dX0_weave_71 : decode cX0_weave 71 = .ok (.iload_n 2, 1) := by decide +kernel
theorem dX0_weave_72 : decode cX0_weave 72 = .ok (.iaload, 1) := by decide +kernel
theorem dX0_weave_73 : decode cX0_weave 73 = .ok (.iastore, 1) := by decide +kernel
theorem dX0_weave_74 : decode cX0_weave 74 = .ok (.aload_n 0, 1) := by decide +kernel
theorem dX0_weave_75 : decode cX0_weave 75 = .ok (.getfield 32, 3) := by decide +kernel
theorem dX0_weave_78 : decode cX0_weave 78 = .ok (.iload_n 1, 1) := by decide +kernel
theorem dX0_weave_79 : decode cX0_weave 79 = .ok (.iload_n 2, 1) := by decide +kernel
theorem dX0_weave_80 : decode cX0_weave 80 = .ok (.iastore, 1) := by decide +kernel
theorem dX0_weave_81 : decode cX0_weave 81 = .ok (.iinc 1 1, 3) := by decide +kernel
theorem dX0_weave_84 : decode cX0_weave 84 = .ok (.iinc 2 1, 3) := by decide +kernel
theorem dX0_weave_87 : decode cX0_weave 87 = .ok (.goto (-83), 3) := by decide +kernel
theorem dX0_weave_90 : decode cX0_weave 90 = .ok (.aload_n 0, 1) := by decide +kernel
theorem dX0_weave_91 : decode cX0_weave 91 = .ok (.getfield 38, 3) := by decide +kernel
theorem dX0_weave_94 : decode cX0_weave 94 = .ok (.aload_n 0, 1) := by decide +kernel
theorem dX0_weave_95 : decode cX0_weave 95 = .ok (.getfield 60, 3) := by decide +kernel
theorem dX0_weave_98 : decode cX0_weave 98 = .ok (.iload_n 1, 1) := by decide +kernel
theorem dX0_weave_99 : decode cX0_weave 99 = .ok (.iastore, 1) := by decide +kernel
theorem dX0_weave_100 : decode cX0_weave 100 = .ok (.aload_n 0, 1) := by decide +kernel
theorem dX0_weave_101 : decode cX0_weave 101 = .ok (.getfield 41, 3) := by decide +kernel
theorem dX0_weave_104 : decode cX0_weave 104 = .ok (.aload_n 0, 1) := by decide +kernel
theorem dX0_weave_105 : decode cX0_weave 105 = .ok (.getfield 60, 3) := by decide +kernel
theorem dX0_weave_108 : decode cX0_weave 108 = .ok (.iload_n 1, 1) := by decide +kernel
theorem dX0_weave_109 : decode cX0_weave 109 = .ok (.iastore, 1) := by decide +kernel
theorem dX0_weave_110 : decode cX0_weave 110 = .ok (.aload_n 0, 1) := by decide +kernel
theorem dX0_weave_111 : decode cX0_weave 111 = .ok (.getfield 29, 3) := by decide +kernel
theorem dX0_weave_114 : decode cX0_weave 114 = .ok (.iload_n 1, 1) := by decide +kernel
theorem dX0_weave_115 : decode cX0_weave 115 = .ok (.bipush 12, 2) := by decide +kernel
theorem dX0_weave_117 : decode cX0_weave 117 = .ok (.iastore, 1) := by decide +kernel
theorem dX0_weave_118 : decode cX0_weave 118 = .ok (.aload_n 0, 1) := by decide +kernel
theorem dX0_weave_119 : decode cX0_weave 119 = .ok (.getfield 32, 3) := by decide +kernel
theorem dX0_weave_122 : decode cX0_weave 122 = .ok (.iload_n 1, 1) := by decide +kernel
theorem dX0_weave_123 : decode cX0_weave 123 = .ok (.aload_n 0, 1) := by decide +kernel
theorem dX0_weave_124 : decode cX0_weave 124 = .ok (.getfield 60, 3) := by decide +kernel
theorem dX0_weave_127 : decode cX0_weave 127 = .ok (.iastore, 1) := by decide +kernel
theorem dX0_weave_128 : decode cX0_weave 128 = .ok (.iconst 0, 1) := by decide +kernel
theorem dX0_weave_129 : decode cX0_weave 129 = .ok (.istore_n 2, 1) := by decide +kernel
theorem dX0_weave_130 : decode cX0_weave 130 = .ok (.iload_n 2, 1) := by decide +kernel
theorem dX0_weave_131 : decode cX0_weave 131 = .ok (.aload_n 0, 1) := by decide +kernel
theorem dX0_weave_132 : decode cX0_weave 132 = .ok (.getfield 60, 3) := by decide +kernel
theorem dX0_weave_135 : decode cX0_weave 135 = .ok (.if_icmp .ge 50, 3) := by decide +kernel
theorem dX0_weave_138 : decode cX0_weave 138 = .ok (.aload_n 0, 1) := by decide +kernel
theorem dX0_weave_139 : decode cX0_weave 139 = .ok (.aload_n 0, 1) := by decide +kernel
theorem dX0_weave_140 : decode cX0_weave 140 = .ok (.getfield 16, 3) := by decide +kernel
theorem dX0_weave_143 : decode cX0_weave 143 = .ok (.iload_n 2, 1) := by decide +kernel
theorem dX0_weave_144 : decode cX0_weave 144 = .ok (.iaload, 1) := by decide +kernel
theorem dX0_weave_145 : decode cX0_weave 145 = .ok (.invokevirtual 63, 3) := by decide +kernel
theorem dX0_weave_148 : decode cX0_weave 148 = .ok (.istore_n 3, 1) := by decide +kernel
theorem dX0_weave_149 : decode cX0_weave 149 = .ok (.aload_n 0, 1) := by decide +kernel
theorem dX0_weave_150 : decode cX0_weave 150 = .ok (.getfield 35, 3) := by decide +kernel
theorem dX0_weave_153 : decode cX0_weave 153 = .ok (.aload_n 0, 1) := by decide +kernel
theorem dX0_weave_154 : decode cX0_weave 154 = .ok (.getfield 41, 3) := by decide +kernel
theorem dX0_weave_157 : decode cX0_weave 157 = .ok (.iload_n 2, 1) := by decide +kernel
theorem dX0_weave_158 : decode cX0_weave 158 = .ok (.iaload, 1) := by decide +kernel
theorem dX0_weave_159 : decode cX0_weave 159 = .ok (.iload_n 3, 1) := by decide +kernel
theorem dX0_weave_160 : decode cX0_weave 160 = .ok (.ifCond .eq 7, 3) := by decide +kernel
theorem dX0_weave_163 : decode cX0_weave 163 = .ok (.iconst (-1), 1) := by decide +kernel
theorem dX0_weave_164 : decode cX0_weave 164 = .ok (.goto 14, 3) := by decide +kernel
theorem dX0_weave_167 : decode cX0_weave 167 = .ok (.aload_n 0, 1) := by decide +kernel
theorem dX0_weave_168 : decode cX0_weave 168 = .ok (.getfield 38, 3) := by decide +kernel
theorem dX0_weave_171 : decode cX0_weave 171 = .ok (.aload_n 0, 1) := by decide +kernel
theorem dX0_weave_172 : decode cX0_weave 172 = .ok (.getfield 16, 3) := by decide +kernel
theorem dX0_weave_175 : decode cX0_weave 175 = .ok (.iload_n 2, 1) := by decide +kernel
theorem dX0_weave_176 : decode cX0_weave 176 = .ok (.iaload, 1) := by decide +kernel
theorem dX0_weave_177 : decode cX0_weave 177 = .ok (.iaload, 1) := by decide +kernel
theorem dX0_weave_178 : decode cX0_weave 178 = .ok (.iastore, 1) := by decide +kernel
theorem dX0_weave_179 : decode cX0_weave 179 = .ok (.iinc 2 1, 3) := by decide +kernel
theorem dX0_weave_182 : decode cX0_weave 182 = .ok (.goto (-52), 3) := by decide +kernel
theorem dX0_weave_185 : decode cX0_weave 185 = .ok (.return_, 1) := by decide +kernel
theorem dX0_setBreak_0 : decode cX0_setBreak 0 = .ok (.aload_n 0, 1) := by decide +kernel
theorem dX0_setBreak_1 : decode cX0_setBreak 1 = .ok (.iload_n 1, 1) := by decide +kernel
theorem dX0_setBreak_2 : decode cX0_setBreak 2 = .ok (.invokevirtual 63, 3) := by decide +kernel
theorem dX0_setBreak_5 : decode cX0_setBreak 5 = .ok (.ifCond .eq 6, 3) := by decide +kernel
theorem dX0_setBreak_8 : decode cX0_setBreak 8 = .ok (.bipush (-3), 2) := by decide +kernel
theorem dX0_setBreak_10 : decode cX0_setBreak 10 = .ok (.ireturn, 1) := by decide +kernel
theorem dX0_setBreak_11 : decode cX0_setBreak 11 = .ok (.iload_n 2, 1) := by decide +kernel
theorem dX0_setBreak_12 : decode cX0_setBreak 12 = .ok (.ifCond .lt 9, 3) := by decide +kernel
theorem dX0_setBreak_15 : decode cX0_setBreak 15 = .ok (.iload_n 2, 1) := by decide +kernel
theorem dX0_setBreak_16 : decode cX0_setBreak 16 = .ok (.bipush 100, 2) := by decide +kernel
theorem dX0_setBreak_18 : decode cX0_setBreak 18 = .ok (.if_icmp .le 5, 3) := by decide +kernel
theorem dX0_setBreak_21 : decode cX0_setBreak 21 = .ok (.iconst (-1), 1) := by decide +kernel
theorem dX0_setBreak_22 : decode cX0_setBreak 22 = .ok (.ireturn, 1) := by decide +kernel
theorem dX0_setBreak_23 : decode cX0_setBreak 23 = .ok (.aload_n 0, 1) := by decide +kernel
theorem dX0_setBreak_24 : decode cX0_setBreak 24 = .ok (.getfield 19, 3) := by decide +kernel
theorem dX0_setBreak_27 : decode cX0_setBreak 27 = .ok (.iload_n 1, 1) := by decide +kernel
theorem dX0_setBreak_28 : decode cX0_setBreak 28 = .ok (.baload, 1) := by decide +kernel
theorem dX0_setBreak_29 : decode cX0_setBreak 29 = .ok (.ifCond .ne 13, 3) := by decide +kernel
theorem dX0_setBreak_32 : decode cX0_setBreak 32 = .ok (.aload_n 0, 1) := by decide +kernel
theorem dX0_setBreak_33 : decode cX0_setBreak 33 = .ok (.dup, 1) := by decide +kernel
theorem dX0_setBreak_34 : decode cX0_setBreak 34 = .ok (.getfield 83, 3) := by decide +kernel
theorem dX0_setBreak_37 : decode cX0_setBreak 37 = .ok (.iconst 1, 1) := by decide +kernel
theorem dX0_setBreak_38 : decode cX0_setBreak 38 = .ok (.iadd, 1) := by decide +kernel
theorem dX0_setBreak_39 : decode cX0_setBreak 39 = .ok (.putfield 83, 3) := by decide +kernel
theorem dX0_setBreak_42 : decode cX0_setBreak 42 = .ok (.aload_n 0, 1) := by decide +kernel
theorem dX0_setBreak_43 : decode cX0_setBreak 43 = .ok (.getfield 19, 3) := by decide +kernel
theorem dX0_setBreak_46 : decode cX0_setBreak 46 = .ok (.iload_n 1, 1) := by decide +kernel
theorem dX0_setBreak_47 : decode cX0_setBreak 47 = .ok (.iconst 1, 1) := by decide +kernel
theorem dX0_setBreak_48 : decode cX0_setBreak 48 = .ok (.bastore, 1) := by decide +kernel
theorem dX0_setBreak_49 : decode cX0_setBreak 49 = .ok (.aload_n 0, 1) := by decide +kernel
theorem dX0_setBreak_50 : decode cX0_setBreak 50 = .ok (.getfield 23, 3) := by decide +kernel
theorem dX0_setBreak_53 : decode cX0_setBreak 53 = .ok (.iload_n 1, 1) := by decide +kernel
theorem dX0_setBreak_54 : decode cX0_setBreak 54 = .ok (.iload_n 2, 1) := by decide +kernel
theorem dX0_setBreak_55 : decode cX0_setBreak 55 = .ok (.iastore, 1) := by decide +kernel
theorem dX0_setBreak_56 : decode cX0_setBreak 56 = .ok (.aload_n 0, 1) := by decide +kernel
theorem dX0_setBreak_57 : decode cX0_setBreak 57 = .ok (.invokevirtual 86, 3) := by decide +kernel
theorem dX0_setBreak_60 : decode cX0_setBreak 60 = .ok (.aload_n 0, 1) := by decide +kernel
theorem dX0_setBreak_61 : decode cX0_setBreak 61 = .ok (.getfield 83, 3) := by decide +kernel
theorem dX0_setBreak_64 : decode cX0_setBreak 64 = .ok (.ireturn, 1) := by decide +kernel
theorem dX0_reweave_0 : decode cX0_reweave 0 = .ok (.aload_n 0, 1) := by decide +kernel
theorem dX0_reweave_1 : decode cX0_reweave 1 = .ok (.getfield 56, 3) := by decide +kernel
theorem dX0_reweave_4 : decode cX0_reweave 4 = .ok (.ifCond .ne 4, 3) := by decide +kernel
theorem dX0_reweave_7 : decode cX0_reweave 7 = .ok (.return_, 1) := by decide +kernel
theorem dX0_reweave_8 : decode cX0_reweave 8 = .ok (.aload_n 0, 1) := by decide +kernel
theorem dX0_reweave_9 : decode cX0_reweave 9 = .ok (.aload_n 0, 1) := by decide +kernel
theorem dX0_reweave_10 : decode cX0_reweave 10 = .ok (.getfield 32, 3) := by decide +kernel
theorem dX0_reweave_13 : decode cX0_reweave 13 = .ok (.aload_n 0, 1) := by decide +kernel
theorem dX0_reweave_14 : decode cX0_reweave 14 = .ok (.getfield 73, 3) := by decide +kernel
theorem dX0_reweave_17 : decode cX0_reweave 17 = .ok (.iaload, 1) := by decide +kernel
theorem dX0_reweave_18 : decode cX0_reweave 18 = .ok (.putfield 73, 3) := by decide +kernel
theorem dX0_reweave_21 : decode cX0_reweave 21 = .ok (.iconst 1, 1) := by decide +kernel
theorem dX0_reweave_22 : decode cX0_reweave 22 = .ok (.istore_n 1, 1) := by decide +kernel
theorem dX0_reweave_23 : decode cX0_reweave 23 = .ok (.iload_n 1, 1) := by decide +kernel
theorem dX0_reweave_24 : decode cX0_reweave 24 = .ok (.aload_n 0, 1) := by decide +kernel
theorem dX0_reweave_25 : decode cX0_reweave 25 = .ok (.getfield 70, 3) := by decide +kernel
theorem dX0_reweave_28 : decode cX0_reweave 28 = .ok (.if_icmp .ge 26, 3) := by decide +kernel
theorem dX0_reweave_31 : decode cX0_reweave 31 = .ok (.aload_n 0, 1) := by decide +kernel
theorem dX0_reweave_32 : decode cX0_reweave 32 = .ok (.getfield 47, 3) := by decide +kernel
theorem dX0_reweave_35 : decode cX0_reweave 35 = .ok (.iload_n 1, 1) := by decide +kernel
theorem dX0_reweave_36 : decode cX0_reweave 36 = .ok (.aload_n 0, 1) := by decide +kernel
theorem dX0_reweave_37 : decode cX0_reweave 37 = .ok (.getfield 32, 3) := by decide +kernel
theorem dX0_reweave_40 : decode cX0_reweave 40 = .ok (.aload_n 0, 1) := by decide +kernel
theorem dX0_reweave_41 : decode cX0_reweave 41 = .ok (.getfield 47, 3) := by decide +kernel
theorem dX0_reweave_44 : decode cX0_reweave 44 = .ok (.iload_n 1, 1) := by decide +kernel
theorem dX0_reweave_45 : decode cX0_reweave 45 = .ok (.iaload, 1) := by decide +kernel
theorem dX0_reweave_46 : decode cX0_reweave 46 = .ok (.iaload, 1) := by decide +kernel
theorem dX0_reweave_47 : decode cX0_reweave 47 = .ok (.iastore, 1) := by decide +kernel
theorem dX0_reweave_48 : decode cX0_reweave 48 = .ok (.iinc 1 1, 3) := by decide +kernel
theorem dX0_reweave_51 : decode cX0_reweave 51 = .ok (.goto (-28), 3) := by decide +kernel
theorem dX0_reweave_54 : decode cX0_reweave 54 = .ok (.aload_n 0, 1) := by decide +kernel
theorem dX0_reweave_55 : decode cX0_reweave 55 = .ok (.invokevirtual 67, 3) := by decide +kernel
theorem dX0_reweave_58 : decode cX0_reweave 58 = .ok (.aload_n 0, 1) := by decide +kernel
theorem dX0_reweave_59 : decode cX0_reweave 59 = .ok (.aload_n 0, 1) := by decide +kernel
theorem dX0_reweave_60 : decode cX0_reweave 60 = .ok (.getfield 38, 3) := by decide +kernel
theorem dX0_reweave_63 : decode cX0_reweave 63 = .ok (.aload_n 0, 1) := by decide +kernel
theorem dX0_reweave_64 : decode cX0_reweave 64 = .ok (.getfield 73, 3) := by decide +kernel
theorem dX0_reweave_67 : decode cX0_reweave 67 = .ok (.iaload, 1) := by decide +kernel
theorem dX0_reweave_68 : decode cX0_reweave 68 = .ok (.putfield 73, 3) := by decide +kernel
theorem dX0_reweave_71 : decode cX0_reweave 71 = .ok (.iconst 1, 1) := by decide +kernel
theorem dX0_reweave_72 : decode cX0_reweave 72 = .ok (.istore_n 1, 1) := by decide +kernel
theorem dX0_reweave_73 : decode cX0_reweave 73 = .ok (.iload_n 1, 1) := by decide +kernel
theorem dX0_reweave_74 : decode cX0_reweave 74 = .ok (.aload_n 0, 1) := by decide +kernel
theorem dX0_reweave_75 : decode cX0_reweave 75 = .ok (.getfield 70, 3) := by decide +kernel
theorem dX0_reweave_78 : decode cX0_reweave 78 = .ok (.if_icmp .ge 26, 3) := by decide +kernel
theorem dX0_reweave_81 : decode cX0_reweave 81 = .ok (.aload_n 0, 1) := by decide +kernel
theorem dX0_reweave_82 : decode cX0_reweave 82 = .ok (.getfield 47, 3) := by decide +kernel
theorem dX0_reweave_85 : decode cX0_reweave 85 = .ok (.iload_n 1, 1) := by decide +kernel
theorem dX0_reweave_86 : decode cX0_reweave 86 = .ok (.aload_n 0, 1) := by decide +kernel
theorem dX0_reweave_87 : decode cX0_reweave 87 = .ok (.getfield 38, 3) := by decide +kernel
theorem dX0_reweave_90 : decode cX0_reweave 90 = .ok (.aload_n 0, 1) := by decide +kernel
theorem dX0_reweave_91 : decode cX0_reweave 91 = .ok (.getfield 47, 3) := by decide +kernel
theorem dX0_reweave_94 : decode cX0_reweave 94 = .ok (.iload_n 1, 1) := by decide +kernel
theorem dX0_reweave_95 : decode cX0_reweave 95 = .ok (.iaload, 1) := by decide +kernel
theorem dX0_reweave_96 : decode cX0_reweave 96 = .ok (.iaload, 1) := by decide +kernel
theorem dX0_reweave_97 : decode cX0_reweave 97 = .ok (.iastore, 1) := by decide +kernel
theorem dX0_reweave_98 : decode cX0_reweave 98 = .ok (.iinc 1 1, 3) := by decide +kernel
theorem dX0_reweave_101 : decode cX0_reweave 101 = .ok (.goto (-28), 3) := by decide +kernel
theorem dX0_reweave_104 : decode cX0_reweave 104 = .ok (.return_, 1) := by decide +kernel
theorem dX0_clearBreak_0 : decode cX0_clearBreak 0 = .ok (.aload_n 0, 1) := by decide +kernel
theorem dX0_clearBreak_1 : decode cX0_clearBreak 1 = .ok (.iload_n 1, 1) := by decide +kernel
theorem dX0_clearBreak_2 : decode cX0_clearBreak 2 = .ok (.invokevirtual 63, 3) := by decide +kernel
theorem dX0_clearBreak_5 : decode cX0_clearBreak 5 = .ok (.ifCond .eq 6, 3) := by decide +kernel
theorem dX0_clearBreak_8 : decode cX0_clearBreak 8 = .ok (.bipush (-3), 2) := by decide +kernel
theorem dX0_clearBreak_10 : decode cX0_clearBreak 10 = .ok (.ireturn, 1) := by decide +kernel
theorem dX0_clearBreak_11 : decode cX0_clearBreak 11 = .ok (.aload_n 0, 1) := by decide +kernel
theorem dX0_clearBreak_12 : decode cX0_clearBreak 12 = .ok (.getfield 19, 3) := by decide +kernel
theorem dX0_clearBreak_15 : decode cX0_clearBreak 15 = .ok (.iload_n 1, 1) := by decide +kernel
theorem dX0_clearBreak_16 : decode cX0_clearBreak 16 = .ok (.baload, 1) := by decide +kernel
theorem dX0_clearBreak_17 : decode cX0_clearBreak 17 = .ok (.ifCond .ne 6, 3) := by decide +kernel
theorem dX0_clearBreak_20 : decode cX0_clearBreak 20 = .ok (.bipush (-3), 2) := by decide +kernel
theorem dX0_clearBreak_22 : decode cX0_clearBreak 22 = .ok (.ireturn, 1) := by decide +kernel
theorem dX0_clearBreak_23 : decode cX0_clearBreak 23 = .ok (.aload_n 0, 1) := by decide +kernel
theorem dX0_clearBreak_24 : decode cX0_clearBreak 24 = .ok (.getfield 19, 3) := by decide +kernel
theorem dX0_clearBreak_27 : decode cX0_clearBreak 27 = .ok (.iload_n 1, 1) := by decide +kernel
theorem dX0_clearBreak_28 : decode cX0_clearBreak 28 = .ok (.iconst 0, 1) := by decide +kernel
theorem dX0_clearBreak_29 : decode cX0_clearBreak 29 = .ok (.bastore, 1) := by decide +kernel
theorem dX0_clearBreak_30 : decode cX0_clearBreak 30 = .ok (.aload_n 0, 1) := by decide +kernel
theorem dX0_clearBreak_31 : decode cX0_clearBreak 31 = .ok (.dup, 1) := by decide +kernel
theorem dX0_clearBreak_32 : decode cX0_clearBreak 32 = .ok (.getfield 83, 3) := by decide +kernel
theorem dX0_clearBreak_35 : decode cX0_clearBreak 35 = .ok (.iconst 1, 1) := by decide +kernel
theorem dX0_clearBreak_36 : decode cX0_clearBreak 36 = .ok (.isub, 1) := by decide +kernel
theorem dX0_clearBreak_37 : decode cX0_clearBreak 37 = .ok (.putfield 83, 3) := by decide +kernel
theorem dX0_clearBreak_40 : decode cX0_clearBreak 40 = .ok (.aload_n 0, 1) := by decide +kernel
theorem dX0_clearBreak_41 : decode cX0_clearBreak 41 = .ok (.invokevirtual 86, 3) := by decide +kernel
theorem dX0_clearBreak_44 : decode cX0_clearBreak 44 = .ok (.aload_n 0, 1) := by decide +kernel
theorem dX0_clearBreak_45 : decode cX0_clearBreak 45 = .ok (.getfield 83, 3) := by decide +kernel
theorem dX0_clearBreak_48 : decode cX0_clearBreak 48 = .ok (.ireturn, 1) := by decide +kernel
theorem dX0_resume_0 : decode cX0_resume 0 = .ok (.aload_n 0, 1) := by decide +kernel
theorem dX0_resume_1 : decode cX0_resume 1 = .ok (.invokevirtual 130, 3) := by decide +kernel
theorem dX0_resume_4 : decode cX0_resume 4 = .ok (.ifCond .eq 6, 3) := by decide +kernel
theorem dX0_resume_7 : decode cX0_resume 7 = .ok (.bipush (-4), 2) := by decide +kernel
theorem dX0_resume_9 : decode cX0_resume 9 = .ok (.ireturn, 1) := by decide +kernel
theorem dX0_resume_10 : decode cX0_resume 10 = .ok (.iload_n 1, 1) := by decide +kernel
theorem dX0_resume_11 : decode cX0_resume 11 = .ok (.invokestatic 134, 3) := by decide +kernel
theorem dX0_resume_14 : decode cX0_resume 14 = .ok (.istore_n 2, 1) := by decide +kernel
theorem dX0_resume_15 : decode cX0_resume 15 = .ok (.aload_n 0, 1) := by decide +kernel
theorem dX0_resume_16 : decode cX0_resume 16 = .ok (.iload_n 2, 1) := by decide +kernel
theorem dX0_resume_17 : decode cX0_resume 17 = .ok (.invokevirtual 123, 3) := by decide +kernel
theorem dX0_resume_20 : decode cX0_resume 20 = .ok (.ireturn, 1) := by decide +kernel
end
section
set_option maxRecDepth 100000
theorem dX0_notRunning_0 : decode cX0_notRunning 0 = .ok (.aload_n 0, 1) := by decide +kernel
theorem dX0_notRunning_1 : decode cX0_notRunning 1 = .ok (.getfield 56, 3) := by decide +kernel
theorem dX0_notRunning_4 : decode cX0_notRunning 4 = .ok (.ifCond .eq 20, 3) := by decide +kernel
theorem dX0_notRunning_7 : decode cX0_notRunning 7 = .ok (.aload_n 0, 1) := by decide +kernel
theorem dX0_notRunning_8 : decode cX0_notRunning 8 = .ok (.getfield 56, 3) := by decide +kernel
theorem dX0_notRunning_11 : decode cX0_notRunning 11 = .ok (.iconst 5, 1) := by decide +kernel
theorem dX0_notRunning_12 : decode cX0_notRunning 12 = .ok (.if_icmp .eq 12, 3) := by decide +kernel
theorem dX0_notRunning_15 : decode cX0_notRunning 15 = .ok (.aload_n 0, 1) := by decide +kernel
theorem dX0_notRunning_16 : decode cX0_notRunning 16 = .ok (.getfield 56, 3) := by decide +kernel
theorem dX0_notRunning_19 : decode cX0_notRunning 19 = .ok (.bipush 6, 2) := by decide +kernel
theorem dX0_notRunning_21 : decode cX0_notRunning 21 = .ok (.if_icmp .ne 7, 3) := by decide +kernel
theorem dX0_notRunning_24 : decode cX0_notRunning 24 = .ok (.iconst 1, 1) := by decide +kernel
theorem dX0_notRunning_25 : decode cX0_notRunning 25 = .ok (.goto 4, 3) := by decide +kernel
theorem dX0_notRunning_28 : decode cX0_notRunning 28 = .ok (.iconst 0, 1) := by decide +kernel
theorem dX0_notRunning_29 : decode cX0_notRunning 29 = .ok (.ireturn, 1) := by decide +kernel
theorem dX0_clampMax_0 : decode cX0_clampMax 0 = .ok (.iload_n 0, 1) := by decide +kernel
theorem dX0_clampMax_1 : decode cX0_clampMax 1 = .ok (.iconst 1, 1) := by decide +kernel
theorem dX0_clampMax_2 : decode cX0_clampMax 2 = .ok (.if_icmp .ge 5, 3) := by decide +kernel
theorem dX0_clampMax_5 : decode cX0_clampMax 5 = .ok (.iconst 1, 1) := by decide +kernel
theorem dX0_clampMax_6 : decode cX0_clampMax 6 = .ok (.ireturn, 1) := by decide +kernel
theorem dX0_clampMax_7 : decode cX0_clampMax 7 = .ok (.iload_n 0, 1) := by decide +kernel
theorem dX0_clampMax_8 : decode cX0_clampMax 8 = .ok (.sipush 300, 3) := by decide +kernel
theorem dX0_clampMax_11 : decode cX0_clampMax 11 = .ok (.if_icmp .le 9, 3) := by decide +kernel
theorem dX0_clampMax_14 : decode cX0_clampMax 14 = .ok (.sipush 300, 3) := by decide +kernel
theorem dX0_clampMax_17 : decode cX0_clampMax 17 = .ok (.goto 4, 3) := by decide +kernel
theorem dX0_clampMax_20 : decode cX0_clampMax 20 = .ok (.iload_n 0, 1) := by decide +kernel
theorem dX0_clampMax_21 : decode cX0_clampMax 21 = .ok (.ireturn, 1) := by decide +kernel
theorem dX0_run_0 : decode cX0_run 0 = .ok (.aload_n 0, 1) := by decide +kernel
theorem dX0_run_1 : decode cX0_run 1 = .ok (.iconst 1, 1) := by decide +kernel
theorem dX0_run_2 : decode cX0_run 2 = .ok (.putfield 56, 3) := by decide +kernel
theorem dX0_run_5 : decode cX0_run 5 = .ok (.aload_n 0, 1) := by decide +kernel
theorem dX0_run_6 : decode cX0_run 6 = .ok (.aload_n 0, 1) := by decide +kernel
theorem dX0_run_7 : decode cX0_run 7 = .ok (.getfield 41, 3) := by decide +kernel
theorem dX0_run_10 : decode cX0_run 10 = .ok (.aload_n 0, 1) := by decide +kernel
theorem dX0_run_11 : decode cX0_run 11 = .ok (.getfield 32, 3) := by decide +kernel
theorem dX0_run_14 : decode cX0_run 14 = .ok (.aload_n 0, 1) := by decide +kernel
theorem dX0_run_15 : decode cX0_run 15 = .ok (.getfield 73, 3) := by decide +kernel
theorem dX0_run_18 : decode cX0_run 18 = .ok (.iaload, 1) := by decide +kernel
theorem dX0_run_19 : decode cX0_run 19 = .ok (.iaload, 1) := by decide +kernel
theorem dX0_run_20 : decode cX0_run 20 = .ok (.putfield 73, 3) := by decide +kernel
theorem dX0_run_23 : decode cX0_run 23 = .ok (.iconst 0, 1) := by decide +kernel
theorem dX0_run_24 : decode cX0_run 24 = .ok (.istore_n 2, 1) := by decide +kernel
theorem dX0_run_25 : decode cX0_run 25 = .ok (.aload_n 0, 1) := by decide +kernel
theorem dX0_run_26 : decode cX0_run 26 = .ok (.getfield 56, 3) := by decide +kernel
theorem dX0_run_29 : decode cX0_run 29 = .ok (.iconst 1, 1) := by decide +kernel
theorem dX0_run_30 : decode cX0_run 30 = .ok (.if_icmp .ne 48, 3) := by decide +kernel
theorem dX0_run_33 : decode cX0_run 33 = .ok (.iload_n 2, 1) := by decide +kernel
theorem dX0_run_34 : decode cX0_run 34 = .ok (.iload_n 1, 1) := by decide +kernel
theorem dX0_run_35 : decode cX0_run 35 = .ok (.if_icmp .ge 43, 3) := by decide +kernel
theorem dX0_run_38 : decode cX0_run 38 = .ok (.aload_n 0, 1) := by decide +kernel
theorem dX0_run_39 : decode cX0_run 39 = .ok (.invokevirtual 111, 3) := by decide +kernel
theorem dX0_run_42 : decode cX0_run 42 = .ok (.iinc 2 1, 3) := by decide +kernel
theorem dX0_run_45 : decode cX0_run 45 = .ok (.aload_n 0, 1) := by decide +kernel
theorem dX0_run_46 : decode cX0_run 46 = .ok (.getfield 56, 3) := by decide +kernel
theorem dX0_run_49 : decode cX0_run 49 = .ok (.iconst 1, 1) := by decide +kernel
theorem dX0_run_50 : decode cX0_run 50 = .ok (.if_icmp .ne 7, 3) := by decide +kernel
theorem dX0_run_53 : decode cX0_run 53 = .ok (.aload_n 0, 1) := by decide +kernel
theorem dX0_run_54 : decode cX0_run 54 = .ok (.invokevirtual 114, 3) := by decide +kernel
theorem dX0_run_57 : decode cX0_run 57 = .ok (.aload_n 0, 1) := by decide +kernel
theorem dX0_run_58 : decode cX0_run 58 = .ok (.getfield 56, 3) := by decide +kernel
theorem dX0_run_61 : decode cX0_run 61 = .ok (.iconst 1, 1) := by decide +kernel
theorem dX0_run_62 : decode cX0_run 62 = .ok (.if_icmp .ne (-37), 3) := by decide +kernel
theorem dX0_run_65 : decode cX0_run 65 = .ok (.iload_n 2, 1) := by decide +kernel
theorem dX0_run_66 : decode cX0_run 66 = .ok (.iload_n 1, 1) := by decide +kernel
theorem dX0_run_67 : decode cX0_run 67 = .ok (.if_icmp .ne (-42), 3) := by decide +kernel
theorem dX0_run_70 : decode cX0_run 70 = .ok (.aload_n 0, 1) := by decide +kernel
theorem dX0_run_71 : decode cX0_run 71 = .ok (.iconst 4, 1) := by decide +kernel
theorem dX0_run_72 : decode cX0_run 72 = .ok (.putfield 56, 3) := by decide +kernel
theorem dX0_run_75 : decode cX0_run 75 = .ok (.goto (-50), 3) := by decide +kernel
theorem dX0_run_78 : decode cX0_run 78 = .ok (.iload_n 2, 1) := by decide +kernel
theorem dX0_run_79 : decode cX0_run 79 = .ok (.ireturn, 1) := by decide +kernel
theorem dX0_perform_0 : decode cX0_perform 0 = .ok (.aload_n 0, 1) := by decide +kernel
theorem dX0_perform_1 : decode cX0_perform 1 = .ok (.getfield 32, 3) := by decide +kernel
theorem dX0_perform_4 : decode cX0_perform 4 = .ok (.aload_n 0, 1) := by decide +kernel
theorem dX0_perform_5 : decode cX0_perform 5 = .ok (.getfield 73, 3) := by decide +kernel
theorem dX0_perform_8 : decode cX0_perform 8 = .ok (.iaload, 1) := by decide +kernel
theorem dX0_perform_9 : decode cX0_perform 9 = .ok (.istore_n 1, 1) := by decide +kernel
theorem dX0_perform_10 : decode cX0_perform 10 = .ok (.aload_n 0, 1) := by decide +kernel
theorem dX0_perform_11 : decode cX0_perform 11 = .ok (.getfield 7, 3) := by decide +kernel
theorem dX0_perform_14 : decode cX0_perform 14 = .ok (.iload_n 1, 1) := by decide +kernel
theorem dX0_perform_15 : decode cX0_perform 15 = .ok (.iaload, 1) := by decide +kernel
theorem dX0_perform_16 : decode cX0_perform 16 = .ok (.istore_n 2, 1) := by decide +kernel
theorem dX0_perform_17 : decode cX0_perform 17 = .ok (.aload_n 0, 1) := by decide +kernel
theorem dX0_perform_18 : decode cX0_perform 18 = .ok (.invokevirtual 89, 3) := by decide +kernel
theorem dX0_perform_21 : decode cX0_perform 21 = .ok (.aload_n 0, 1) := by decide +kernel
theorem dX0_perform_22 : decode cX0_perform 22 = .ok (.getfield 13, 3) := by decide +kernel
theorem dX0_perform_25 : decode cX0_perform 25 = .ok (.iload_n 1, 1) := by decide +kernel
theorem dX0_perform_26 : decode cX0_perform 26 = .ok (.iaload, 1) := by decide +kernel
theorem dX0_perform_27 : decode cX0_perform 27 = .ok (.iconst 3, 1) := by decide +kernel
theorem dX0_perform_28 : decode cX0_perform 28 = .ok (.iand, 1) := by decide +kernel
theorem dX0_perform_29 : decode cX0_perform 29 = .ok (.iadd, 1) := by decide +kernel
theorem dX0_perform_30 : decode cX0_perform 30 = .ok (.istore_n 3, 1) := by decide +kernel
theorem dX0_perform_31 : decode cX0_perform 31 = .ok (.aload_n 0, 1) := by decide +kernel
theorem dX0_perform_32 : decode cX0_perform 32 = .ok (.invokevirtual 89, 3) := by decide +kernel
theorem dX0_perform_35 : decode cX0_perform 35 = .ok (.aload_n 0, 1) := by decide +kernel
theorem dX0_perform_36 : decode cX0_perform 36 = .ok (.getfield 16, 3) := by decide +kernel
theorem dX0_perform_39 : decode cX0_perform 39 = .ok (.iload_n 1, 1) := by decide +kernel
theorem dX0_perform_40 : decode cX0_perform 40 = .ok (.iaload, 1) := by decide +kernel
theorem dX0_perform_41 : decode cX0_perform 41 = .ok (.iconst 3, 1) := by decide +kernel
theorem dX0_perform_42 : decode cX0_perform 42 = .ok (.iand, 1) := by decide +kernel
theorem dX0_perform_43 : decode cX0_perform 43 = .ok (.iadd, 1) := by decide +kernel
theorem dX0_perform_44 : decode cX0_perform 44 = .ok (.istore 4, 2) := by decide +kernel
theorem dX0_perform_46 : decode cX0_perform 46 = .ok (.iload_n 2, 1) := by decide +kernel
theorem dX0_perform_47 : decode cX0_perform 47 = .ok (.iconst 4, 1) := by decide +kernel
theorem dX0_perform_48 : decode cX0_perform 48 = .ok (.if_icmp .gt 30, 3) := by decide +kernel
theorem dX0_perform_51 : decode cX0_perform 51 = .ok (.aload_n 0, 1) := by decide +kernel
theorem dX0_perform_52 : decode cX0_perform 52 = .ok (.iload_n 2, 1) := by decide +kernel
theorem dX0_perform_53 : decode cX0_perform 53 = .ok (.iload_n 3, 1) := by decide +kernel
theorem dX0_perform_54 : decode cX0_perform 54 = .ok (.iload 4, 2) := by decide +kernel
theorem dX0_perform_56 : decode cX0_perform 56 = .ok (.aload_n 0, 1) := by decide +kernel
theorem dX0_perform_57 : decode cX0_perform 57 = .ok (.getfield 16, 3) := by decide +kernel
theorem dX0_perform_60 : decode cX0_perform 60 = .ok (.iload_n 1, 1) := by decide +kernel
theorem dX0_perform_61 : decode cX0_perform 61 = .ok (.iaload, 1) := by decide +kernel
theorem dX0_perform_62 : decode cX0_perform 62 = .ok (.invokevirtual 93, 3) := by decide +kernel
theorem dX0_perform_65 : decode cX0_perform 65 = .ok (.aload_n 0, 1) := by decide +kernel
theorem dX0_perform_66 : decode cX0_perform 66 = .ok (.dup, 1) := by decide +kernel
theorem dX0_perform_67 : decode cX0_perform 67 = .ok (.getfield 73, 3) := by decide +kernel
theorem dX0_perform_70 : decode cX0_perform 70 = .ok (.iconst 1, 1) := by decide +kernel
theorem dX0_perform_71 : decode cX0_perform 71 = .ok (.iadd, 1) := by decide +kernel
theorem dX0_perform_72 : decode cX0_perform 72 = .ok (.putfield 73, 3) := by decide +kernel
theorem dX0_perform_75 : decode cX0_perform 75 = .ok (.goto 177, 3) := by decide +kernel
theorem dX0_perform_78 : decode cX0_perform 78 = .ok (.iload_n 2, 1) := by decide +kernel
theorem dX0_perform_79 : decode cX0_perform 79 = .ok (.bipush 7, 2) := by decide +kernel
theorem dX0_perform_81 : decode cX0_perform 81 = .ok (.if_icmp .gt 105, 3) := by decide +kernel
theorem dX0_perform_84 : decode cX0_perform 84 = .ok (.iload_n 2, 1) := by decide +kernel
theorem dX0_perform_85 : decode cX0_perform 85 = .ok (.iconst 5, 1) := by decide +kernel
theorem dX0_perform_86 : decode cX0_perform 86 = .ok (.if_icmp .ne 7, 3) := by decide +kernel
theorem dX0_perform_89 : decode cX0_perform 89 = .ok (.iconst 1, 1) := by decide +kernel
theorem dX0_perform_90 : decode cX0_perform 90 = .ok (.goto 4, 3) := by decide +kernel
theorem dX0_perform_93 : decode cX0_perform 93 = .ok (.iconst 0, 1) := by decide +kernel
theorem dX0_perform_94 : decode cX0_perform 94 = .ok (.istore 5, 2) := by decide +kernel
theorem dX0_perform_96 : decode cX0_perform 96 = .ok (.iload_n 2, 1) := by decide +kernel
theorem dX0_perform_97 : decode cX0_perform 97 = .ok (.bipush 6, 2) := by decide +kernel
theorem dX0_perform_99 : decode cX0_perform 99 = .ok (.if_icmp .ne 39, 3) := by decide +kernel
theorem dX0_perform_102 : decode cX0_perform 102 = .ok (.aload_n 0, 1) := by decide +kernel
theorem dX0_perform_103 : decode cX0_perform 103 = .ok (.getfield 44, 3) := by decide +kernel
theorem dX0_perform_106 : decode cX0_perform 106 = .ok (.iload_n 3, 1) := by decide +kernel
theorem dX0_perform_107 : decode cX0_perform 107 = .ok (.iaload, 1) := by decide +kernel
theorem dX0_perform_108 : decode cX0_perform 108 = .ok (.aload_n 0, 1) := by decide +kernel
theorem dX0_perform_109 : decode cX0_perform 109 = .ok (.getfield 44, 3) := by decide +kernel
theorem dX0_perform_112 : decode cX0_perform 112 = .ok (.aload_n 0, 1) := by decide +kernel
theorem dX0_perform_113 : decode cX0_perform 113 = .ok (.invokevirtual 89, 3) := by decide +kernel
theorem dX0_perform_116 : decode cX0_perform 116 = .ok (.aload_n 0, 1) := by decide +kernel
theorem dX0_perform_117 : decode cX0_perform 117 = .ok (.getfield 13, 3) := by decide +kernel
theorem dX0_perform_120 : decode cX0_perform 120 = .ok (.iload_n 1, 1) := by decide +kernel
theorem dX0_perform_121 : decode cX0_perform 121 = .ok (.iaload, 1) := by decide +kernel
theorem dX0_perform_122 : decode cX0_perform 122 = .ok (.iconst 2, 1) := by decide +kernel
theorem dX0_perform_123 : decode cX0_perform 123 = .ok (.ishr, 1) := by decide +kernel
theorem dX0_perform_124 : decode cX0_perform 124 = .ok (.iconst 3, 1) := by decide +kernel
theorem dX0_perform_125 : decode cX0_perform 125 = .ok (.iand, 1) := by decide +kernel
theorem dX0_perform_126 : decode cX0_perform 126 = .ok (.iadd, 1) := by decide +kernel
theorem dX0_perform_127 : decode cX0_perform 127 = .ok (.iaload, 1) := by decide +kernel
theorem dX0_perform_128 : decode cX0_perform 128 = .ok (.if_icmp .ge 7, 3) := by decide +kernel
theorem dX0_perform_131 : decode cX0_perform 131 = .ok (.iconst 1, 1) := by decide +kernel
theorem dX0_perform_132 : decode cX0_perform 132 = .ok (.goto 4, 3) := by decide +kernel
theorem dX0_perform_135 : decode cX0_perform 135 = .ok (.iconst 0, 1) := by decide +kernel
theorem dX0_perform_136 : decode cX0_perform 136 = .ok (.istore 5, 2) := by decide +kernel
theorem dX0_perform_138 : decode cX0_perform 138 = .ok (.iload_n 2, 1) := by decide +kernel
theorem dX0_perform_139 : decode cX0_perform 139 = .ok (.bipush 7, 2) := by decide +kernel
theorem dX0_perform_141 : decode cX0_perform 141 = .ok (.if_icmp .ne 19, 3) := by decide +kernel
theorem dX0_perform_144 : decode cX0_perform 144 = .ok (.aload_n 0, 1) := by decide +kernel
theorem dX0_perform_145 : decode cX0_perform 145 = .ok (.getfield 44, 3) := by decide +kernel
theorem dX0_perform_148 : decode cX0_perform 148 = .ok (.iload_n 3, 1) := by decide +kernel
theorem dX0_perform_149 : decode cX0_perform 149 = .ok (.iaload, 1) := by decide +kernel
theorem dX0_perform_150 : decode cX0_perform 150 = .ok (.ifCond .ne 7, 3) := by decide +kernel
theorem dX0_perform_153 : decode cX0_perform 153 = .ok (.iconst 1, 1) := by decide +kernel
theorem dX0_perform_154 : decode cX0_perform 154 = .ok (.goto 4, 3) := by decide +kernel
theorem dX0_perform_157 : decode cX0_perform 157 = .ok (.iconst 0, 1) := by decide +kernel
theorem dX0_perform_158 : decode cX0_perform 158 = .ok (.istore 5, 2) := by decide +kernel
theorem dX0_perform_160 : decode cX0_perform 160 = .ok (.iload 5, 2) := by decide +kernel
theorem dX0_perform_162 : decode cX0_perform 162 = .ok (.ifCond .eq 11, 3) := by decide +kernel
theorem dX0_perform_165 : decode cX0_perform 165 = .ok (.aload_n 0, 1) := by decide +kernel
theorem dX0_perform_166 : decode cX0_perform 166 = .ok (.iload_n 1, 1) := by decide +kernel
theorem dX0_perform_167 : decode cX0_perform 167 = .ok (.invokevirtual 97, 3) := by decide +kernel
theorem dX0_perform_170 : decode cX0_perform 170 = .ok (.goto 13, 3) := by decide +kernel
theorem dX0_perform_173 : decode cX0_perform 173 = .ok (.aload_n 0, 1) := by decide +kernel
theorem dX0_perform_174 : decode cX0_perform 174 = .ok (.dup, 1) := by decide +kernel
theorem dX0_perform_175 : decode cX0_perform 175 = .ok (.getfield 73, 3) := by decide +kernel
theorem dX0_perform_178 : decode cX0_perform 178 = .ok (.iconst 1, 1) := by decide +kernel
theorem dX0_perform_179 : decode cX0_perform 179 = .ok (.iadd, 1) := by decide +kernel
theorem dX0_perform_180 : decode cX0_perform 180 = .ok (.putfield 73, 3) := by decide +kernel
theorem dX0_perform_183 : decode cX0_perform 183 = .ok (.goto 69, 3) := by decide +kernel
theorem dX0_perform_186 : decode cX0_perform 186 = .ok (.iload_n 2, 1) := by decide +kernel
theorem dX0_perform_187 : decode cX0_perform 187 = .ok (.bipush 8, 2) := by decide +kernel
theorem dX0_perform_189 : decode cX0_perform 189 = .ok (.if_icmp .ne 12, 3) := by decide +kernel
theorem dX0_perform_192 : decode cX0_perform 192 = .ok (.aload_n 0, 1) := by decide +kernel
theorem dX0_perform_193 : decode cX0_perform 193 = .ok (.iload_n 1, 1) := by decide +kernel
theorem dX0_perform_194 : decode cX0_perform 194 = .ok (.iload_n 3, 1) := by decide +kernel
theorem dX0_perform_195 : decode cX0_perform 195 = .ok (.invokevirtual 101, 3) := by decide +kernel
theorem dX0_perform_198 : decode cX0_perform 198 = .ok (.goto 54, 3) := by decide +kernel
theorem dX0_perform_201 : decode cX0_perform 201 = .ok (.iload_n 2, 1) := by decide +kernel
theorem dX0_perform_202 : decode cX0_perform 202 = .ok (.bipush 9, 2) := by decide +kernel
theorem dX0_perform_204 : decode cX0_perform 204 = .ok (.if_icmp .ne 10, 3) := by decide +kernel
theorem dX0_perform_207 : decode cX0_perform 207 = .ok (.aload_n 0, 1) := by decide +kernel
theorem dX0_perform_208 : decode cX0_perform 208 = .ok (.invokevirtual 105, 3) := by decide +kernel
theorem dX0_perform_211 : decode cX0_perform 211 = .ok (.goto 41, 3) := by decide +kernel
theorem dX0_perform_214 : decode cX0_perform 214 = .ok (.aload_n 0, 1) := by decide +kernel
theorem dX0_perform_215 : decode cX0_perform 215 = .ok (.getfield 53, 3) := by decide +kernel
theorem dX0_perform_218 : decode cX0_perform 218 = .ok (.aload_n 0, 1) := by decide +kernel
theorem dX0_perform_219 : decode cX0_perform 219 = .ok (.getfield 80, 3) := by decide +kernel
theorem dX0_perform_222 : decode cX0_perform 222 = .ok (.bipush 7, 2) := by decide +kernel
theorem dX0_perform_224 : decode cX0_perform 224 = .ok (.iand, 1) := by decide +kernel
theorem dX0_perform_225 : decode cX0_perform 225 = .ok (.aload_n 0, 1) := by decide +kernel
theorem dX0_perform_226 : decode cX0_perform 226 = .ok (.getfield 44, 3) := by decide +kernel
theorem dX0_perform_229 : decode cX0_perform 229 = .ok (.iload_n 3, 1) := by decide +kernel
theorem dX0_perform_230 : decode cX0_perform 230 = .ok (.iaload, 1) := by decide +kernel
theorem dX0_perform_231 : decode cX0_perform 231 = .ok (.iastore, 1) := by decide +kernel
theorem dX0_perform_232 : decode cX0_perform 232 = .ok (.aload_n 0, 1) := by decide +kernel
theorem dX0_perform_233 : decode cX0_perform 233 = .ok (.dup, 1) := by decide +kernel
theorem dX0_perform_234 : decode cX0_perform 234 = .ok (.getfield 80, 3) := by decide +kernel
theorem dX0_perform_237 : decode cX0_perform 237 = .ok (.iconst 1, 1) := by decide +kernel
theorem dX0_perform_238 : decode cX0_perform 238 = .ok (.iadd, 1) := by decide +kernel
theorem dX0_perform_239 : decode cX0_perform 239 = .ok (.putfield 80, 3) := by decide +kernel
theorem dX0_perform_242 : decode cX0_perform 242 = .ok (.aload_n 0, 1) := by decide +kernel
theorem dX0_perform_243 : decode cX0_perform 243 = .ok (.dup, 1) := by decide +kernel
theorem dX0_perform_244 : decode cX0_perform 244 = .ok (.getfield 73, 3) := by decide +kernel
theorem dX0_perform_247 : decode cX0_perform 247 = .ok (.iconst 1, 1) := by decide +kernel
theorem dX0_perform_248 : decode cX0_perform 248 = .ok (.iadd, 1) := by decide +kernel
theorem dX0_perform_249 : decode cX0_perform 249 = .ok (.putfield 73, 3) := by decide +kernel
theorem dX0_perform_252 : decode cX0_perform 252 = .ok (.return_, 1) := by decide +kernel
theorem dX0_base_0 : decode cX0_base 0 = .ok (.aload_n 0, 1) := by decide +kernel
theorem dX0_base_1 : decode cX0_base 1 = .ok (.getfield 70, 3) := by decide +kernel
theorem dX0_base_4 : decode cX0_base 4 = .ok (.iconst 1, 1) := by decide +kernel
theorem dX0_base_5 : decode cX0_base 5 = .ok (.isub, 1) := by decide +kernel
theorem dX0_base_6 : decode cX0_base 6 = .ok (.iconst 4, 1) := by decide +kernel
theorem dX0_base_7 : decode cX0_base 7 = .ok (.imul, 1) := by decide +kernel
theorem dX0_base_8 : decode cX0_base 8 = .ok (.ireturn, 1) := by decide +kernel
theorem dX0_compute_0 : decode cX0_compute 0 = .ok (.iload_n 1, 1) := by decide +kernel
theorem dX0_compute_1 : decode cX0_compute 1 = .ok (.tableswitch 101 0 3 #[31, 42, 57, 79], 31) := by decide +kernel
theorem dX0_compute_32 : decode cX0_compute 32 = .ok (.aload_n 0, 1) := by decide +kernel
theorem dX0_compute_33 : decode cX0_compute 33 = .ok (.getfield 44, 3) := by decide +kernel
theorem dX0_compute_36 : decode cX0_compute 36 = .ok (.iload_n 2, 1) := by decide +kernel
theorem dX0_compute_37 : decode cX0_compute 37 = .ok (.iload 4, 2) := by decide +kernel
theorem dX0_compute_39 : decode cX0_compute 39 = .ok (.iastore, 1) := by decide +kernel
theorem dX0_compute_40 : decode cX0_compute 40 = .ok (.goto 81, 3) := by decide +kernel
theorem dX0_compute_43 : decode cX0_compute 43 = .ok (.aload_n 0, 1) := by decide +kernel
theorem dX0_compute_44 : decode cX0_compute 44 = .ok (.getfield 44, 3) := by decide +kernel
theorem dX0_compute_47 : decode cX0_compute 47 = .ok (.iload_n 2, 1) := by decide +kernel
theorem dX0_compute_48 : decode cX0_compute 48 = .ok (.aload_n 0, 1) := by decide +kernel
theorem dX0_compute_49 : decode cX0_compute 49 = .ok (.getfield 44, 3) := by decide +kernel
theorem dX0_compute_52 : decode cX0_compute 52 = .ok (.iload_n 3, 1) := by decide +kernel
theorem dX0_compute_53 : decode cX0_compute 53 = .ok (.iaload, 1) := by decide +kernel
theorem dX0_compute_54 : decode cX0_compute 54 = .ok (.iastore, 1) := by decide +kernel
theorem dX0_compute_55 : decode cX0_compute 55 = .ok (.goto 66, 3) := by decide +kernel
theorem dX0_compute_58 : decode cX0_compute 58 = .ok (.aload_n 0, 1) := by decide +kernel
theorem dX0_compute_59 : decode cX0_compute 59 = .ok (.getfield 44, 3) := by decide +kernel
theorem dX0_compute_62 : decode cX0_compute 62 = .ok (.iload_n 2, 1) := by decide +kernel
theorem dX0_compute_63 : decode cX0_compute 63 = .ok (.aload_n 0, 1) := by decide +kernel
theorem dX0_compute_64 : decode cX0_compute 64 = .ok (.getfield 44, 3) := by decide +kernel
theorem dX0_compute_67 : decode cX0_compute 67 = .ok (.iload_n 2, 1) := by decide +kernel
theorem dX0_compute_68 : decode cX0_compute 68 = .ok (.iaload, 1) := by decide +kernel
theorem dX0_compute_69 : decode cX0_compute 69 = .ok (.aload_n 0, 1) := by decide +kernel
theorem dX0_compute_70 : decode cX0_compute 70 = .ok (.getfield 44, 3) := by decide +kernel
theorem dX0_compute_73 : decode cX0_compute 73 = .ok (.iload_n 3, 1) := by decide +kernel
theorem dX0_compute_74 : decode cX0_compute 74 = .ok (.iaload, 1) := by decide +kernel
theorem dX0_compute_75 : decode cX0_compute 75 = .ok (.iadd, 1) := by decide +kernel
theorem dX0_compute_76 : decode cX0_compute 76 = .ok (.iastore, 1) := by decide +kernel
theorem dX0_compute_77 : decode cX0_compute 77 = .ok (.goto 44, 3) := by decide +kernel
theorem dX0_compute_80 : decode cX0_compute 80 = .ok (.aload_n 0, 1) := by decide +kernel
theorem dX0_compute_81 : decode cX0_compute 81 = .ok (.getfield 44, 3) := by decide +kernel
theorem dX0_compute_84 : decode cX0_compute 84 = .ok (.iload_n 2, 1) := by decide +kernel
theorem dX0_compute_85 : decode cX0_compute 85 = .ok (.aload_n 0, 1) := by decide +kernel
theorem dX0_compute_86 : decode cX0_compute 86 = .ok (.getfield 44, 3) := by decide +kernel
theorem dX0_compute_89 : decode cX0_compute 89 = .ok (.iload_n 2, 1) := by decide +kernel
theorem dX0_compute_90 : decode cX0_compute 90 = .ok (.iaload, 1) := by decide +kernel
theorem dX0_compute_91 : decode cX0_compute 91 = .ok (.aload_n 0, 1) := by decide +kernel
theorem dX0_compute_92 : decode cX0_compute 92 = .ok (.getfield 44, 3) := by decide +kernel
theorem dX0_compute_95 : decode cX0_compute 95 = .ok (.iload_n 3, 1) := by decide +kernel
theorem dX0_compute_96 : decode cX0_compute 96 = .ok (.iaload, 1) := by decide +kernel
theorem dX0_compute_97 : decode cX0_compute 97 = .ok (.isub, 1) := by decide +kernel
theorem dX0_compute_98 : decode cX0_compute 98 = .ok (.iastore, 1) := by decide +kernel
theorem dX0_compute_99 : decode cX0_compute 99 = .ok (.goto 22, 3) := by decide +kernel
theorem dX0_compute_102 : decode cX0_compute 102 = .ok (.aload_n 0, 1) := by decide +kernel
theorem dX0_compute_103 : decode cX0_compute 103 = .ok (.getfield 44, 3) := by decide +kernel
theorem dX0_compute_106 : decode cX0_compute 106 = .ok (.iload_n 2, 1) := by decide +kernel
theorem dX0_compute_107 : decode cX0_compute 107 = .ok (.aload_n 0, 1) := by decide +kernel
theorem dX0_compute_108 : decode cX0_compute 108 = .ok (.getfield 44, 3) := by decide +kernel
theorem dX0_compute_111 : decode cX0_compute 111 = .ok (.iload_n 2, 1) := by decide +kernel
theorem dX0_compute_112 : decode cX0_compute 112 = .ok (.iaload, 1) := by decide +kernel
theorem dX0_compute_113 : decode cX0_compute 113 = .ok (.aload_n 0, 1) := by decide +kernel
theorem dX0_compute_114 : decode cX0_compute 114 = .ok (.getfield 44, 3) := by decide +kernel
theorem dX0_compute_117 : decode cX0_compute 117 = .ok (.iload_n 3, 1) := by decide +kernel
theorem dX0_compute_118 : decode cX0_compute 118 = .ok (.iaload, 1) := by decide +kernel
theorem dX0_compute_119 : decode cX0_compute 119 = .ok (.imul, 1) := by decide +kernel
theorem dX0_compute_120 : decode cX0_compute 120 = .ok (.iastore, 1) := by decide +kernel
theorem dX0_compute_121 : decode cX0_compute 121 = .ok (.return_, 1) := by decide +kernel
theorem dX0_jump_0 : decode cX0_jump 0 = .ok (.aload_n 0, 1) := by decide +kernel
theorem dX0_jump_1 : decode cX0_jump 1 = .ok (.getfield 35, 3) := by decide +kernel
theorem dX0_jump_4 : decode cX0_jump 4 = .ok (.aload_n 0, 1) := by decide +kernel
theorem dX0_jump_5 : decode cX0_jump 5 = .ok (.getfield 73, 3) := by decide +kernel
theorem dX0_jump_8 : decode cX0_jump 8 = .ok (.iaload, 1) := by decide +kernel
theorem dX0_jump_9 : decode cX0_jump 9 = .ok (.ifCond .lt 17, 3) := by decide +kernel
theorem dX0_jump_12 : decode cX0_jump 12 = .ok (.aload_n 0, 1) := by decide +kernel
theorem dX0_jump_13 : decode cX0_jump 13 = .ok (.aload_n 0, 1) := by decide +kernel
theorem dX0_jump_14 : decode cX0_jump 14 = .ok (.getfield 35, 3) := by decide +kernel
theorem dX0_jump_17 : decode cX0_jump 17 = .ok (.aload_n 0, 1) := by decide +kernel
theorem dX0_jump_18 : decode cX0_jump 18 = .ok (.getfield 73, 3) := by decide +kernel
theorem dX0_jump_21 : decode cX0_jump 21 = .ok (.iaload, 1) := by decide +kernel
theorem dX0_jump_22 : decode cX0_jump 22 = .ok (.putfield 73, 3) := by decide +kernel
theorem dX0_jump_25 : decode cX0_jump 25 = .ok (.return_, 1) := by decide +kernel
theorem dX0_jump_26 : decode cX0_jump 26 = .ok (.aload_n 0, 1) := by decide +kernel
theorem dX0_jump_27 : decode cX0_jump 27 = .ok (.iconst 1, 1) := by decide +kernel
theorem dX0_jump_28 : decode cX0_jump 28 = .ok (.putfield 76, 3) := by decide +kernel
theorem dX0_jump_31 : decode cX0_jump 31 = .ok (.aload_n 0, 1) := by decide +kernel
theorem dX0_jump_32 : decode cX0_jump 32 = .ok (.aload_n 0, 1) := by decide +kernel
theorem dX0_jump_33 : decode cX0_jump 33 = .ok (.getfield 16, 3) := by decide +kernel
theorem dX0_jump_36 : decode cX0_jump 36 = .ok (.iload_n 1, 1) := by decide +kernel
theorem dX0_jump_37 : decode cX0_jump 37 = .ok (.iaload, 1) := by decide +kernel
theorem dX0_jump_38 : decode cX0_jump 38 = .ok (.putfield 108, 3) := by decide +kernel
theorem dX0_jump_41 : decode cX0_jump 41 = .ok (.aload_n 0, 1) := by decide +kernel
theorem dX0_jump_42 : decode cX0_jump 42 = .ok (.bipush 6, 2) := by decide +kernel
theorem dX0_jump_44 : decode cX0_jump 44 = .ok (.putfield 56, 3) := by decide +kernel
theorem dX0_jump_47 : decode cX0_jump 47 = .ok (.return_, 1) := by decide +kernel
theorem dX0_call_0 : decode cX0_call 0 = .ok (.aload_n 0, 1) := by decide +kernel
theorem dX0_call_1 : decode cX0_call 1 = .ok (.getfield 70, 3) := by decide +kernel
theorem dX0_call_4 : decode cX0_call 4 = .ok (.bipush 6, 2) := by decide +kernel
theorem dX0_call_6 : decode cX0_call 6 = .ok (.if_icmp .lt 10, 3) := by decide +kernel
theorem dX0_call_9 : decode cX0_call 9 = .ok (.aload_n 0, 1) := by decide +kernel
theorem dX0_call_10 : decode cX0_call 10 = .ok (.bipush 6, 2) := by decide +kernel
theorem dX0_call_12 : decode cX0_call 12 = .ok (.putfield 56, 3) := by decide +kernel
theorem dX0_call_15 : decode cX0_call 15 = .ok (.return_, 1) := by decide +kernel
theorem dX0_call_16 : decode cX0_call 16 = .ok (.aload_n 0, 1) := by decide +kernel
theorem dX0_call_17 : decode cX0_call 17 = .ok (.getfield 44, 3) := by decide +kernel
theorem dX0_call_20 : decode cX0_call 20 = .ok (.iload_n 2, 1) := by decide +kernel
theorem dX0_call_21 : decode cX0_call 21 = .ok (.iaload, 1) := by decide +kernel
theorem dX0_call_22 : decode cX0_call 22 = .ok (.istore_n 3, 1) := by decide +kernel
theorem dX0_call_23 : decode cX0_call 23 = .ok (.aload_n 0, 1) := by decide +kernel
theorem dX0_call_24 : decode cX0_call 24 = .ok (.getfield 47, 3) := by decide +kernel
theorem dX0_call_27 : decode cX0_call 27 = .ok (.aload_n 0, 1) := by decide +kernel
theorem dX0_call_28 : decode cX0_call 28 = .ok (.getfield 70, 3) := by decide +kernel
theorem dX0_call_31 : decode cX0_call 31 = .ok (.aload_n 0, 1) := by decide +kernel
theorem dX0_call_32 : decode cX0_call 32 = .ok (.getfield 73, 3) := by decide +kernel
theorem dX0_call_35 : decode cX0_call 35 = .ok (.iconst 1, 1) := by decide +kernel
theorem dX0_call_36 : decode cX0_call 36 = .ok (.iadd, 1) := by decide +kernel
theorem dX0_call_37 : decode cX0_call 37 = .ok (.iastore, 1) := by decide +kernel
theorem dX0_call_38 : decode cX0_call 38 = .ok (.aload_n 0, 1) := by decide +kernel
theorem dX0_call_39 : decode cX0_call 39 = .ok (.getfield 50, 3) := by decide +kernel
theorem dX0_call_42 : decode cX0_call 42 = .ok (.aload_n 0, 1) := by decide +kernel
theorem dX0_call_43 : decode cX0_call 43 = .ok (.getfield 70, 3) := by decide +kernel
theorem dX0_call_46 : decode cX0_call 46 = .ok (.aload_n 0, 1) := by decide +kernel
theorem dX0_call_47 : decode cX0_call 47 = .ok (.getfield 13, 3) := by decide +kernel
theorem dX0_call_50 : decode cX0_call 50 = .ok (.iload_n 1, 1) := by decide +kernel
theorem dX0_call_51 : decode cX0_call 51 = .ok (.iaload, 1) := by decide +kernel
theorem dX0_call_52 : decode cX0_call 52 = .ok (.iconst 3, 1) := by decide +kernel
theorem dX0_call_53 : decode cX0_call 53 = .ok (.iand, 1) := by decide +kernel
theorem dX0_call_54 : decode cX0_call 54 = .ok (.iastore, 1) := by decide +kernel
theorem dX0_call_55 : decode cX0_call 55 = .ok (.aload_n 0, 1) := by decide +kernel
theorem dX0_call_56 : decode cX0_call 56 = .ok (.dup, 1) := by decide +kernel
theorem dX0_call_57 : decode cX0_call 57 = .ok (.getfield 70, 3) := by decide +kernel
theorem dX0_call_60 : decode cX0_call 60 = .ok (.iconst 1, 1) := by decide +kernel
theorem dX0_call_61 : decode cX0_call 61 = .ok (.iadd, 1) := by decide +kernel
theorem dX0_call_62 : decode cX0_call 62 = .ok (.putfield 70, 3) := by decide +kernel
theorem dX0_call_65 : decode cX0_call 65 = .ok (.iconst 0, 1) := by decide +kernel
theorem dX0_call_66 : decode cX0_call 66 = .ok (.istore 4, 2) := by decide +kernel
theorem dX0_call_68 : decode cX0_call 68 = .ok (.iload 4, 2) := by decide +kernel
theorem dX0_call_70 : decode cX0_call 70 = .ok (.iconst 4, 1) := by decide +kernel
theorem dX0_call_71 : decode cX0_call 71 = .ok (.if_icmp .ge 22, 3) := by decide +kernel
theorem dX0_call_74 : decode cX0_call 74 = .ok (.aload_n 0, 1) := by decide +kernel
theorem dX0_call_75 : decode cX0_call 75 = .ok (.getfield 44, 3) := by decide +kernel
theorem dX0_call_78 : decode cX0_call 78 = .ok (.aload_n 0, 1) := by decide +kernel
theorem dX0_call_79 : decode cX0_call 79 = .ok (.invokevirtual 89, 3) := by decide +kernel
theorem dX0_call_82 : decode cX0_call 82 = .ok (.iload 4, 2) := by decide +kernel
theorem dX0_call_84 : decode cX0_call 84 = .ok (.iadd, 1) := by decide +kernel
theorem dX0_call_85 : decode cX0_call 85 = .ok (.iconst 0, 1) := by decide +kernel
theorem dX0_call_86 : decode cX0_call 86 = .ok (.iastore, 1) := by decide +kernel
theorem dX0_call_87 : decode cX0_call 87 = .ok (.iinc 4 1, 3) := by decide +kernel
theorem dX0_call_90 : decode cX0_call 90 = .ok (.goto (-22), 3) := by decide +kernel
theorem dX0_call_93 : decode cX0_call 93 = .ok (.aload_n 0, 1) := by decide +kernel
theorem dX0_call_94 : decode cX0_call 94 = .ok (.getfield 44, 3) := by decide +kernel
theorem dX0_call_97 : decode cX0_call 97 = .ok (.aload_n 0, 1) := by decide +kernel
theorem dX0_call_98 : decode cX0_call 98 = .ok (.invokevirtual 89, 3) := by decide +kernel
theorem dX0_call_101 : decode cX0_call 101 = .ok (.iload_n 3, 1) := by decide +kernel
theorem dX0_call_102 : decode cX0_call 102 = .ok (.iastore, 1) := by decide +kernel
theorem dX0_call_103 : decode cX0_call 103 = .ok (.aload_n 0, 1) := by decide +kernel
theorem dX0_call_104 : decode cX0_call 104 = .ok (.iload_n 1, 1) := by decide +kernel
theorem dX0_call_105 : decode cX0_call 105 = .ok (.invokevirtual 97, 3) := by decide +kernel
theorem dX0_call_108 : decode cX0_call 108 = .ok (.return_, 1) := by decide +kernel
theorem dX0_giveBack_0 : decode cX0_giveBack 0 = .ok (.aload_n 0, 1) := by decide +kernel
theorem dX0_giveBack_1 : decode cX0_giveBack 1 = .ok (.getfield 70, 3) := by decide +kernel
theorem dX0_giveBack_4 : decode cX0_giveBack 4 = .ok (.iconst 1, 1) := by decide +kernel
theorem dX0_giveBack_5 : decode cX0_giveBack 5 = .ok (.if_icmp .ne 9, 3) := by decide +kernel
theorem dX0_giveBack_8 : decode cX0_giveBack 8 = .ok (.aload_n 0, 1) := by decide +kernel
theorem dX0_giveBack_9 : decode cX0_giveBack 9 = .ok (.iconst 5, 1) := by decide +kernel
theorem dX0_giveBack_10 : decode cX0_giveBack 10 = .ok (.putfield 56, 3) := by decide +kernel
theorem dX0_giveBack_13 : decode cX0_giveBack 13 = .ok (.return_, 1) := by decide +kernel
theorem dX0_giveBack_14 : decode cX0_giveBack 14 = .ok (.aload_n 0, 1) := by decide +kernel
theorem dX0_giveBack_15 : decode cX0_giveBack 15 = .ok (.getfield 44, 3) := by decide +kernel
theorem dX0_giveBack_18 : decode cX0_giveBack 18 = .ok (.aload_n 0, 1) := by decide +kernel
theorem dX0_giveBack_19 : decode cX0_giveBack 19 = .ok (.invokevirtual 89, 3) := by decide +kernel
theorem dX0_giveBack_22 : decode cX0_giveBack 22 = .ok (.iaload, 1) := by decide +kernel
theorem dX0_giveBack_23 : decode cX0_giveBack 23 = .ok (.istore_n 1, 1) := by decide +kernel
theorem dX0_giveBack_24 : decode cX0_giveBack 24 = .ok (.aload_n 0, 1) := by decide +kernel
theorem dX0_giveBack_25 : decode cX0_giveBack 25 = .ok (.dup, 1) := by decide +kernel
theorem dX0_giveBack_26 : decode cX0_giveBack 26 = .ok (.getfield 70, 3) := by decide +kernel
theorem dX0_giveBack_29 : decode cX0_giveBack 29 = .ok (.iconst 1, 1) := by decide +kernel
theorem dX0_giveBack_30 : decode cX0_giveBack 30 = .ok (.isub, 1) := by decide +kernel
theorem dX0_giveBack_31 : decode cX0_giveBack 31 = .ok (.putfield 70, 3) := by decide +kernel
theorem dX0_giveBack_34 : decode cX0_giveBack 34 = .ok (.aload_n 0, 1) := by decide +kernel
theorem dX0_giveBack_35 : decode cX0_giveBack 35 = .ok (.getfield 44, 3) := by decide +kernel
theorem dX0_giveBack_38 : decode cX0_giveBack 38 = .ok (.aload_n 0, 1) := by decide +kernel
theorem dX0_giveBack_39 : decode cX0_giveBack 39 = .ok (.invokevirtual 89, 3) := by decide +kernel
theorem dX0_giveBack_42 : decode cX0_giveBack 42 = .ok (.aload_n 0, 1) := by decide +kernel
theorem dX0_giveBack_43 : decode cX0_giveBack 43 = .ok (.getfield 50, 3) := by decide +kernel
theorem dX0_giveBack_46 : decode cX0_giveBack 46 = .ok (.aload_n 0, 1) := by decide +kernel
theorem dX0_giveBack_47 : decode cX0_giveBack 47 = .ok (.getfield 70, 3) := by decide +kernel
theorem dX0_giveBack_50 : decode cX0_giveBack 50 = .ok (.iaload, 1) := by decide +kernel
theorem dX0_giveBack_51 : decode cX0_giveBack 51 = .ok (.iadd, 1) := by decide +kernel
theorem dX0_giveBack_52 : decode cX0_giveBack 52 = .ok (.iload_n 1, 1) := by decide +kernel
theorem dX0_giveBack_53 : decode cX0_giveBack 53 = .ok (.iastore, 1) := by decide +kernel
theorem dX0_giveBack_54 : decode cX0_giveBack 54 = .ok (.aload_n 0, 1) := by decide +kernel
theorem dX0_giveBack_55 : decode cX0_giveBack 55 = .ok (.aload_n 0, 1) := by decide +kernel
theorem dX0_giveBack_56 : decode cX0_giveBack 56 = .ok (.getfield 47, 3) := by decide +kernel
theorem dX0_giveBack_59 : decode cX0_giveBack 59 = .ok (.aload_n 0, 1) := by decide +kernel
theorem dX0_giveBack_60 : decode cX0_giveBack 60 = .ok (.getfield 70, 3) := by decide +kernel
theorem dX0_giveBack_63 : decode cX0_giveBack 63 = .ok (.iaload, 1) := by decide +kernel
theorem dX0_giveBack_64 : decode cX0_giveBack 64 = .ok (.putfield 73, 3) := by decide +kernel
theorem dX0_giveBack_67 : decode cX0_giveBack 67 = .ok (.return_, 1) := by decide +kernel
end
section
set_option maxRecDepth 100000
theorem dX0_arrive_0 : decode cX0_arrive 0 = .ok (.aload_n 0, 1) := by decide +kernel
theorem dX0_arrive_1 : decode cX0_arrive 1 = .ok (.getfield 29, 3) := by decide +kernel
theorem dX0_arrive_4 : decode cX0_arrive 4 = .ok (.aload_n 0, 1) := by decide +kernel
theorem dX0_arrive_5 : decode cX0_arrive 5 = .ok (.getfield 73, 3) := by decide +kernel
theorem dX0_arrive_8 : decode cX0_arrive 8 = .ok (.iaload, 1) := by decide +kernel
theorem dX0_arrive_9 : decode cX0_arrive 9 = .ok (.bipush 12, 2) := by decide +kernel
theorem dX0_arrive_11 : decode cX0_arrive 11 = .ok (.if_icmp .ne 23, 3) := by decide +kernel
theorem dX0_arrive_14 : decode cX0_arrive 14 = .ok (.aload_n 0, 1) := by decide +kernel
theorem dX0_arrive_15 : decode cX0_arrive 15 = .ok (.iconst 1, 1) := by decide +kernel
theorem dX0_arrive_16 : decode cX0_arrive 16 = .ok (.putfield 76, 3) := by decide +kernel
theorem dX0_arrive_19 : decode cX0_arrive 19 = .ok (.aload_n 0, 1) := by decide +kernel
theorem dX0_arrive_20 : decode cX0_arrive 20 = .ok (.aload_n 0, 1) := by decide +kernel
theorem dX0_arrive_21 : decode cX0_arrive 21 = .ok (.getfield 60, 3) := by decide +kernel
theorem dX0_arrive_24 : decode cX0_arrive 24 = .ok (.putfield 108, 3) := by decide +kernel
theorem dX0_arrive_27 : decode cX0_arrive 27 = .ok (.aload_n 0, 1) := by decide +kernel
theorem dX0_arrive_28 : decode cX0_arrive 28 = .ok (.bipush 6, 2) := by decide +kernel
theorem dX0_arrive_30 : decode cX0_arrive 30 = .ok (.putfield 56, 3) := by decide +kernel
theorem dX0_arrive_33 : decode cX0_arrive 33 = .ok (.return_, 1) := by decide +kernel
theorem dX0_arrive_34 : decode cX0_arrive 34 = .ok (.aload_n 0, 1) := by decide +kernel
theorem dX0_arrive_35 : decode cX0_arrive 35 = .ok (.getfield 29, 3) := by decide +kernel
theorem dX0_arrive_38 : decode cX0_arrive 38 = .ok (.aload_n 0, 1) := by decide +kernel
theorem dX0_arrive_39 : decode cX0_arrive 39 = .ok (.getfield 73, 3) := by decide +kernel
theorem dX0_arrive_42 : decode cX0_arrive 42 = .ok (.iaload, 1) := by decide +kernel
theorem dX0_arrive_43 : decode cX0_arrive 43 = .ok (.bipush 11, 2) := by decide +kernel
theorem dX0_arrive_45 : decode cX0_arrive 45 = .ok (.if_icmp .eq 4, 3) := by decide +kernel
theorem dX0_arrive_48 : decode cX0_arrive 48 = .ok (.return_, 1) := by decide +kernel
theorem dX0_arrive_49 : decode cX0_arrive 49 = .ok (.aload_n 0, 1) := by decide +kernel
theorem dX0_arrive_50 : decode cX0_arrive 50 = .ok (.getfield 32, 3) := by decide +kernel
theorem dX0_arrive_53 : decode cX0_arrive 53 = .ok (.aload_n 0, 1) := by decide +kernel
theorem dX0_arrive_54 : decode cX0_arrive 54 = .ok (.getfield 73, 3) := by decide +kernel
theorem dX0_arrive_57 : decode cX0_arrive 57 = .ok (.iaload, 1) := by decide +kernel
theorem dX0_arrive_58 : decode cX0_arrive 58 = .ok (.istore_n 1, 1) := by decide +kernel
theorem dX0_arrive_59 : decode cX0_arrive 59 = .ok (.aload_n 0, 1) := by decide +kernel
theorem dX0_arrive_60 : decode cX0_arrive 60 = .ok (.getfield 26, 3) := by decide +kernel
theorem dX0_arrive_63 : decode cX0_arrive 63 = .ok (.iload_n 1, 1) := by decide +kernel
theorem dX0_arrive_64 : decode cX0_arrive 64 = .ok (.baload, 1) := by decide +kernel
theorem dX0_arrive_65 : decode cX0_arrive 65 = .ok (.ifCond .eq 22, 3) := by decide +kernel
theorem dX0_arrive_68 : decode cX0_arrive 68 = .ok (.aload_n 0, 1) := by decide +kernel
theorem dX0_arrive_69 : decode cX0_arrive 69 = .ok (.getfield 70, 3) := by decide +kernel
theorem dX0_arrive_72 : decode cX0_arrive 72 = .ok (.aload_n 0, 1) := by decide +kernel
theorem dX0_arrive_73 : decode cX0_arrive 73 = .ok (.getfield 117, 3) := by decide +kernel
theorem dX0_arrive_76 : decode cX0_arrive 76 = .ok (.if_icmp .gt 11, 3) := by decide +kernel
theorem dX0_arrive_79 : decode cX0_arrive 79 = .ok (.aload_n 0, 1) := by decide +kernel
theorem dX0_arrive_80 : decode cX0_arrive 80 = .ok (.iconst 2, 1) := by decide +kernel
theorem dX0_arrive_81 : decode cX0_arrive 81 = .ok (.putfield 56, 3) := by decide +kernel
theorem dX0_arrive_84 : decode cX0_arrive 84 = .ok (.goto 58, 3) := by decide +kernel
theorem dX0_arrive_87 : decode cX0_arrive 87 = .ok (.aload_n 0, 1) := by decide +kernel
theorem dX0_arrive_88 : decode cX0_arrive 88 = .ok (.getfield 19, 3) := by decide +kernel
theorem dX0_arrive_91 : decode cX0_arrive 91 = .ok (.iload_n 1, 1) := by decide +kernel
theorem dX0_arrive_92 : decode cX0_arrive 92 = .ok (.baload, 1) := by decide +kernel
theorem dX0_arrive_93 : decode cX0_arrive 93 = .ok (.ifCond .eq 20, 3) := by decide +kernel
theorem dX0_arrive_96 : decode cX0_arrive 96 = .ok (.aload_n 0, 1) := by decide +kernel
theorem dX0_arrive_97 : decode cX0_arrive 97 = .ok (.getfield 23, 3) := by decide +kernel
theorem dX0_arrive_100 : decode cX0_arrive 100 = .ok (.iload_n 1, 1) := by decide +kernel
theorem dX0_arrive_101 : decode cX0_arrive 101 = .ok (.iaload, 1) := by decide +kernel
theorem dX0_arrive_102 : decode cX0_arrive 102 = .ok (.ifCond .ne 11, 3) := by decide +kernel
theorem dX0_arrive_105 : decode cX0_arrive 105 = .ok (.aload_n 0, 1) := by decide +kernel
theorem dX0_arrive_106 : decode cX0_arrive 106 = .ok (.iconst 3, 1) := by decide +kernel
theorem dX0_arrive_107 : decode cX0_arrive 107 = .ok (.putfield 56, 3) := by decide +kernel
theorem dX0_arrive_110 : decode cX0_arrive 110 = .ok (.goto 32, 3) := by decide +kernel
theorem dX0_arrive_113 : decode cX0_arrive 113 = .ok (.aload_n 0, 1) := by decide +kernel
theorem dX0_arrive_114 : decode cX0_arrive 114 = .ok (.getfield 19, 3) := by decide +kernel
theorem dX0_arrive_117 : decode cX0_arrive 117 = .ok (.iload_n 1, 1) := by decide +kernel
theorem dX0_arrive_118 : decode cX0_arrive 118 = .ok (.baload, 1) := by decide +kernel
theorem dX0_arrive_119 : decode cX0_arrive 119 = .ok (.ifCond .eq 13, 3) := by decide +kernel
theorem dX0_arrive_122 : decode cX0_arrive 122 = .ok (.aload_n 0, 1) := by decide +kernel
theorem dX0_arrive_123 : decode cX0_arrive 123 = .ok (.getfield 23, 3) := by decide +kernel
theorem dX0_arrive_126 : decode cX0_arrive 126 = .ok (.iload_n 1, 1) := by decide +kernel
theorem dX0_arrive_127 : decode cX0_arrive 127 = .ok (.dup2, 1) := by decide +kernel
theorem dX0_arrive_128 : decode cX0_arrive 128 = .ok (.iaload, 1) := by decide +kernel
theorem dX0_arrive_129 : decode cX0_arrive 129 = .ok (.iconst 1, 1) := by decide +kernel
theorem dX0_arrive_130 : decode cX0_arrive 130 = .ok (.isub, 1) := by decide +kernel
theorem dX0_arrive_131 : decode cX0_arrive 131 = .ok (.iastore, 1) := by decide +kernel
theorem dX0_arrive_132 : decode cX0_arrive 132 = .ok (.aload_n 0, 1) := by decide +kernel
theorem dX0_arrive_133 : decode cX0_arrive 133 = .ok (.dup, 1) := by decide +kernel
theorem dX0_arrive_134 : decode cX0_arrive 134 = .ok (.getfield 73, 3) := by decide +kernel
theorem dX0_arrive_137 : decode cX0_arrive 137 = .ok (.iconst 1, 1) := by decide +kernel
theorem dX0_arrive_138 : decode cX0_arrive 138 = .ok (.iadd, 1) := by decide +kernel
theorem dX0_arrive_139 : decode cX0_arrive 139 = .ok (.putfield 73, 3) := by decide +kernel
theorem dX0_arrive_142 : decode cX0_arrive 142 = .ok (.return_, 1) := by decide +kernel
theorem dX0_stepInto_0 : decode cX0_stepInto 0 = .ok (.aload_n 0, 1) := by decide +kernel
theorem dX0_stepInto_1 : decode cX0_stepInto 1 = .ok (.invokevirtual 130, 3) := by decide +kernel
theorem dX0_stepInto_4 : decode cX0_stepInto 4 = .ok (.ifCond .eq 6, 3) := by decide +kernel
theorem dX0_stepInto_7 : decode cX0_stepInto 7 = .ok (.bipush (-4), 2) := by decide +kernel
theorem dX0_stepInto_9 : decode cX0_stepInto 9 = .ok (.ireturn, 1) := by decide +kernel
theorem dX0_stepInto_10 : decode cX0_stepInto 10 = .ok (.aload_n 0, 1) := by decide +kernel
theorem dX0_stepInto_11 : decode cX0_stepInto 11 = .ok (.bipush 6, 2) := by decide +kernel
theorem dX0_stepInto_13 : decode cX0_stepInto 13 = .ok (.putfield 117, 3) := by decide +kernel
theorem dX0_stepInto_16 : decode cX0_stepInto 16 = .ok (.aload_n 0, 1) := by decide +kernel
theorem dX0_stepInto_17 : decode cX0_stepInto 17 = .ok (.iconst 1, 1) := by decide +kernel
theorem dX0_stepInto_18 : decode cX0_stepInto 18 = .ok (.invokevirtual 137, 3) := by decide +kernel
theorem dX0_stepInto_21 : decode cX0_stepInto 21 = .ok (.aload_n 0, 1) := by decide +kernel
theorem dX0_stepInto_22 : decode cX0_stepInto 22 = .ok (.iconst 1, 1) := by decide +kernel
theorem dX0_stepInto_23 : decode cX0_stepInto 23 = .ok (.invokevirtual 141, 3) := by decide +kernel
theorem dX0_stepInto_26 : decode cX0_stepInto 26 = .ok (.ireturn, 1) := by decide +kernel
theorem dX0_plantNext_0 : decode cX0_plantNext 0 = .ok (.aload_n 0, 1) := by decide +kernel
theorem dX0_plantNext_1 : decode cX0_plantNext 1 = .ok (.getfield 32, 3) := by decide +kernel
theorem dX0_plantNext_4 : decode cX0_plantNext 4 = .ok (.aload_n 0, 1) := by decide +kernel
theorem dX0_plantNext_5 : decode cX0_plantNext 5 = .ok (.getfield 73, 3) := by decide +kernel
theorem dX0_plantNext_8 : decode cX0_plantNext 8 = .ok (.iaload, 1) := by decide +kernel
theorem dX0_plantNext_9 : decode cX0_plantNext 9 = .ok (.istore_n 2, 1) := by decide +kernel
theorem dX0_plantNext_10 : decode cX0_plantNext 10 = .ok (.aload_n 0, 1) := by decide +kernel
theorem dX0_plantNext_11 : decode cX0_plantNext 11 = .ok (.getfield 7, 3) := by decide +kernel
theorem dX0_plantNext_14 : decode cX0_plantNext 14 = .ok (.iload_n 2, 1) := by decide +kernel
theorem dX0_plantNext_15 : decode cX0_plantNext 15 = .ok (.iaload, 1) := by decide +kernel
theorem dX0_plantNext_16 : decode cX0_plantNext 16 = .ok (.istore_n 3, 1) := by decide +kernel
theorem dX0_plantNext_17 : decode cX0_plantNext 17 = .ok (.iload_n 3, 1) := by decide +kernel
theorem dX0_plantNext_18 : decode cX0_plantNext 18 = .ok (.bipush 9, 2) := by decide +kernel
theorem dX0_plantNext_20 : decode cX0_plantNext 20 = .ok (.if_icmp .ne 32, 3) := by decide +kernel
theorem dX0_plantNext_23 : decode cX0_plantNext 23 = .ok (.aload_n 0, 1) := by decide +kernel
theorem dX0_plantNext_24 : decode cX0_plantNext 24 = .ok (.getfield 70, 3) := by decide +kernel
theorem dX0_plantNext_27 : decode cX0_plantNext 27 = .ok (.iconst 1, 1) := by decide +kernel
theorem dX0_plantNext_28 : decode cX0_plantNext 28 = .ok (.if_icmp .le 23, 3) := by decide +kernel
theorem dX0_plantNext_31 : decode cX0_plantNext 31 = .ok (.aload_n 0, 1) := by decide +kernel
theorem dX0_plantNext_32 : decode cX0_plantNext 32 = .ok (.aload_n 0, 1) := by decide +kernel
theorem dX0_plantNext_33 : decode cX0_plantNext 33 = .ok (.getfield 32, 3) := by decide +kernel
theorem dX0_plantNext_36 : decode cX0_plantNext 36 = .ok (.aload_n 0, 1) := by decide +kernel
theorem dX0_plantNext_37 : decode cX0_plantNext 37 = .ok (.getfield 47, 3) := by decide +kernel
theorem dX0_plantNext_40 : decode cX0_plantNext 40 = .ok (.aload_n 0, 1) := by decide +kernel
theorem dX0_plantNext_41 : decode cX0_plantNext 41 = .ok (.getfield 70, 3) := by decide +kernel
theorem dX0_plantNext_44 : decode cX0_plantNext 44 = .ok (.iconst 1, 1) := by decide +kernel
theorem dX0_plantNext_45 : decode cX0_plantNext 45 = .ok (.isub, 1) := by decide +kernel
theorem dX0_plantNext_46 : decode cX0_plantNext 46 = .ok (.iaload, 1) := by decide +kernel
theorem dX0_plantNext_47 : decode cX0_plantNext 47 = .ok (.iaload, 1) := by decide +kernel
theorem dX0_plantNext_48 : decode cX0_plantNext 48 = .ok (.invokevirtual 120, 3) := by decide +kernel
theorem dX0_plantNext_51 : decode cX0_plantNext 51 = .ok (.return_, 1) := by decide +kernel
theorem dX0_plantNext_52 : decode cX0_plantNext 52 = .ok (.aload_n 0, 1) := by decide +kernel
theorem dX0_plantNext_53 : decode cX0_plantNext 53 = .ok (.iload_n 2, 1) := by decide +kernel
theorem dX0_plantNext_54 : decode cX0_plantNext 54 = .ok (.iconst 1, 1) := by decide +kernel
theorem dX0_plantNext_55 : decode cX0_plantNext 55 = .ok (.iadd, 1) := by decide +kernel
theorem dX0_plantNext_56 : decode cX0_plantNext 56 = .ok (.invokevirtual 120, 3) := by decide +kernel
theorem dX0_plantNext_59 : decode cX0_plantNext 59 = .ok (.iload_n 3, 1) := by decide +kernel
theorem dX0_plantNext_60 : decode cX0_plantNext 60 = .ok (.iconst 5, 1) := by decide +kernel
theorem dX0_plantNext_61 : decode cX0_plantNext 61 = .ok (.if_icmp .lt 9, 3) := by decide +kernel
theorem dX0_plantNext_64 : decode cX0_plantNext 64 = .ok (.iload_n 3, 1) := by decide +kernel
theorem dX0_plantNext_65 : decode cX0_plantNext 65 = .ok (.bipush 7, 2) := by decide +kernel
theorem dX0_plantNext_67 : decode cX0_plantNext 67 = .ok (.if_icmp .le 13, 3) := by decide +kernel
theorem dX0_plantNext_70 : decode cX0_plantNext 70 = .ok (.iload_n 3, 1) := by decide +kernel
theorem dX0_plantNext_71 : decode cX0_plantNext 71 = .ok (.bipush 8, 2) := by decide +kernel
theorem dX0_plantNext_73 : decode cX0_plantNext 73 = .ok (.if_icmp .ne 17, 3) := by decide +kernel
theorem dX0_plantNext_76 : decode cX0_plantNext 76 = .ok (.iload_n 1, 1) := by decide +kernel
theorem dX0_plantNext_77 : decode cX0_plantNext 77 = .ok (.ifCond .eq 13, 3) := by decide +kernel
theorem dX0_plantNext_80 : decode cX0_plantNext 80 = .ok (.aload_n 0, 1) := by decide +kernel
theorem dX0_plantNext_81 : decode cX0_plantNext 81 = .ok (.aload_n 0, 1) := by decide +kernel
theorem dX0_plantNext_82 : decode cX0_plantNext 82 = .ok (.getfield 16, 3) := by decide +kernel
theorem dX0_plantNext_85 : decode cX0_plantNext 85 = .ok (.iload_n 2, 1) := by decide +kernel
theorem dX0_plantNext_86 : decode cX0_plantNext 86 = .ok (.iaload, 1) := by decide +kernel
theorem dX0_plantNext_87 : decode cX0_plantNext 87 = .ok (.invokevirtual 120, 3) := by decide +kernel
theorem dX0_plantNext_90 : decode cX0_plantNext 90 = .ok (.return_, 1) := by decide +kernel
theorem dX0_plant_0 : decode cX0_plant 0 = .ok (.aload_n 0, 1) := by decide +kernel
theorem dX0_plant_1 : decode cX0_plant 1 = .ok (.iload_n 1, 1) := by decide +kernel
theorem dX0_plant_2 : decode cX0_plant 2 = .ok (.invokevirtual 63, 3) := by decide +kernel
theorem dX0_plant_5 : decode cX0_plant 5 = .ok (.istore_n 2, 1) := by decide +kernel
theorem dX0_plant_6 : decode cX0_plant 6 = .ok (.iload_n 2, 1) := by decide +kernel
theorem dX0_plant_7 : decode cX0_plant 7 = .ok (.ifCond .ne 10, 3) := by decide +kernel
theorem dX0_plant_10 : decode cX0_plant 10 = .ok (.aload_n 0, 1) := by decide +kernel
theorem dX0_plant_11 : decode cX0_plant 11 = .ok (.getfield 26, 3) := by decide +kernel
theorem dX0_plant_14 : decode cX0_plant 14 = .ok (.iload_n 1, 1) := by decide +kernel
theorem dX0_plant_15 : decode cX0_plant 15 = .ok (.iconst 1, 1) := by decide +kernel
theorem dX0_plant_16 : decode cX0_plant 16 = .ok (.bastore, 1) := by decide +kernel
theorem dX0_plant_17 : decode cX0_plant 17 = .ok (.return_, 1) := by decide +kernel
theorem dX0_runPlanted_0 : decode cX0_runPlanted 0 = .ok (.aload_n 0, 1) := by decide +kernel
theorem dX0_runPlanted_1 : decode cX0_runPlanted 1 = .ok (.invokevirtual 86, 3) := by decide +kernel
theorem dX0_runPlanted_4 : decode cX0_runPlanted 4 = .ok (.aload_n 0, 1) := by decide +kernel
theorem dX0_runPlanted_5 : decode cX0_runPlanted 5 = .ok (.iload_n 1, 1) := by decide +kernel
theorem dX0_runPlanted_6 : decode cX0_runPlanted 6 = .ok (.invokevirtual 123, 3) := by decide +kernel
theorem dX0_runPlanted_9 : decode cX0_runPlanted 9 = .ok (.istore_n 2, 1) := by decide +kernel
theorem dX0_runPlanted_10 : decode cX0_runPlanted 10 = .ok (.aload_n 0, 1) := by decide +kernel
theorem dX0_runPlanted_11 : decode cX0_runPlanted 11 = .ok (.invokevirtual 127, 3) := by decide +kernel
theorem dX0_runPlanted_14 : decode cX0_runPlanted 14 = .ok (.aload_n 0, 1) := by decide +kernel
theorem dX0_runPlanted_15 : decode cX0_runPlanted 15 = .ok (.invokevirtual 86, 3) := by decide +kernel
theorem dX0_runPlanted_18 : decode cX0_runPlanted 18 = .ok (.iload_n 2, 1) := by decide +kernel
theorem dX0_runPlanted_19 : decode cX0_runPlanted 19 = .ok (.ireturn, 1) := by decide +kernel
theorem dX0_unplantAll_0 : decode cX0_unplantAll 0 = .ok (.iconst 0, 1) := by decide +kernel
theorem dX0_unplantAll_1 : decode cX0_unplantAll 1 = .ok (.istore_n 1, 1) := by decide +kernel
theorem dX0_unplantAll_2 : decode cX0_unplantAll 2 = .ok (.iload_n 1, 1) := by decide +kernel
theorem dX0_unplantAll_3 : decode cX0_unplantAll 3 = .ok (.bipush 20, 2) := by decide +kernel
theorem dX0_unplantAll_5 : decode cX0_unplantAll 5 = .ok (.if_icmp .ge 16, 3) := by decide +kernel
theorem dX0_unplantAll_8 : decode cX0_unplantAll 8 = .ok (.aload_n 0, 1) := by decide +kernel
theorem dX0_unplantAll_9 : decode cX0_unplantAll 9 = .ok (.getfield 26, 3) := by decide +kernel
theorem dX0_unplantAll_12 : decode cX0_unplantAll 12 = .ok (.iload_n 1, 1) := by decide +kernel
theorem dX0_unplantAll_13 : decode cX0_unplantAll 13 = .ok (.iconst 0, 1) := by decide +kernel
theorem dX0_unplantAll_14 : decode cX0_unplantAll 14 = .ok (.bastore, 1) := by decide +kernel
theorem dX0_unplantAll_15 : decode cX0_unplantAll 15 = .ok (.iinc 1 1, 3) := by decide +kernel
theorem dX0_unplantAll_18 : decode cX0_unplantAll 18 = .ok (.goto (-16), 3) := by decide +kernel
theorem dX0_unplantAll_21 : decode cX0_unplantAll 21 = .ok (.return_, 1) := by decide +kernel
theorem dX0_stepOver_0 : decode cX0_stepOver 0 = .ok (.aload_n 0, 1) := by decide +kernel
theorem dX0_stepOver_1 : decode cX0_stepOver 1 = .ok (.invokevirtual 130, 3) := by decide +kernel
theorem dX0_stepOver_4 : decode cX0_stepOver 4 = .ok (.ifCond .eq 6, 3) := by decide +kernel
theorem dX0_stepOver_7 : decode cX0_stepOver 7 = .ok (.bipush (-4), 2) := by decide +kernel
theorem dX0_stepOver_9 : decode cX0_stepOver 9 = .ok (.ireturn, 1) := by decide +kernel
theorem dX0_stepOver_10 : decode cX0_stepOver 10 = .ok (.aload_n 0, 1) := by decide +kernel
theorem dX0_stepOver_11 : decode cX0_stepOver 11 = .ok (.aload_n 0, 1) := by decide +kernel
theorem dX0_stepOver_12 : decode cX0_stepOver 12 = .ok (.getfield 70, 3) := by decide +kernel
theorem dX0_stepOver_15 : decode cX0_stepOver 15 = .ok (.putfield 117, 3) := by decide +kernel
theorem dX0_stepOver_18 : decode cX0_stepOver 18 = .ok (.aload_n 0, 1) := by decide +kernel
theorem dX0_stepOver_19 : decode cX0_stepOver 19 = .ok (.iconst 0, 1) := by decide +kernel
theorem dX0_stepOver_20 : decode cX0_stepOver 20 = .ok (.invokevirtual 137, 3) := by decide +kernel
theorem dX0_stepOver_23 : decode cX0_stepOver 23 = .ok (.iload_n 1, 1) := by decide +kernel
theorem dX0_stepOver_24 : decode cX0_stepOver 24 = .ok (.invokestatic 134, 3) := by decide +kernel
theorem dX0_stepOver_27 : decode cX0_stepOver 27 = .ok (.istore_n 2, 1) := by decide +kernel
theorem dX0_stepOver_28 : decode cX0_stepOver 28 = .ok (.aload_n 0, 1) := by decide +kernel
theorem dX0_stepOver_29 : decode cX0_stepOver 29 = .ok (.iload_n 2, 1) := by decide +kernel
theorem dX0_stepOver_30 : decode cX0_stepOver 30 = .ok (.invokevirtual 141, 3) := by decide +kernel
theorem dX0_stepOver_33 : decode cX0_stepOver 33 = .ok (.ireturn, 1) := by decide +kernel
theorem dX0_stepOut_0 : decode cX0_stepOut 0 = .ok (.aload_n 0, 1) := by decide +kernel
theorem dX0_stepOut_1 : decode cX0_stepOut 1 = .ok (.invokevirtual 130, 3) := by decide +kernel
theorem dX0_stepOut_4 : decode cX0_stepOut 4 = .ok (.ifCond .eq 6, 3) := by decide +kernel
theorem dX0_stepOut_7 : decode cX0_stepOut 7 = .ok (.bipush (-4), 2) := by decide +kernel
theorem dX0_stepOut_9 : decode cX0_stepOut 9 = .ok (.ireturn, 1) := by decide +kernel
theorem dX0_stepOut_10 : decode cX0_stepOut 10 = .ok (.aload_n 0, 1) := by decide +kernel
theorem dX0_stepOut_11 : decode cX0_stepOut 11 = .ok (.aload_n 0, 1) := by decide +kernel
theorem dX0_stepOut_12 : decode cX0_stepOut 12 = .ok (.getfield 70, 3) := by decide +kernel
theorem dX0_stepOut_15 : decode cX0_stepOut 15 = .ok (.iconst 1, 1) := by decide +kernel
theorem dX0_stepOut_16 : decode cX0_stepOut 16 = .ok (.isub, 1) := by decide +kernel
theorem dX0_stepOut_17 : decode cX0_stepOut 17 = .ok (.putfield 117, 3) := by decide +kernel
theorem dX0_stepOut_20 : decode cX0_stepOut 20 = .ok (.aload_n 0, 1) := by decide +kernel
theorem dX0_stepOut_21 : decode cX0_stepOut 21 = .ok (.getfield 70, 3) := by decide +kernel
theorem dX0_stepOut_24 : decode cX0_stepOut 24 = .ok (.iconst 1, 1) := by decide +kernel
theorem dX0_stepOut_25 : decode cX0_stepOut 25 = .ok (.if_icmp .le 23, 3) := by decide +kernel
theorem dX0_stepOut_28 : decode cX0_stepOut 28 = .ok (.aload_n 0, 1) := by decide +kernel
theorem dX0_stepOut_29 : decode cX0_stepOut 29 = .ok (.aload_n 0, 1) := by decide +kernel
theorem dX0_stepOut_30 : decode cX0_stepOut 30 = .ok (.getfield 32, 3) := by decide +kernel
theorem dX0_stepOut_33 : decode cX0_stepOut 33 = .ok (.aload_n 0, 1) := by decide +kernel
theorem dX0_stepOut_34 : decode cX0_stepOut 34 = .ok (.getfield 47, 3) := by decide +kernel
theorem dX0_stepOut_37 : decode cX0_stepOut 37 = .ok (.aload_n 0, 1) := by decide +kernel
theorem dX0_stepOut_38 : decode cX0_stepOut 38 = .ok (.getfield 70, 3) := by decide +kernel
theorem dX0_stepOut_41 : decode cX0_stepOut 41 = .ok (.iconst 1, 1) := by decide +kernel
theorem dX0_stepOut_42 : decode cX0_stepOut 42 = .ok (.isub, 1) := by decide +kernel
theorem dX0_stepOut_43 : decode cX0_stepOut 43 = .ok (.iaload, 1) := by decide +kernel
theorem dX0_stepOut_44 : decode cX0_stepOut 44 = .ok (.iaload, 1) := by decide +kernel
theorem dX0_stepOut_45 : decode cX0_stepOut 45 = .ok (.invokevirtual 120, 3) := by decide +kernel
theorem dX0_stepOut_48 : decode cX0_stepOut 48 = .ok (.iload_n 1, 1) := by decide +kernel
theorem dX0_stepOut_49 : decode cX0_stepOut 49 = .ok (.invokestatic 134, 3) := by decide +kernel
theorem dX0_stepOut_52 : decode cX0_stepOut 52 = .ok (.istore_n 2, 1) := by decide +kernel
theorem dX0_stepOut_53 : decode cX0_stepOut 53 = .ok (.aload_n 0, 1) := by decide +kernel
theorem dX0_stepOut_54 : decode cX0_stepOut 54 = .ok (.iload_n 2, 1) := by decide +kernel
theorem dX0_stepOut_55 : decode cX0_stepOut 55 = .ok (.invokevirtual 141, 3) := by decide +kernel
theorem dX0_stepOut_58 : decode cX0_stepOut 58 = .ok (.ireturn, 1) := by decide +kernel
theorem dX0_setLocal_0 : decode cX0_setLocal 0 = .ok (.aload_n 0, 1) := by decide +kernel
theorem dX0_setLocal_1 : decode cX0_setLocal 1 = .ok (.getfield 70, 3) := by decide +kernel
theorem dX0_setLocal_4 : decode cX0_setLocal 4 = .ok (.ifCond .ne 6, 3) := by decide +kernel
theorem dX0_setLocal_7 : decode cX0_setLocal 7 = .ok (.bipush (-4), 2) := by decide +kernel
theorem dX0_setLocal_9 : decode cX0_setLocal 9 = .ok (.ireturn, 1) := by decide +kernel
theorem dX0_setLocal_10 : decode cX0_setLocal 10 = .ok (.iload_n 1, 1) := by decide +kernel
theorem dX0_setLocal_11 : decode cX0_setLocal 11 = .ok (.ifCond .lt 8, 3) := by decide +kernel
theorem dX0_setLocal_14 : decode cX0_setLocal 14 = .ok (.iload_n 1, 1) := by decide +kernel
theorem dX0_setLocal_15 : decode cX0_setLocal 15 = .ok (.iconst 3, 1) := by decide +kernel
theorem dX0_setLocal_16 : decode cX0_setLocal 16 = .ok (.if_icmp .le 6, 3) := by decide +kernel
theorem dX0_setLocal_19 : decode cX0_setLocal 19 = .ok (.bipush (-3), 2) := by decide +kernel
theorem dX0_setLocal_21 : decode cX0_setLocal 21 = .ok (.ireturn, 1) := by decide +kernel
theorem dX0_setLocal_22 : decode cX0_setLocal 22 = .ok (.aload_n 0, 1) := by decide +kernel
theorem dX0_setLocal_23 : decode cX0_setLocal 23 = .ok (.getfield 44, 3) := by decide +kernel
theorem dX0_setLocal_26 : decode cX0_setLocal 26 = .ok (.aload_n 0, 1) := by decide +kernel
theorem dX0_setLocal_27 : decode cX0_setLocal 27 = .ok (.invokevirtual 89, 3) := by decide +kernel
theorem dX0_setLocal_30 : decode cX0_setLocal 30 = .ok (.iload_n 1, 1) := by decide +kernel
theorem dX0_setLocal_31 : decode cX0_setLocal 31 = .ok (.iadd, 1) := by decide +kernel
theorem dX0_setLocal_32 : decode cX0_setLocal 32 = .ok (.iload_n 2, 1) := by decide +kernel
theorem dX0_setLocal_33 : decode cX0_setLocal 33 = .ok (.iastore, 1) := by decide +kernel
theorem dX0_setLocal_34 : decode cX0_setLocal 34 = .ok (.iconst 0, 1) := by decide +kernel
theorem dX0_setLocal_35 : decode cX0_setLocal 35 = .ok (.ireturn, 1) := by decide +kernel
theorem dX0_state_0 : decode cX0_state 0 = .ok (.aload_n 0, 1) := by decide +kernel
theorem dX0_state_1 : decode cX0_state 1 = .ok (.getfield 56, 3) := by decide +kernel
theorem dX0_state_4 : decode cX0_state 4 = .ok (.ireturn, 1) := by decide +kernel
theorem dX0_depth_0 : decode cX0_depth 0 = .ok (.aload_n 0, 1) := by decide +kernel
theorem dX0_depth_1 : decode cX0_depth 1 = .ok (.getfield 70, 3) := by decide +kernel
theorem dX0_depth_4 : decode cX0_depth 4 = .ok (.ireturn, 1) := by decide +kernel
theorem dX0_counter_0 : decode cX0_counter 0 = .ok (.iload_n 1, 1) := by decide +kernel
theorem dX0_counter_1 : decode cX0_counter 1 = .ok (.ifCond .lt 11, 3) := by decide +kernel
theorem dX0_counter_4 : decode cX0_counter 4 = .ok (.iload_n 1, 1) := by decide +kernel
theorem dX0_counter_5 : decode cX0_counter 5 = .ok (.aload_n 0, 1) := by decide +kernel
theorem dX0_counter_6 : decode cX0_counter 6 = .ok (.getfield 70, 3) := by decide +kernel
theorem dX0_counter_9 : decode cX0_counter 9 = .ok (.if_icmp .lt 6, 3) := by decide +kernel
theorem dX0_counter_12 : decode cX0_counter 12 = .ok (.bipush (-3), 2) := by decide +kernel
theorem dX0_counter_14 : decode cX0_counter 14 = .ok (.ireturn, 1) := by decide +kernel
theorem dX0_counter_15 : decode cX0_counter 15 = .ok (.iload_n 1, 1) := by decide +kernel
theorem dX0_counter_16 : decode cX0_counter 16 = .ok (.ifCond .le 20, 3) := by decide +kernel
theorem dX0_counter_19 : decode cX0_counter 19 = .ok (.aload_n 0, 1) := by decide +kernel
theorem dX0_counter_20 : decode cX0_counter 20 = .ok (.getfield 32, 3) := by decide +kernel
theorem dX0_counter_23 : decode cX0_counter 23 = .ok (.aload_n 0, 1) := by decide +kernel
theorem dX0_counter_24 : decode cX0_counter 24 = .ok (.getfield 47, 3) := by decide +kernel
theorem dX0_counter_27 : decode cX0_counter 27 = .ok (.aload_n 0, 1) := by decide +kernel
theorem dX0_counter_28 : decode cX0_counter 28 = .ok (.getfield 70, 3) := by decide +kernel
theorem dX0_counter_31 : decode cX0_counter 31 = .ok (.iload_n 1, 1) := by decide +kernel
theorem dX0_counter_32 : decode cX0_counter 32 = .ok (.isub, 1) := by decide +kernel
theorem dX0_counter_33 : decode cX0_counter 33 = .ok (.iaload, 1) := by decide +kernel
theorem dX0_counter_34 : decode cX0_counter 34 = .ok (.iaload, 1) := by decide +kernel
theorem dX0_counter_35 : decode cX0_counter 35 = .ok (.ireturn, 1) := by decide +kernel
theorem dX0_counter_36 : decode cX0_counter 36 = .ok (.aload_n 0, 1) := by decide +kernel
theorem dX0_counter_37 : decode cX0_counter 37 = .ok (.getfield 76, 3) := by decide +kernel
theorem dX0_counter_40 : decode cX0_counter 40 = .ok (.ifCond .eq 10, 3) := by decide +kernel
theorem dX0_counter_43 : decode cX0_counter 43 = .ok (.aload_n 0, 1) := by decide +kernel
theorem dX0_counter_44 : decode cX0_counter 44 = .ok (.getfield 108, 3) := by decide +kernel
theorem dX0_counter_47 : decode cX0_counter 47 = .ok (.goto 12, 3) := by decide +kernel
theorem dX0_counter_50 : decode cX0_counter 50 = .ok (.aload_n 0, 1) := by decide +kernel
theorem dX0_counter_51 : decode cX0_counter 51 = .ok (.getfield 32, 3) := by decide +kernel
theorem dX0_counter_54 : decode cX0_counter 54 = .ok (.aload_n 0, 1) := by decide +kernel
theorem dX0_counter_55 : decode cX0_counter 55 = .ok (.getfield 73, 3) := by decide +kernel
theorem dX0_counter_58 : decode cX0_counter 58 = .ok (.iaload, 1) := by decide +kernel
theorem dX0_counter_59 : decode cX0_counter 59 = .ok (.ireturn, 1) := by decide +kernel
theorem dX0_local_0 : decode cX0_local 0 = .ok (.iload_n 1, 1) := by decide +kernel
theorem dX0_local_1 : decode cX0_local 1 = .ok (.ifCond .lt 20, 3) := by decide +kernel
theorem dX0_local_4 : decode cX0_local 4 = .ok (.iload_n 1, 1) := by decide +kernel
theorem dX0_local_5 : decode cX0_local 5 = .ok (.aload_n 0, 1) := by decide +kernel
theorem dX0_local_6 : decode cX0_local 6 = .ok (.getfield 70, 3) := by decide +kernel
theorem dX0_local_9 : decode cX0_local 9 = .ok (.if_icmp .ge 12, 3) := by decide +kernel
theorem dX0_local_12 : decode cX0_local 12 = .ok (.iload_n 2, 1) := by decide +kernel
theorem dX0_local_13 : decode cX0_local 13 = .ok (.ifCond .lt 8, 3) := by decide +kernel
theorem dX0_local_16 : decode cX0_local 16 = .ok (.iload_n 2, 1) := by decide +kernel
theorem dX0_local_17 : decode cX0_local 17 = .ok (.iconst 3, 1) := by decide +kernel
theorem dX0_local_18 : decode cX0_local 18 = .ok (.if_icmp .le 5, 3) := by decide +kernel
theorem dX0_local_21 : decode cX0_local 21 = .ok (.iconst 0, 1) := by decide +kernel
theorem dX0_local_22 : decode cX0_local 22 = .ok (.ireturn, 1) := by decide +kernel
theorem dX0_local_23 : decode cX0_local 23 = .ok (.aload_n 0, 1) := by decide +kernel
theorem dX0_local_24 : decode cX0_local 24 = .ok (.getfield 44, 3) := by decide +kernel
theorem dX0_local_27 : decode cX0_local 27 = .ok (.aload_n 0, 1) := by decide +kernel
theorem dX0_local_28 : decode cX0_local 28 = .ok (.getfield 70, 3) := by decide +kernel
theorem dX0_local_31 : decode cX0_local 31 = .ok (.iconst 1, 1) := by decide +kernel
theorem dX0_local_32 : decode cX0_local 32 = .ok (.isub, 1) := by decide +kernel
theorem dX0_local_33 : decode cX0_local 33 = .ok (.iload_n 1, 1) := by decide +kernel
theorem dX0_local_34 : decode cX0_local 34 = .ok (.isub, 1) := by decide +kernel
theorem dX0_local_35 : decode cX0_local 35 = .ok (.iconst 4, 1) := by decide +kernel
theorem dX0_local_36 : decode cX0_local 36 = .ok (.imul, 1) := by decide +kernel
theorem dX0_local_37 : decode cX0_local 37 = .ok (.iload_n 2, 1) := by decide +kernel
theorem dX0_local_38 : decode cX0_local 38 = .ok (.iadd, 1) := by decide +kernel
theorem dX0_local_39 : decode cX0_local 39 = .ok (.iaload, 1) := by decide +kernel
theorem dX0_local_40 : decode cX0_local 40 = .ok (.ireturn, 1) := by decide +kernel
theorem dX0_outputs_0 : decode cX0_outputs 0 = .ok (.aload_n 0, 1) := by decide +kernel
theorem dX0_outputs_1 : decode cX0_outputs 1 = .ok (.getfield 80, 3) := by decide +kernel
theorem dX0_outputs_4 : decode cX0_outputs 4 = .ok (.ireturn, 1) := by decide +kernel
theorem dX0_output_0 : decode cX0_output 0 = .ok (.iload_n 1, 1) := by decide +kernel
theorem dX0_output_1 : decode cX0_output 1 = .ok (.ifCond .lt 17, 3) := by decide +kernel
theorem dX0_output_4 : decode cX0_output 4 = .ok (.iload_n 1, 1) := by decide +kernel
theorem dX0_output_5 : decode cX0_output 5 = .ok (.bipush 7, 2) := by decide +kernel
theorem dX0_output_7 : decode cX0_output 7 = .ok (.if_icmp .gt 11, 3) := by decide +kernel
theorem dX0_output_10 : decode cX0_output 10 = .ok (.iload_n 1, 1) := by decide +kernel
theorem dX0_output_11 : decode cX0_output 11 = .ok (.aload_n 0, 1) := by decide +kernel
theorem dX0_output_12 : decode cX0_output 12 = .ok (.getfield 80, 3) := by decide +kernel
theorem dX0_output_15 : decode cX0_output 15 = .ok (.if_icmp .lt 5, 3) := by decide +kernel
theorem dX0_output_18 : decode cX0_output 18 = .ok (.iconst 0, 1) := by decide +kernel
theorem dX0_output_19 : decode cX0_output 19 = .ok (.ireturn, 1) := by decide +kernel
theorem dX0_output_20 : decode cX0_output 20 = .ok (.aload_n 0, 1) := by decide +kernel
theorem dX0_output_21 : decode cX0_output 21 = .ok (.getfield 53, 3) := by decide +kernel
theorem dX0_output_24 : decode cX0_output 24 = .ok (.aload_n 0, 1) := by decide +kernel
theorem dX0_output_25 : decode cX0_output 25 = .ok (.getfield 80, 3) := by decide +kernel
theorem dX0_output_28 : decode cX0_output 28 = .ok (.iconst 1, 1) := by decide +kernel
theorem dX0_output_29 : decode cX0_output 29 = .ok (.isub, 1) := by decide +kernel
theorem dX0_output_30 : decode cX0_output 30 = .ok (.iload_n 1, 1) := by decide +kernel
theorem dX0_output_31 : decode cX0_output 31 = .ok (.isub, 1) := by decide +kernel
theorem dX0_output_32 : decode cX0_output 32 = .ok (.bipush 7, 2) := by decide +kernel
theorem dX0_output_34 : decode cX0_output 34 = .ok (.iand, 1) := by decide +kernel
theorem dX0_output_35 : decode cX0_output 35 = .ok (.iaload, 1) := by decide +kernel
theorem dX0_output_36 : decode cX0_output 36 = .ok (.ireturn, 1) := by decide +kernel
theorem dX0_skip_0 : decode cX0_skip 0 = .ok (.aload_n 0, 1) := by decide +kernel
theorem dX0_skip_1 : decode cX0_skip 1 = .ok (.iload_n 1, 1) := by decide +kernel
theorem dX0_skip_2 : decode cX0_skip 2 = .ok (.invokevirtual 63, 3) := by decide +kernel
theorem dX0_skip_5 : decode cX0_skip 5 = .ok (.ifCond .eq 6, 3) := by decide +kernel
theorem dX0_skip_8 : decode cX0_skip 8 = .ok (.bipush (-3), 2) := by decide +kernel
theorem dX0_skip_10 : decode cX0_skip 10 = .ok (.ireturn, 1) := by decide +kernel
theorem dX0_skip_11 : decode cX0_skip 11 = .ok (.aload_n 0, 1) := by decide +kernel
theorem dX0_skip_12 : decode cX0_skip 12 = .ok (.getfield 19, 3) := by decide +kernel
theorem dX0_skip_15 : decode cX0_skip 15 = .ok (.iload_n 1, 1) := by decide +kernel
theorem dX0_skip_16 : decode cX0_skip 16 = .ok (.baload, 1) := by decide +kernel
theorem dX0_skip_17 : decode cX0_skip 17 = .ok (.ifCond .eq 12, 3) := by decide +kernel
theorem dX0_skip_20 : decode cX0_skip 20 = .ok (.aload_n 0, 1) := by decide +kernel
theorem dX0_skip_21 : decode cX0_skip 21 = .ok (.getfield 23, 3) := by decide +kernel
theorem dX0_skip_24 : decode cX0_skip 24 = .ok (.iload_n 1, 1) := by decide +kernel
theorem dX0_skip_25 : decode cX0_skip 25 = .ok (.iaload, 1) := by decide +kernel
theorem dX0_skip_26 : decode cX0_skip 26 = .ok (.goto 5, 3) := by decide +kernel
theorem dX0_skip_29 : decode cX0_skip 29 = .ok (.bipush (-3), 2) := by decide +kernel
theorem dX0_skip_31 : decode cX0_skip 31 = .ok (.ireturn, 1) := by decide +kernel
end
section
/-! WovenDebuggerModel -/
set_option maxRecDepth 100000
def RX1 : String := "WovenDebuggerModel"
def TX1 : u_T := fun k => match k with
  | 0 => ("WovenDebuggerModel", "ops", "[I", true)
  | 1 => ("WovenDebuggerModel", "as", "[I", true)
  | 2 => ("WovenDebuggerModel", "bs", "[I", true)
  | 3 => ("WovenDebuggerModel", "size", "I", false)
  | 4 => ("WovenDebuggerModel", "skips", "[I", true)
  | 5 => ("WovenDebuggerModel", "state", "I", false)
  | 6 => ("WovenDebuggerModel", "depth", "I", false)
  | 7 => ("WovenDebuggerModel", "locals", "[I", true)
  | 8 => ("WovenDebuggerModel", "goesOn", "[I", true)
  | 9 => ("WovenDebuggerModel", "gets", "[I", true)
  | 10 => ("WovenDebuggerModel", "counter", "I", false)
  | 11 => ("WovenDebuggerModel", "outputs", "I", false)
  | _ => ("WovenDebuggerModel", "last", "[I", true)
def tyX1 : Nat → FieldType := fun k => match k with
  | 0 => .array .int
  | 1 => .array .int
  | 2 => .array .int
  | 3 => .int
  | 4 => .array .int
  | 5 => .int
  | 6 => .int
  | 7 => .array .int
  | 8 => .array .int
  | 9 => .array .int
  | 10 => .int
  | 11 => .int
  | _ => .array .int
abbrev wsX10 : List Cond := u_ws RX1 TX1 13
set_option maxRecDepth 100000 in
theorem nmX1 : ∀ a, a < 13 → ∀ b, b < 13 → a ≠ b → (TX1 a).2.1 ≠ (TX1 b).2.1 := by decide +kernel
set_option maxRecDepth 100000 in
theorem tyX1_ok : ∀ k, k < 13 → parseFieldDescriptor (TX1 k).2.2.1 = some (tyX1 k) := by decide +kernel
abbrev cX1_init : ByteArray := prog_3_method_1_code
def yX1_init : MethodName := ⟨RX1, "<init>", "()V"⟩
abbrev cX1_emit : ByteArray := prog_3_method_3_code
def yX1_emit : MethodName := ⟨RX1, "emit", "(III)I"⟩
abbrev cX1_start : ByteArray := prog_3_method_4_code
def yX1_start : MethodName := ⟨RX1, "start", "(I)I"⟩
abbrev cX1_noInstruction : ByteArray := prog_3_method_2_code
def yX1_noInstruction : MethodName := ⟨RX1, "noInstruction", "(I)Z"⟩
abbrev cX1_setBreak : ByteArray := prog_3_method_6_code
def yX1_setBreak : MethodName := ⟨RX1, "setBreak", "(II)I"⟩
abbrev cX1_breaks : ByteArray := prog_3_method_5_code
def yX1_breaks : MethodName := ⟨RX1, "breaks", "()I"⟩
abbrev cX1_clearBreak : ByteArray := prog_3_method_7_code
def yX1_clearBreak : MethodName := ⟨RX1, "clearBreak", "(I)I"⟩
abbrev cX1_resume : ByteArray := prog_3_method_11_code
def yX1_resume : MethodName := ⟨RX1, "resume", "(I)I"⟩
abbrev cX1_run : ByteArray := prog_3_method_10_code
def yX1_run : MethodName := ⟨RX1, "run", "(II)I"⟩
abbrev cX1_carryOut : ByteArray := prog_3_method_9_code
def yX1_carryOut : MethodName := ⟨RX1, "carryOut", "()V"⟩
abbrev cX1_out : ByteArray := prog_3_method_8_code
def yX1_out : MethodName := ⟨RX1, "out", "(I)V"⟩
abbrev cX1_stepInto : ByteArray := prog_3_method_12_code
def yX1_stepInto : MethodName := ⟨RX1, "stepInto", "()I"⟩
abbrev cX1_stepOver : ByteArray := prog_3_method_13_code
def yX1_stepOver : MethodName := ⟨RX1, "stepOver", "(I)I"⟩
abbrev cX1_stepOut : ByteArray := prog_3_method_14_code
def yX1_stepOut : MethodName := ⟨RX1, "stepOut", "(I)I"⟩
abbrev cX1_setLocal : ByteArray := prog_3_method_15_code
def yX1_setLocal : MethodName := ⟨RX1, "setLocal", "(II)I"⟩
abbrev cX1_state : ByteArray := prog_3_method_16_code
def yX1_state : MethodName := ⟨RX1, "state", "()I"⟩
abbrev cX1_depth : ByteArray := prog_3_method_17_code
def yX1_depth : MethodName := ⟨RX1, "depth", "()I"⟩
abbrev cX1_counter : ByteArray := prog_3_method_18_code
def yX1_counter : MethodName := ⟨RX1, "counter", "(I)I"⟩
abbrev cX1_local : ByteArray := prog_3_method_19_code
def yX1_local : MethodName := ⟨RX1, "local", "(II)I"⟩
abbrev cX1_outputs : ByteArray := prog_3_method_20_code
def yX1_outputs : MethodName := ⟨RX1, "outputs", "()I"⟩
abbrev cX1_output : ByteArray := prog_3_method_21_code
def yX1_output : MethodName := ⟨RX1, "output", "(I)I"⟩
abbrev cX1_skip : ByteArray := prog_3_method_22_code
def yX1_skip : MethodName := ⟨RX1, "skip", "(I)I"⟩
theorem q23 : (Jvm.Cond.initialized "WovenDebuggerModel") ∈ lw_all := lw_g (lw_at lw_m1 2 rfl) rfl
theorem q239 : (Jvm.Cond.instantiable "WovenDebuggerModel" (13 : Nat)) ∈ lw_all := lw_g (lw_at lw_m1 218 rfl) rfl
theorem q241 : (Jvm.Cond.instanceMethod ({ cls := "WovenDebuggerModel", name := "<init>", desc := "()V" } : Jvm.MethodName)) ∈ lw_all := lw_g (lw_at lw_m1 220 rfl) rfl
theorem q242 : (Jvm.Cond.code ({ cls := "WovenDebuggerModel", name := "<init>", desc := "()V" } : Jvm.MethodName) prog_3_method_1_code (2 : Nat) (Option.none : Option Jvm.ClassFile.FieldType)) ∈ lw_all := lw_g (lw_at lw_m1 221 rfl) rfl
theorem q243 : (Jvm.Cond.methodLink "WovenDebuggerModel" (1 : Nat) ({ cls := "java/lang/Object", name := "<init>", desc := "()V" } : Jvm.MethodName)) ∈ lw_all := lw_g (lw_at lw_m1 222 rfl) rfl
theorem q244 : (Jvm.Cond.fieldLink "WovenDebuggerModel" (7 : Nat) "WovenDebuggerModel" "ops" "[I") ∈ lw_all := lw_g (lw_at lw_m1 223 rfl) rfl
theorem q245 : (Jvm.Cond.fieldLink "WovenDebuggerModel" (13 : Nat) "WovenDebuggerModel" "as" "[I") ∈ lw_all := lw_g (lw_at lw_m1 224 rfl) rfl
theorem q246 : (Jvm.Cond.fieldLink "WovenDebuggerModel" (16 : Nat) "WovenDebuggerModel" "bs" "[I") ∈ lw_all := lw_g (lw_at lw_m1 225 rfl) rfl
theorem q247 : (Jvm.Cond.fieldLink "WovenDebuggerModel" (34 : Nat) "WovenDebuggerModel" "size" "I") ∈ lw_all := lw_g (lw_at lw_m1 226 rfl) rfl
theorem q248 : (Jvm.Cond.fieldLink "WovenDebuggerModel" (19 : Nat) "WovenDebuggerModel" "skips" "[I") ∈ lw_all := lw_g (lw_at lw_m1 227 rfl) rfl
theorem q249 : (Jvm.Cond.fieldLink "WovenDebuggerModel" (38 : Nat) "WovenDebuggerModel" "state" "I") ∈ lw_all := lw_g (lw_at lw_m1 228 rfl) rfl
theorem q250 : (Jvm.Cond.fieldLink "WovenDebuggerModel" (45 : Nat) "WovenDebuggerModel" "depth" "I") ∈ lw_all := lw_g (lw_at lw_m1 229 rfl) rfl
theorem q251 : (Jvm.Cond.fieldLink "WovenDebuggerModel" (22 : Nat) "WovenDebuggerModel" "locals" "[I") ∈ lw_all := lw_g (lw_at lw_m1 230 rfl) rfl
theorem q252 : (Jvm.Cond.fieldLink "WovenDebuggerModel" (25 : Nat) "WovenDebuggerModel" "goesOn" "[I") ∈ lw_all := lw_g (lw_at lw_m1 231 rfl) rfl
theorem q253 : (Jvm.Cond.fieldLink "WovenDebuggerModel" (28 : Nat) "WovenDebuggerModel" "gets" "[I") ∈ lw_all := lw_g (lw_at lw_m1 232 rfl) rfl
theorem q254 : (Jvm.Cond.fieldLink "WovenDebuggerModel" (48 : Nat) "WovenDebuggerModel" "counter" "I") ∈ lw_all := lw_g (lw_at lw_m1 233 rfl) rfl
theorem q255 : (Jvm.Cond.fieldLink "WovenDebuggerModel" (51 : Nat) "WovenDebuggerModel" "outputs" "I") ∈ lw_all := lw_g (lw_at lw_m1 234 rfl) rfl
theorem q256 : (Jvm.Cond.fieldLink "WovenDebuggerModel" (31 : Nat) "WovenDebuggerModel" "last" "[I") ∈ lw_all := lw_g (lw_at lw_m1 235 rfl) rfl
theorem q257 : (Jvm.Cond.laysFinal "WovenDebuggerModel" "WovenDebuggerModel" "ops" "[I") ∈ lw_all := lw_g (lw_at lw_m1 236 rfl) rfl
theorem q258 : (Jvm.Cond.soleField "WovenDebuggerModel" "ops") ∈ lw_all := lw_g (lw_at lw_m1 237 rfl) rfl
theorem q259 : (Jvm.Cond.laysFinal "WovenDebuggerModel" "WovenDebuggerModel" "as" "[I") ∈ lw_all := lw_g (lw_at lw_m1 238 rfl) rfl
theorem q260 : (Jvm.Cond.soleField "WovenDebuggerModel" "as") ∈ lw_all := lw_g (lw_at lw_m1 239 rfl) rfl
theorem q261 : (Jvm.Cond.laysFinal "WovenDebuggerModel" "WovenDebuggerModel" "bs" "[I") ∈ lw_all := lw_g (lw_at lw_m2 0 rfl) rfl
theorem q262 : (Jvm.Cond.soleField "WovenDebuggerModel" "bs") ∈ lw_all := lw_g (lw_at lw_m2 1 rfl) rfl
theorem q263 : (Jvm.Cond.lays "WovenDebuggerModel" "WovenDebuggerModel" "size" "I") ∈ lw_all := lw_g (lw_at lw_m2 2 rfl) rfl
theorem q264 : (Jvm.Cond.soleField "WovenDebuggerModel" "size") ∈ lw_all := lw_g (lw_at lw_m2 3 rfl) rfl
theorem q265 : (Jvm.Cond.laysFinal "WovenDebuggerModel" "WovenDebuggerModel" "skips" "[I") ∈ lw_all := lw_g (lw_at lw_m2 4 rfl) rfl
theorem q266 : (Jvm.Cond.soleField "WovenDebuggerModel" "skips") ∈ lw_all := lw_g (lw_at lw_m2 5 rfl) rfl
theorem q267 : (Jvm.Cond.lays "WovenDebuggerModel" "WovenDebuggerModel" "state" "I") ∈ lw_all := lw_g (lw_at lw_m2 6 rfl) rfl
theorem q268 : (Jvm.Cond.soleField "WovenDebuggerModel" "state") ∈ lw_all := lw_g (lw_at lw_m2 7 rfl) rfl
theorem q269 : (Jvm.Cond.lays "WovenDebuggerModel" "WovenDebuggerModel" "depth" "I") ∈ lw_all := lw_g (lw_at lw_m2 8 rfl) rfl
theorem q270 : (Jvm.Cond.soleField "WovenDebuggerModel" "depth") ∈ lw_all := lw_g (lw_at lw_m2 9 rfl) rfl
theorem q271 : (Jvm.Cond.laysFinal "WovenDebuggerModel" "WovenDebuggerModel" "locals" "[I") ∈ lw_all := lw_g (lw_at lw_m2 10 rfl) rfl
theorem q272 : (Jvm.Cond.soleField "WovenDebuggerModel" "locals") ∈ lw_all := lw_g (lw_at lw_m2 11 rfl) rfl
theorem q273 : (Jvm.Cond.laysFinal "WovenDebuggerModel" "WovenDebuggerModel" "goesOn" "[I") ∈ lw_all := lw_g (lw_at lw_m2 12 rfl) rfl
theorem q274 : (Jvm.Cond.soleField "WovenDebuggerModel" "goesOn") ∈ lw_all := lw_g (lw_at lw_m2 13 rfl) rfl
theorem q275 : (Jvm.Cond.laysFinal "WovenDebuggerModel" "WovenDebuggerModel" "gets" "[I") ∈ lw_all := lw_g (lw_at lw_m2 14 rfl) rfl
theorem q276 : (Jvm.Cond.soleField "WovenDebuggerModel" "gets") ∈ lw_all := lw_g (lw_at lw_m2 15 rfl) rfl
theorem q277 : (Jvm.Cond.lays "WovenDebuggerModel" "WovenDebuggerModel" "counter" "I") ∈ lw_all := lw_g (lw_at lw_m2 16 rfl) rfl
theorem q278 : (Jvm.Cond.soleField "WovenDebuggerModel" "counter") ∈ lw_all := lw_g (lw_at lw_m2 17 rfl) rfl
theorem q279 : (Jvm.Cond.lays "WovenDebuggerModel" "WovenDebuggerModel" "outputs" "I") ∈ lw_all := lw_g (lw_at lw_m2 18 rfl) rfl
theorem q280 : (Jvm.Cond.soleField "WovenDebuggerModel" "outputs") ∈ lw_all := lw_g (lw_at lw_m2 19 rfl) rfl
theorem q281 : (Jvm.Cond.laysFinal "WovenDebuggerModel" "WovenDebuggerModel" "last" "[I") ∈ lw_all := lw_g (lw_at lw_m2 20 rfl) rfl
theorem q282 : (Jvm.Cond.soleField "WovenDebuggerModel" "last") ∈ lw_all := lw_g (lw_at lw_m2 21 rfl) rfl
theorem q283 : (Jvm.Cond.superclass "WovenDebuggerModel" "java/lang/Object") ∈ lw_all := lw_g (lw_at lw_m2 22 rfl) rfl
theorem q285 : (Jvm.Cond.instanceMethod ({ cls := "WovenDebuggerModel", name := "emit", desc := "(III)I" } : Jvm.MethodName)) ∈ lw_all := lw_g (lw_at lw_m2 24 rfl) rfl
theorem q286 : (Jvm.Cond.selects "WovenDebuggerModel" ({ cls := "WovenDebuggerModel", name := "emit", desc := "(III)I" } : Jvm.MethodName) ({ cls := "WovenDebuggerModel", name := "emit", desc := "(III)I" } : Jvm.MethodName)) ∈ lw_all := lw_g (lw_at lw_m2 25 rfl) rfl
theorem q287 : (Jvm.Cond.code ({ cls := "WovenDebuggerModel", name := "emit", desc := "(III)I" } : Jvm.MethodName) prog_3_method_3_code (4 : Nat) (Option.some Jvm.ClassFile.FieldType.int)) ∈ lw_all := lw_g (lw_at lw_m2 26 rfl) rfl
theorem q289 : (Jvm.Cond.instanceMethod ({ cls := "WovenDebuggerModel", name := "start", desc := "(I)I" } : Jvm.MethodName)) ∈ lw_all := lw_g (lw_at lw_m2 28 rfl) rfl
theorem q290 : (Jvm.Cond.selects "WovenDebuggerModel" ({ cls := "WovenDebuggerModel", name := "start", desc := "(I)I" } : Jvm.MethodName) ({ cls := "WovenDebuggerModel", name := "start", desc := "(I)I" } : Jvm.MethodName)) ∈ lw_all := lw_g (lw_at lw_m2 29 rfl) rfl
theorem q291 : (Jvm.Cond.code ({ cls := "WovenDebuggerModel", name := "start", desc := "(I)I" } : Jvm.MethodName) prog_3_method_4_code (3 : Nat) (Option.some Jvm.ClassFile.FieldType.int)) ∈ lw_all := lw_g (lw_at lw_m2 30 rfl) rfl
theorem q292 : (Jvm.Cond.methodLink "WovenDebuggerModel" (41 : Nat) ({ cls := "WovenDebuggerModel", name := "noInstruction", desc := "(I)Z" } : Jvm.MethodName)) ∈ lw_all := lw_g (lw_at lw_m2 31 rfl) rfl
theorem q293 : (Jvm.Cond.privateMethod ({ cls := "WovenDebuggerModel", name := "noInstruction", desc := "(I)Z" } : Jvm.MethodName)) ∈ lw_tbl := lw_at lw_m2 32 rfl
theorem q294 : (Jvm.Cond.instanceMethod ({ cls := "WovenDebuggerModel", name := "noInstruction", desc := "(I)Z" } : Jvm.MethodName)) ∈ lw_all := lw_g (lw_at lw_m2 33 rfl) rfl
theorem q295 : (Jvm.Cond.code ({ cls := "WovenDebuggerModel", name := "noInstruction", desc := "(I)Z" } : Jvm.MethodName) prog_3_method_2_code (2 : Nat) (Option.some Jvm.ClassFile.FieldType.boolean)) ∈ lw_all := lw_g (lw_at lw_m2 34 rfl) rfl
theorem q297 : (Jvm.Cond.instanceMethod ({ cls := "WovenDebuggerModel", name := "setBreak", desc := "(II)I" } : Jvm.MethodName)) ∈ lw_all := lw_g (lw_at lw_m2 36 rfl) rfl
theorem q298 : (Jvm.Cond.selects "WovenDebuggerModel" ({ cls := "WovenDebuggerModel", name := "setBreak", desc := "(II)I" } : Jvm.MethodName) ({ cls := "WovenDebuggerModel", name := "setBreak", desc := "(II)I" } : Jvm.MethodName)) ∈ lw_all := lw_g (lw_at lw_m2 37 rfl) rfl
theorem q299 : (Jvm.Cond.code ({ cls := "WovenDebuggerModel", name := "setBreak", desc := "(II)I" } : Jvm.MethodName) prog_3_method_6_code (3 : Nat) (Option.some Jvm.ClassFile.FieldType.int)) ∈ lw_all := lw_g (lw_at lw_m2 38 rfl) rfl
theorem q300 : (Jvm.Cond.methodLink "WovenDebuggerModel" (54 : Nat) ({ cls := "WovenDebuggerModel", name := "breaks", desc := "()I" } : Jvm.MethodName)) ∈ lw_all := lw_g (lw_at lw_m2 39 rfl) rfl
theorem q301 : (Jvm.Cond.privateMethod ({ cls := "WovenDebuggerModel", name := "breaks", desc := "()I" } : Jvm.MethodName)) ∈ lw_tbl := lw_at lw_m2 40 rfl
theorem q302 : (Jvm.Cond.instanceMethod ({ cls := "WovenDebuggerModel", name := "breaks", desc := "()I" } : Jvm.MethodName)) ∈ lw_all := lw_g (lw_at lw_m2 41 rfl) rfl
theorem q303 : (Jvm.Cond.code ({ cls := "WovenDebuggerModel", name := "breaks", desc := "()I" } : Jvm.MethodName) prog_3_method_5_code (3 : Nat) (Option.some Jvm.ClassFile.FieldType.int)) ∈ lw_all := lw_g (lw_at lw_m2 42 rfl) rfl
theorem q305 : (Jvm.Cond.instanceMethod ({ cls := "WovenDebuggerModel", name := "clearBreak", desc := "(I)I" } : Jvm.MethodName)) ∈ lw_all := lw_g (lw_at lw_m2 44 rfl) rfl
theorem q306 : (Jvm.Cond.selects "WovenDebuggerModel" ({ cls := "WovenDebuggerModel", name := "clearBreak", desc := "(I)I" } : Jvm.MethodName) ({ cls := "WovenDebuggerModel", name := "clearBreak", desc := "(I)I" } : Jvm.MethodName)) ∈ lw_all := lw_g (lw_at lw_m2 45 rfl) rfl
theorem q307 : (Jvm.Cond.code ({ cls := "WovenDebuggerModel", name := "clearBreak", desc := "(I)I" } : Jvm.MethodName) prog_3_method_7_code (2 : Nat) (Option.some Jvm.ClassFile.FieldType.int)) ∈ lw_all := lw_g (lw_at lw_m2 46 rfl) rfl
theorem q309 : (Jvm.Cond.instanceMethod ({ cls := "WovenDebuggerModel", name := "resume", desc := "(I)I" } : Jvm.MethodName)) ∈ lw_all := lw_g (lw_at lw_m2 48 rfl) rfl
theorem q310 : (Jvm.Cond.selects "WovenDebuggerModel" ({ cls := "WovenDebuggerModel", name := "resume", desc := "(I)I" } : Jvm.MethodName) ({ cls := "WovenDebuggerModel", name := "resume", desc := "(I)I" } : Jvm.MethodName)) ∈ lw_all := lw_g (lw_at lw_m2 49 rfl) rfl
theorem q311 : (Jvm.Cond.code ({ cls := "WovenDebuggerModel", name := "resume", desc := "(I)I" } : Jvm.MethodName) prog_3_method_11_code (2 : Nat) (Option.some Jvm.ClassFile.FieldType.int)) ∈ lw_all := lw_g (lw_at lw_m2 50 rfl) rfl
theorem q312 : (Jvm.Cond.methodLink "WovenDebuggerModel" (65 : Nat) ({ cls := "WovenDebuggerModel", name := "run", desc := "(II)I" } : Jvm.MethodName)) ∈ lw_all := lw_g (lw_at lw_m2 51 rfl) rfl
theorem q313 : (Jvm.Cond.privateMethod ({ cls := "WovenDebuggerModel", name := "run", desc := "(II)I" } : Jvm.MethodName)) ∈ lw_tbl := lw_at lw_m2 52 rfl
theorem q314 : (Jvm.Cond.instanceMethod ({ cls := "WovenDebuggerModel", name := "run", desc := "(II)I" } : Jvm.MethodName)) ∈ lw_all := lw_g (lw_at lw_m2 53 rfl) rfl
theorem q315 : (Jvm.Cond.code ({ cls := "WovenDebuggerModel", name := "run", desc := "(II)I" } : Jvm.MethodName) prog_3_method_10_code (5 : Nat) (Option.some Jvm.ClassFile.FieldType.int)) ∈ lw_all := lw_g (lw_at lw_m2 54 rfl) rfl
theorem q316 : (Jvm.Cond.methodLink "WovenDebuggerModel" (62 : Nat) ({ cls := "WovenDebuggerModel", name := "carryOut", desc := "()V" } : Jvm.MethodName)) ∈ lw_all := lw_g (lw_at lw_m2 55 rfl) rfl
theorem q317 : (Jvm.Cond.privateMethod ({ cls := "WovenDebuggerModel", name := "carryOut", desc := "()V" } : Jvm.MethodName)) ∈ lw_tbl := lw_at lw_m2 56 rfl
theorem q318 : (Jvm.Cond.instanceMethod ({ cls := "WovenDebuggerModel", name := "carryOut", desc := "()V" } : Jvm.MethodName)) ∈ lw_all := lw_g (lw_at lw_m2 57 rfl) rfl
theorem q319 : (Jvm.Cond.code ({ cls := "WovenDebuggerModel", name := "carryOut", desc := "()V" } : Jvm.MethodName) prog_3_method_9_code (8 : Nat) (Option.none : Option Jvm.ClassFile.FieldType)) ∈ lw_all := lw_g (lw_at lw_m2 58 rfl) rfl
theorem q320 : (Jvm.Cond.methodLink "WovenDebuggerModel" (58 : Nat) ({ cls := "WovenDebuggerModel", name := "out", desc := "(I)V" } : Jvm.MethodName)) ∈ lw_all := lw_g (lw_at lw_m2 59 rfl) rfl
theorem q321 : (Jvm.Cond.privateMethod ({ cls := "WovenDebuggerModel", name := "out", desc := "(I)V" } : Jvm.MethodName)) ∈ lw_tbl := lw_at lw_m2 60 rfl
theorem q322 : (Jvm.Cond.instanceMethod ({ cls := "WovenDebuggerModel", name := "out", desc := "(I)V" } : Jvm.MethodName)) ∈ lw_all := lw_g (lw_at lw_m2 61 rfl) rfl
theorem q323 : (Jvm.Cond.code ({ cls := "WovenDebuggerModel", name := "out", desc := "(I)V" } : Jvm.MethodName) prog_3_method_8_code (3 : Nat) (Option.none : Option Jvm.ClassFile.FieldType)) ∈ lw_all := lw_g (lw_at lw_m2 62 rfl) rfl
theorem q325 : (Jvm.Cond.instanceMethod ({ cls := "WovenDebuggerModel", name := "stepInto", desc := "()I" } : Jvm.MethodName)) ∈ lw_all := lw_g (lw_at lw_m2 64 rfl) rfl
theorem q326 : (Jvm.Cond.selects "WovenDebuggerModel" ({ cls := "WovenDebuggerModel", name := "stepInto", desc := "()I" } : Jvm.MethodName) ({ cls := "WovenDebuggerModel", name := "stepInto", desc := "()I" } : Jvm.MethodName)) ∈ lw_all := lw_g (lw_at lw_m2 65 rfl) rfl
theorem q327 : (Jvm.Cond.code ({ cls := "WovenDebuggerModel", name := "stepInto", desc := "()I" } : Jvm.MethodName) prog_3_method_12_code (1 : Nat) (Option.some Jvm.ClassFile.FieldType.int)) ∈ lw_all := lw_g (lw_at lw_m2 66 rfl) rfl
theorem q329 : (Jvm.Cond.instanceMethod ({ cls := "WovenDebuggerModel", name := "stepOver", desc := "(I)I" } : Jvm.MethodName)) ∈ lw_all := lw_g (lw_at lw_m2 68 rfl) rfl
theorem q330 : (Jvm.Cond.selects "WovenDebuggerModel" ({ cls := "WovenDebuggerModel", name := "stepOver", desc := "(I)I" } : Jvm.MethodName) ({ cls := "WovenDebuggerModel", name := "stepOver", desc := "(I)I" } : Jvm.MethodName)) ∈ lw_all := lw_g (lw_at lw_m2 69 rfl) rfl
theorem q331 : (Jvm.Cond.code ({ cls := "WovenDebuggerModel", name := "stepOver", desc := "(I)I" } : Jvm.MethodName) prog_3_method_13_code (2 : Nat) (Option.some Jvm.ClassFile.FieldType.int)) ∈ lw_all := lw_g (lw_at lw_m2 70 rfl) rfl
theorem q333 : (Jvm.Cond.instanceMethod ({ cls := "WovenDebuggerModel", name := "stepOut", desc := "(I)I" } : Jvm.MethodName)) ∈ lw_all := lw_g (lw_at lw_m2 72 rfl) rfl
theorem q334 : (Jvm.Cond.selects "WovenDebuggerModel" ({ cls := "WovenDebuggerModel", name := "stepOut", desc := "(I)I" } : Jvm.MethodName) ({ cls := "WovenDebuggerModel", name := "stepOut", desc := "(I)I" } : Jvm.MethodName)) ∈ lw_all := lw_g (lw_at lw_m2 73 rfl) rfl
theorem q335 : (Jvm.Cond.code ({ cls := "WovenDebuggerModel", name := "stepOut", desc := "(I)I" } : Jvm.MethodName) prog_3_method_14_code (2 : Nat) (Option.some Jvm.ClassFile.FieldType.int)) ∈ lw_all := lw_g (lw_at lw_m2 74 rfl) rfl
theorem q337 : (Jvm.Cond.instanceMethod ({ cls := "WovenDebuggerModel", name := "setLocal", desc := "(II)I" } : Jvm.MethodName)) ∈ lw_all := lw_g (lw_at lw_m2 76 rfl) rfl
theorem q338 : (Jvm.Cond.selects "WovenDebuggerModel" ({ cls := "WovenDebuggerModel", name := "setLocal", desc := "(II)I" } : Jvm.MethodName) ({ cls := "WovenDebuggerModel", name := "setLocal", desc := "(II)I" } : Jvm.MethodName)) ∈ lw_all := lw_g (lw_at lw_m2 77 rfl) rfl
theorem q339 : (Jvm.Cond.code ({ cls := "WovenDebuggerModel", name := "setLocal", desc := "(II)I" } : Jvm.MethodName) prog_3_method_15_code (3 : Nat) (Option.some Jvm.ClassFile.FieldType.int)) ∈ lw_all := lw_g (lw_at lw_m2 78 rfl) rfl
theorem q341 : (Jvm.Cond.instanceMethod ({ cls := "WovenDebuggerModel", name := "state", desc := "()I" } : Jvm.MethodName)) ∈ lw_all := lw_g (lw_at lw_m2 80 rfl) rfl
theorem q342 : (Jvm.Cond.selects "WovenDebuggerModel" ({ cls := "WovenDebuggerModel", name := "state", desc := "()I" } : Jvm.MethodName) ({ cls := "WovenDebuggerModel", name := "state", desc := "()I" } : Jvm.MethodName)) ∈ lw_all := lw_g (lw_at lw_m2 81 rfl) rfl
theorem q343 : (Jvm.Cond.code ({ cls := "WovenDebuggerModel", name := "state", desc := "()I" } : Jvm.MethodName) prog_3_method_16_code (1 : Nat) (Option.some Jvm.ClassFile.FieldType.int)) ∈ lw_all := lw_g (lw_at lw_m2 82 rfl) rfl
theorem q345 : (Jvm.Cond.instanceMethod ({ cls := "WovenDebuggerModel", name := "depth", desc := "()I" } : Jvm.MethodName)) ∈ lw_all := lw_g (lw_at lw_m2 84 rfl) rfl
theorem q346 : (Jvm.Cond.selects "WovenDebuggerModel" ({ cls := "WovenDebuggerModel", name := "depth", desc := "()I" } : Jvm.MethodName) ({ cls := "WovenDebuggerModel", name := "depth", desc := "()I" } : Jvm.MethodName)) ∈ lw_all := lw_g (lw_at lw_m2 85 rfl) rfl
theorem q347 : (Jvm.Cond.code ({ cls := "WovenDebuggerModel", name := "depth", desc := "()I" } : Jvm.MethodName) prog_3_method_17_code (1 : Nat) (Option.some Jvm.ClassFile.FieldType.int)) ∈ lw_all := lw_g (lw_at lw_m2 86 rfl) rfl
theorem q349 : (Jvm.Cond.instanceMethod ({ cls := "WovenDebuggerModel", name := "counter", desc := "(I)I" } : Jvm.MethodName)) ∈ lw_all := lw_g (lw_at lw_m2 88 rfl) rfl
theorem q350 : (Jvm.Cond.selects "WovenDebuggerModel" ({ cls := "WovenDebuggerModel", name := "counter", desc := "(I)I" } : Jvm.MethodName) ({ cls := "WovenDebuggerModel", name := "counter", desc := "(I)I" } : Jvm.MethodName)) ∈ lw_all := lw_g (lw_at lw_m2 89 rfl) rfl
theorem q351 : (Jvm.Cond.code ({ cls := "WovenDebuggerModel", name := "counter", desc := "(I)I" } : Jvm.MethodName) prog_3_method_18_code (2 : Nat) (Option.some Jvm.ClassFile.FieldType.int)) ∈ lw_all := lw_g (lw_at lw_m2 90 rfl) rfl
theorem q353 : (Jvm.Cond.instanceMethod ({ cls := "WovenDebuggerModel", name := "local", desc := "(II)I" } : Jvm.MethodName)) ∈ lw_all := lw_g (lw_at lw_m2 92 rfl) rfl
theorem q354 : (Jvm.Cond.selects "WovenDebuggerModel" ({ cls := "WovenDebuggerModel", name := "local", desc := "(II)I" } : Jvm.MethodName) ({ cls := "WovenDebuggerModel", name := "local", desc := "(II)I" } : Jvm.MethodName)) ∈ lw_all := lw_g (lw_at lw_m2 93 rfl) rfl
theorem q355 : (Jvm.Cond.code ({ cls := "WovenDebuggerModel", name := "local", desc := "(II)I" } : Jvm.MethodName) prog_3_method_19_code (3 : Nat) (Option.some Jvm.ClassFile.FieldType.int)) ∈ lw_all := lw_g (lw_at lw_m2 94 rfl) rfl
theorem q357 : (Jvm.Cond.instanceMethod ({ cls := "WovenDebuggerModel", name := "outputs", desc := "()I" } : Jvm.MethodName)) ∈ lw_all := lw_g (lw_at lw_m2 96 rfl) rfl
theorem q358 : (Jvm.Cond.selects "WovenDebuggerModel" ({ cls := "WovenDebuggerModel", name := "outputs", desc := "()I" } : Jvm.MethodName) ({ cls := "WovenDebuggerModel", name := "outputs", desc := "()I" } : Jvm.MethodName)) ∈ lw_all := lw_g (lw_at lw_m2 97 rfl) rfl
theorem q359 : (Jvm.Cond.code ({ cls := "WovenDebuggerModel", name := "outputs", desc := "()I" } : Jvm.MethodName) prog_3_method_20_code (1 : Nat) (Option.some Jvm.ClassFile.FieldType.int)) ∈ lw_all := lw_g (lw_at lw_m2 98 rfl) rfl
theorem q361 : (Jvm.Cond.instanceMethod ({ cls := "WovenDebuggerModel", name := "output", desc := "(I)I" } : Jvm.MethodName)) ∈ lw_all := lw_g (lw_at lw_m2 100 rfl) rfl
theorem q362 : (Jvm.Cond.selects "WovenDebuggerModel" ({ cls := "WovenDebuggerModel", name := "output", desc := "(I)I" } : Jvm.MethodName) ({ cls := "WovenDebuggerModel", name := "output", desc := "(I)I" } : Jvm.MethodName)) ∈ lw_all := lw_g (lw_at lw_m2 101 rfl) rfl
theorem q363 : (Jvm.Cond.code ({ cls := "WovenDebuggerModel", name := "output", desc := "(I)I" } : Jvm.MethodName) prog_3_method_21_code (2 : Nat) (Option.some Jvm.ClassFile.FieldType.int)) ∈ lw_all := lw_g (lw_at lw_m2 102 rfl) rfl
theorem q365 : (Jvm.Cond.instanceMethod ({ cls := "WovenDebuggerModel", name := "skip", desc := "(I)I" } : Jvm.MethodName)) ∈ lw_all := lw_g (lw_at lw_m2 104 rfl) rfl
theorem q366 : (Jvm.Cond.selects "WovenDebuggerModel" ({ cls := "WovenDebuggerModel", name := "skip", desc := "(I)I" } : Jvm.MethodName) ({ cls := "WovenDebuggerModel", name := "skip", desc := "(I)I" } : Jvm.MethodName)) ∈ lw_all := lw_g (lw_at lw_m2 105 rfl) rfl
theorem q367 : (Jvm.Cond.code ({ cls := "WovenDebuggerModel", name := "skip", desc := "(I)I" } : Jvm.MethodName) prog_3_method_22_code (2 : Nat) (Option.some Jvm.ClassFile.FieldType.int)) ∈ lw_all := lw_g (lw_at lw_m2 106 rfl) rfl
theorem in_X1 : ∀ w ∈ wsX10, w ∈ lw_all := lw_in wsX10 [257, 259, 261, 263, 265, 267, 269, 271, 273, 275, 277, 279, 281] (by decide +kernel) (by decide +kernel)
end
section
set_option maxRecDepth 100000
theorem dX1_init_0 : decode cX1_init 0 = .ok (.aload_n 0, 1) := by decide +kernel
theorem dX1_init_1 : decode cX1_init 1 = .ok (.invokespecial 1, 3) := by decide +kernel
theorem dX1_init_4 : decode cX1_init 4 = .ok (.aload_n 0, 1) := by decide +kernel
theorem dX1_init_5 : decode cX1_init 5 = .ok (.bipush 20, 2) := by decide +kernel
theorem dX1_init_7 : decode cX1_init 7 = .ok (.newarray .int, 2) := by decide +kernel
theorem dX1_init_9 : decode cX1_init 9 = .ok (.putfield 7, 3) := by decide +kernel
theorem dX1_init_12 : decode cX1_init 12 = .ok (.aload_n 0, 1) := by decide +kernel
theorem dX1_init_13 : decode cX1_init 13 = .ok (.bipush 20, 2) := by decide +kernel
theorem dX1_init_15 : decode cX1_init 15 = .ok (.newarray .int, 2) := by decide +kernel
theorem dX1_init_17 : decode cX1_init 17 = .ok (.putfield 13, 3) := by decide +kernel
theorem dX1_init_20 : decode cX1_init 20 = .ok (.aload_n 0, 1) := by decide +kernel
theorem dX1_init_21 : decode cX1_init 21 = .ok (.bipush 20, 2) := by decide +kernel
theorem dX1_init_23 : decode cX1_init 23 = .ok (.newarray .int, 2) := by decide +kernel
theorem dX1_init_25 : decode cX1_init 25 = .ok (.putfield 16, 3) := by decide +kernel
theorem dX1_init_28 : decode cX1_init 28 = .ok (.aload_n 0, 1) := by decide +kernel
theorem dX1_init_29 : decode cX1_init 29 = .ok (.bipush 20, 2) := by decide +kernel
theorem dX1_init_31 : decode cX1_init 31 = .ok (.newarray .int, 2) := by decide +kernel
theorem dX1_init_33 : decode cX1_init 33 = .ok (.putfield 19, 3) := by decide +kernel
theorem dX1_init_36 : decode cX1_init 36 = .ok (.aload_n 0, 1) := by decide +kernel
theorem dX1_init_37 : decode cX1_init 37 = .ok (.bipush 24, 2) := by decide +kernel
theorem dX1_init_39 : decode cX1_init 39 = .ok (.newarray .int, 2) := by decide +kernel
theorem dX1_init_41 : decode cX1_init 41 = .ok (.putfield 22, 3) := by decide +kernel
theorem dX1_init_44 : decode cX1_init 44 = .ok (.aload_n 0, 1) := by decide +kernel
theorem dX1_init_45 : decode cX1_init 45 = .ok (.bipush 6, 2) := by decide +kernel
theorem dX1_init_47 : decode cX1_init 47 = .ok (.newarray .int, 2) := by decide +kernel
theorem dX1_init_49 : decode cX1_init 49 = .ok (.putfield 25, 3) := by decide +kernel
theorem dX1_init_52 : decode cX1_init 52 = .ok (.aload_n 0, 1) := by decide +kernel
theorem dX1_init_53 : decode cX1_init 53 = .ok (.bipush 6, 2) := by decide +kernel
theorem dX1_init_55 : decode cX1_init 55 = .ok (.newarray .int, 2) := by decide +kernel
theorem dX1_init_57 : decode cX1_init 57 = .ok (.putfield 28, 3) := by decide +kernel
theorem dX1_init_60 : decode cX1_init 60 = .ok (.aload_n 0, 1) := by decide +kernel
theorem dX1_init_61 : decode cX1_init 61 = .ok (.bipush 8, 2) := by decide +kernel
theorem dX1_init_63 : decode cX1_init 63 = .ok (.newarray .int, 2) := by decide +kernel
theorem dX1_init_65 : decode cX1_init 65 = .ok (.putfield 31, 3) := by decide +kernel
theorem dX1_init_68 : decode cX1_init 68 = .ok (.iconst 0, 1) := by decide +kernel
theorem dX1_init_69 : decode cX1_init 69 = .ok (.istore_n 1, 1) := by decide +kernel
theorem dX1_init_70 : decode cX1_init 70 = .ok (.iload_n 1, 1) := by decide +kernel
theorem dX1_init_71 : decode cX1_init 71 = .ok (.bipush 20, 2) := by decide +kernel
theorem dX1_init_73 : decode cX1_init 73 = .ok (.if_icmp .ge 16, 3) := by decide +kernel
theorem dX1_init_76 : decode cX1_init 76 = .ok (.aload_n 0, 1) := by decide +kernel
theorem dX1_init_77 : decode cX1_init 77 = .ok (.getfield 19, 3) := by decide +kernel
theorem dX1_init_80 : decode cX1_init 80 = .ok (.iload_n 1, 1) := by decide +kernel
theorem dX1_init_81 : decode cX1_init 81 = .ok (.iconst (-1), 1) := by decide +kernel
theorem dX1_init_82 : decode cX1_init 82 = .ok (.iastore, 1) := by decide +kernel
theorem dX1_init_83 : decode cX1_init 83 = .ok (.iinc 1 1, 3) := by decide +kernel
theorem dX1_init_86 : decode cX1_init 86 = .ok (.goto (-16), 3) := by decide +kernel
theorem dX1_init_89 : decode cX1_init 89 = .ok (.return_, 1) := by decide +kernel
theorem dX1_emit_0 : decode cX1_emit 0 = .ok (.iload_n 1, 1) := by decide +kernel
theorem dX1_emit_1 : decode cX1_emit 1 = .ok (.ifCond .lt 9, 3) := by decide +kernel
theorem dX1_emit_4 : decode cX1_emit 4 = .ok (.iload_n 1, 1) := by decide +kernel
theorem dX1_emit_5 : decode cX1_emit 5 = .ok (.bipush 10, 2) := by decide +kernel
theorem dX1_emit_7 : decode cX1_emit 7 = .ok (.if_icmp .le 5, 3) := by decide +kernel
theorem dX1_emit_10 : decode cX1_emit 10 = .ok (.iconst (-1), 1) := by decide +kernel
theorem dX1_emit_11 : decode cX1_emit 11 = .ok (.ireturn, 1) := by decide +kernel
theorem dX1_emit_12 : decode cX1_emit 12 = .ok (.aload_n 0, 1) := by decide +kernel
theorem dX1_emit_13 : decode cX1_emit 13 = .ok (.getfield 34, 3) := by decide +kernel
theorem dX1_emit_16 : decode cX1_emit 16 = .ok (.bipush 20, 2) := by decide +kernel
theorem dX1_emit_18 : decode cX1_emit 18 = .ok (.if_icmp .ne 6, 3) := by decide +kernel
theorem dX1_emit_21 : decode cX1_emit 21 = .ok (.bipush (-2), 2) := by decide +kernel
theorem dX1_emit_23 : decode cX1_emit 23 = .ok (.ireturn, 1) := by decide +kernel
theorem dX1_emit_24 : decode cX1_emit 24 = .ok (.aload_n 0, 1) := by decide +kernel
theorem dX1_emit_25 : decode cX1_emit 25 = .ok (.getfield 38, 3) := by decide +kernel
theorem dX1_emit_28 : decode cX1_emit 28 = .ok (.ifCond .eq 6, 3) := by decide +kernel
theorem dX1_emit_31 : decode cX1_emit 31 = .ok (.bipush (-3), 2) := by decide +kernel
theorem dX1_emit_33 : decode cX1_emit 33 = .ok (.ireturn, 1) := by decide +kernel
theorem dX1_emit_34 : decode cX1_emit 34 = .ok (.aload_n 0, 1) := by decide +kernel
theorem dX1_emit_35 : decode cX1_emit 35 = .ok (.getfield 7, 3) := by decide +kernel
theorem dX1_emit_38 : decode cX1_emit 38 = .ok (.aload_n 0, 1) := by decide +kernel
theorem dX1_emit_39 : decode cX1_emit 39 = .ok (.getfield 34, 3) := by decide +kernel
theorem dX1_emit_42 : decode cX1_emit 42 = .ok (.iload_n 1, 1) := by decide +kernel
theorem dX1_emit_43 : decode cX1_emit 43 = .ok (.iastore, 1) := by decide +kernel
theorem dX1_emit_44 : decode cX1_emit 44 = .ok (.aload_n 0, 1) := by decide +kernel
theorem dX1_emit_45 : decode cX1_emit 45 = .ok (.getfield 13, 3) := by decide +kernel
theorem dX1_emit_48 : decode cX1_emit 48 = .ok (.aload_n 0, 1) := by decide +kernel
theorem dX1_emit_49 : decode cX1_emit 49 = .ok (.getfield 34, 3) := by decide +kernel
theorem dX1_emit_52 : decode cX1_emit 52 = .ok (.iload_n 2, 1) := by decide +kernel
theorem dX1_emit_53 : decode cX1_emit 53 = .ok (.iastore, 1) := by decide +kernel
theorem dX1_emit_54 : decode cX1_emit 54 = .ok (.aload_n 0, 1) := by decide +kernel
theorem dX1_emit_55 : decode cX1_emit 55 = .ok (.getfield 16, 3) := by decide +kernel
theorem dX1_emit_58 : decode cX1_emit 58 = .ok (.aload_n 0, 1) := by decide +kernel
theorem dX1_emit_59 : decode cX1_emit 59 = .ok (.getfield 34, 3) := by decide +kernel
theorem dX1_emit_62 : decode cX1_emit 62 = .ok (.iload_n 3, 1) := by decide +kernel
theorem dX1_emit_63 : decode cX1_emit 63 = .ok (.iastore, 1) := by decide +kernel
theorem dX1_emit_64 : decode cX1_emit 64 = .ok (.aload_n 0, 1) := by decide +kernel
theorem dX1_emit_65 : decode cX1_emit 65 = .ok (.aload_n 0, 1) := by decide +kernel
theorem dX1_emit_66 : decode cX1_emit 66 = .ok (.getfield 34, 3) := by decide +kernel
theorem dX1_emit_69 : decode cX1_emit 69 = .ok (.iconst 1, 1) := by decide +kernel
theorem dX1_emit_70 : decode cX1_emit 70 = .ok (.iadd, 1) := by decide +kernel
theorem dX1_emit_71 : decode cX1_emit 71 = .ok (.putfield 34, 3) := by decide +kernel
theorem dX1_emit_74 : decode cX1_emit 74 = .ok (.aload_n 0, 1) := by decide +kernel
theorem dX1_emit_75 : decode cX1_emit 75 = .ok (.getfield 34, 3) := by decide +kernel
theorem dX1_emit_78 : decode cX1_emit 78 = .ok (.iconst 1, 1) := by decide +kernel
theorem dX1_emit_79 : decode cX1_emit 79 = .ok (.isub, 1) := by decide +kernel
theorem dX1_emit_80 : decode cX1_emit 80 = .ok (.ireturn, 1) := by decide +kernel
theorem dX1_start_0 : decode cX1_start 0 = .ok (.aload_n 0, 1) := by decide +kernel
theorem dX1_start_1 : decode cX1_start 1 = .ok (.iload_n 1, 1) := by decide +kernel
theorem dX1_start_2 : decode cX1_start 2 = .ok (.invokevirtual 41, 3) := by decide +kernel
theorem dX1_start_5 : decode cX1_start 5 = .ok (.ifCond .eq 6, 3) := by decide +kernel
theorem dX1_start_8 : decode cX1_start 8 = .ok (.bipush (-3), 2) := by decide +kernel
theorem dX1_start_10 : decode cX1_start 10 = .ok (.ireturn, 1) := by decide +kernel
theorem dX1_start_11 : decode cX1_start 11 = .ok (.aload_n 0, 1) := by decide +kernel
theorem dX1_start_12 : decode cX1_start 12 = .ok (.iconst 1, 1) := by decide +kernel
theorem dX1_start_13 : decode cX1_start 13 = .ok (.putfield 45, 3) := by decide +kernel
theorem dX1_start_16 : decode cX1_start 16 = .ok (.iconst 0, 1) := by decide +kernel
theorem dX1_start_17 : decode cX1_start 17 = .ok (.istore_n 2, 1) := by decide +kernel
theorem dX1_start_18 : decode cX1_start 18 = .ok (.iload_n 2, 1) := by decide +kernel
theorem dX1_start_19 : decode cX1_start 19 = .ok (.iconst 4, 1) := by decide +kernel
theorem dX1_start_20 : decode cX1_start 20 = .ok (.if_icmp .ge 16, 3) := by decide +kernel
theorem dX1_start_23 : decode cX1_start 23 = .ok (.aload_n 0, 1) := by decide +kernel
theorem dX1_start_24 : decode cX1_start 24 = .ok (.getfield 22, 3) := by decide +kernel
theorem dX1_start_27 : decode cX1_start 27 = .ok (.iload_n 2, 1) := by decide +kernel
theorem dX1_start_28 : decode cX1_start 28 = .ok (.iconst 0, 1) := by decide +kernel
theorem dX1_start_29 : decode cX1_start 29 = .ok (.iastore, 1) := by decide +kernel
theorem dX1_start_30 : decode cX1_start 30 = .ok (.iinc 2 1, 3) := by decide +kernel
theorem dX1_start_33 : decode cX1_start 33 = .ok (.goto (-15), 3) := by decide +kernel
theorem dX1_start_36 : decode cX1_start 36 = .ok (.aload_n 0, 1) := by decide +kernel
theorem dX1_start_37 : decode cX1_start 37 = .ok (.iload_n 1, 1) := by decide +kernel
theorem dX1_start_38 : decode cX1_start 38 = .ok (.putfield 48, 3) := by decide +kernel
theorem dX1_start_41 : decode cX1_start 41 = .ok (.aload_n 0, 1) := by decide +kernel
theorem dX1_start_42 : decode cX1_start 42 = .ok (.iconst 0, 1) := by decide +kernel
theorem dX1_start_43 : decode cX1_start 43 = .ok (.putfield 51, 3) := by decide +kernel
theorem dX1_start_46 : decode cX1_start 46 = .ok (.aload_n 0, 1) := by decide +kernel
theorem dX1_start_47 : decode cX1_start 47 = .ok (.iconst 1, 1) := by decide +kernel
theorem dX1_start_48 : decode cX1_start 48 = .ok (.putfield 38, 3) := by decide +kernel
theorem dX1_start_51 : decode cX1_start 51 = .ok (.iconst 0, 1) := by decide +kernel
theorem dX1_start_52 : decode cX1_start 52 = .ok (.ireturn, 1) := by decide +kernel
theorem dX1_noInstruction_0 : decode cX1_noInstruction 0 = .ok (.iload_n 1, 1) := by decide +kernel
theorem dX1_noInstruction_1 : decode cX1_noInstruction 1 = .ok (.ifCond .lt 11, 3) := by decide +kernel
theorem dX1_noInstruction_4 : decode cX1_noInstruction 4 = .ok (.iload_n 1, 1) := by decide +kernel
theorem dX1_noInstruction_5 : decode cX1_noInstruction 5 = .ok (.aload_n 0, 1) := by decide +kernel
theorem dX1_noInstruction_6 : decode cX1_noInstruction 6 = .ok (.getfield 34, 3) := by decide +kernel
theorem dX1_noInstruction_9 : decode cX1_noInstruction 9 = .ok (.if_icmp .lt 7, 3) := by decide +kernel
theorem dX1_noInstruction_12 : decode cX1_noInstruction 12 = .ok (.iconst 1, 1) := by decide +kernel
theorem dX1_noInstruction_13 : decode cX1_noInstruction 13 = .ok (.goto 4, 3) := by decide +kernel
theorem dX1_noInstruction_16 : decode cX1_noInstruction 16 = .ok (.iconst 0, 1) := by decide +kernel
theorem dX1_noInstruction_17 : decode cX1_noInstruction 17 = .ok (.ireturn, 1) := by decide +kernel
theorem dX1_setBreak_0 : decode cX1_setBreak 0 = .ok (.aload_n 0, 1) := by decide +kernel
theorem dX1_setBreak_1 : decode cX1_setBreak 1 = .ok (.iload_n 1, 1) := by decide +kernel
theorem dX1_setBreak_2 : decode cX1_setBreak 2 = .ok (.invokevirtual 41, 3) := by decide +kernel
theorem dX1_setBreak_5 : decode cX1_setBreak 5 = .ok (.ifCond .eq 6, 3) := by decide +kernel
theorem dX1_setBreak_8 : decode cX1_setBreak 8 = .ok (.bipush (-3), 2) := by decide +kernel
theorem dX1_setBreak_10 : decode cX1_setBreak 10 = .ok (.ireturn, 1) := by decide +kernel
theorem dX1_setBreak_11 : decode cX1_setBreak 11 = .ok (.iload_n 2, 1) := by decide +kernel
theorem dX1_setBreak_12 : decode cX1_setBreak 12 = .ok (.ifCond .lt 9, 3) := by decide +kernel
theorem dX1_setBreak_15 : decode cX1_setBreak 15 = .ok (.iload_n 2, 1) := by decide +kernel
theorem dX1_setBreak_16 : decode cX1_setBreak 16 = .ok (.bipush 100, 2) := by decide +kernel
theorem dX1_setBreak_18 : decode cX1_setBreak 18 = .ok (.if_icmp .le 5, 3) := by decide +kernel
theorem dX1_setBreak_21 : decode cX1_setBreak 21 = .ok (.iconst (-1), 1) := by decide +kernel
theorem dX1_setBreak_22 : decode cX1_setBreak 22 = .ok (.ireturn, 1) := by decide +kernel
theorem dX1_setBreak_23 : decode cX1_setBreak 23 = .ok (.aload_n 0, 1) := by decide +kernel
theorem dX1_setBreak_24 : decode cX1_setBreak 24 = .ok (.getfield 19, 3) := by decide +kernel
theorem dX1_setBreak_27 : decode cX1_setBreak 27 = .ok (.iload_n 1, 1) := by decide +kernel
theorem dX1_setBreak_28 : decode cX1_setBreak 28 = .ok (.iload_n 2, 1) := by decide +kernel
theorem dX1_setBreak_29 : decode cX1_setBreak 29 = .ok (.iastore, 1) := by decide +kernel
theorem dX1_setBreak_30 : decode cX1_setBreak 30 = .ok (.aload_n 0, 1) := by decide +kernel
theorem dX1_setBreak_31 : decode cX1_setBreak 31 = .ok (.invokevirtual 54, 3) := by decide +kernel
theorem dX1_setBreak_34 : decode cX1_setBreak 34 = .ok (.ireturn, 1) := by decide +kernel
theorem dX1_breaks_0 : decode cX1_breaks 0 = .ok (.iconst 0, 1) := by decide +kernel
theorem dX1_breaks_1 : decode cX1_breaks 1 = .ok (.istore_n 1, 1) := by decide +kernel
theorem dX1_breaks_2 : decode cX1_breaks 2 = .ok (.iconst 0, 1) := by decide +kernel
theorem dX1_breaks_3 : decode cX1_breaks 3 = .ok (.istore_n 2, 1) := by decide +kernel
theorem dX1_breaks_4 : decode cX1_breaks 4 = .ok (.iload_n 2, 1) := by decide +kernel
theorem dX1_breaks_5 : decode cX1_breaks 5 = .ok (.bipush 20, 2) := by decide +kernel
theorem dX1_breaks_7 : decode cX1_breaks 7 = .ok (.if_icmp .ge 21, 3) := by decide +kernel
theorem dX1_breaks_10 : decode cX1_breaks 10 = .ok (.aload_n 0, 1) := by decide +kernel
theorem dX1_breaks_11 : decode cX1_breaks 11 = .ok (.getfield 19, 3) := by decide +kernel
theorem dX1_breaks_14 : decode cX1_breaks 14 = .ok (.iload_n 2, 1) := by decide +kernel
theorem dX1_breaks_15 : decode cX1_breaks 15 = .ok (.iaload, 1) := by decide +kernel
theorem dX1_breaks_16 : decode cX1_breaks 16 = .ok (.ifCond .lt 6, 3) := by decide +kernel
theorem dX1_breaks_19 : decode cX1_breaks 19 = .ok (.iinc 1 1, 3) := by decide +kernel
theorem dX1_breaks_22 : decode cX1_breaks 22 = .ok (.iinc 2 1, 3) := by decide +kernel
theorem dX1_breaks_25 : decode cX1_breaks 25 = .ok (.goto (-21), 3) := by decide +kernel
theorem dX1_breaks_28 : decode cX1_breaks 28 = .ok (.iload_n 1, 1) := by decide +kernel
theorem dX1_breaks_29 : decode cX1_breaks 29 = .ok (.ireturn, 1) := by decide +kernel
theorem dX1_clearBreak_0 : decode cX1_clearBreak 0 = .ok (.aload_n 0, 1) := by decide +kernel
theorem dX1_clearBreak_1 : decode cX1_clearBreak 1 = .ok (.iload_n 1, 1) := by decide +kernel
theorem dX1_clearBreak_2 : decode cX1_clearBreak 2 = .ok (.invokevirtual 41, 3) := by decide +kernel
theorem dX1_clearBreak_5 : decode cX1_clearBreak 5 = .ok (.ifCond .ne 12, 3) := by decide +kernel
theorem dX1_clearBreak_8 : decode cX1_clearBreak 8 = .ok (.aload_n 0, 1) := by decide +kernel
theorem dX1_clearBreak_9 : decode cX1_clearBreak 9 = .ok (.getfield 19, 3) := by decide +kernel
theorem dX1_clearBreak_12 : decode cX1_clearBreak 12 = .ok (.iload_n 1, 1) := by decide +kernel
theorem dX1_clearBreak_13 : decode cX1_clearBreak 13 = .ok (.iaload, 1) := by decide +kernel
theorem dX1_clearBreak_14 : decode cX1_clearBreak 14 = .ok (.ifCond .ge 6, 3) := by decide +kernel
theorem dX1_clearBreak_17 : decode cX1_clearBreak 17 = .ok (.bipush (-3), 2) := by decide +kernel
theorem dX1_clearBreak_19 : decode cX1_clearBreak 19 = .ok (.ireturn, 1) := by decide +kernel
theorem dX1_clearBreak_20 : decode cX1_clearBreak 20 = .ok (.aload_n 0, 1) := by decide +kernel
theorem dX1_clearBreak_21 : decode cX1_clearBreak 21 = .ok (.getfield 19, 3) := by decide +kernel
theorem dX1_clearBreak_24 : decode cX1_clearBreak 24 = .ok (.iload_n 1, 1) := by decide +kernel
theorem dX1_clearBreak_25 : decode cX1_clearBreak 25 = .ok (.iconst (-1), 1) := by decide +kernel
theorem dX1_clearBreak_26 : decode cX1_clearBreak 26 = .ok (.iastore, 1) := by decide +kernel
theorem dX1_clearBreak_27 : decode cX1_clearBreak 27 = .ok (.aload_n 0, 1) := by decide +kernel
theorem dX1_clearBreak_28 : decode cX1_clearBreak 28 = .ok (.invokevirtual 54, 3) := by decide +kernel
theorem dX1_clearBreak_31 : decode cX1_clearBreak 31 = .ok (.ireturn, 1) := by decide +kernel
theorem dX1_resume_0 : decode cX1_resume 0 = .ok (.aload_n 0, 1) := by decide +kernel
theorem dX1_resume_1 : decode cX1_resume 1 = .ok (.iload_n 1, 1) := by decide +kernel
theorem dX1_resume_2 : decode cX1_resume 2 = .ok (.iconst 0, 1) := by decide +kernel
theorem dX1_resume_3 : decode cX1_resume 3 = .ok (.invokevirtual 65, 3) := by decide +kernel
theorem dX1_resume_6 : decode cX1_resume 6 = .ok (.ireturn, 1) := by decide +kernel
theorem dX1_run_0 : decode cX1_run 0 = .ok (.aload_n 0, 1) := by decide +kernel
theorem dX1_run_1 : decode cX1_run 1 = .ok (.getfield 38, 3) := by decide +kernel
theorem dX1_run_4 : decode cX1_run 4 = .ok (.ifCond .eq 20, 3) := by decide +kernel
theorem dX1_run_7 : decode cX1_run 7 = .ok (.aload_n 0, 1) := by decide +kernel
theorem dX1_run_8 : decode cX1_run 8 = .ok (.getfield 38, 3) := by decide +kernel
theorem dX1_run_11 : decode cX1_run 11 = .ok (.iconst 5, 1) := by decide +kernel
theorem dX1_run_12 : decode cX1_run 12 = .ok (.if_icmp .eq 12, 3) := by decide +kernel
theorem dX1_run_15 : decode cX1_run 15 = .ok (.aload_n 0, 1) := by decide +kernel
theorem dX1_run_16 : decode cX1_run 16 = .ok (.getfield 38, 3) := by decide +kernel
theorem dX1_run_19 : decode cX1_run 19 = .ok (.bipush 6, 2) := by decide +kernel
theorem dX1_run_21 : decode cX1_run 21 = .ok (.if_icmp .ne 6, 3) := by decide +kernel
theorem dX1_run_24 : decode cX1_run 24 = .ok (.bipush (-4), 2) := by decide +kernel
theorem dX1_run_26 : decode cX1_run 26 = .ok (.ireturn, 1) := by decide +kernel
theorem dX1_run_27 : decode cX1_run 27 = .ok (.iload_n 1, 1) := by decide +kernel
theorem dX1_run_28 : decode cX1_run 28 = .ok (.iconst 1, 1) := by decide +kernel
theorem dX1_run_29 : decode cX1_run 29 = .ok (.if_icmp .ge 7, 3) := by decide +kernel
theorem dX1_run_32 : decode cX1_run 32 = .ok (.iconst 1, 1) := by decide +kernel
theorem dX1_run_33 : decode cX1_run 33 = .ok (.goto 17, 3) := by decide +kernel
theorem dX1_run_36 : decode cX1_run 36 = .ok (.iload_n 1, 1) := by decide +kernel
theorem dX1_run_37 : decode cX1_run 37 = .ok (.sipush 300, 3) := by decide +kernel
theorem dX1_run_40 : decode cX1_run 40 = .ok (.if_icmp .le 9, 3) := by decide +kernel
theorem dX1_run_43 : decode cX1_run 43 = .ok (.sipush 300, 3) := by decide +kernel
theorem dX1_run_46 : decode cX1_run 46 = .ok (.goto 4, 3) := by decide +kernel
theorem dX1_run_49 : decode cX1_run 49 = .ok (.iload_n 1, 1) := by decide +kernel
theorem dX1_run_50 : decode cX1_run 50 = .ok (.istore_n 3, 1) := by decide +kernel
theorem dX1_run_51 : decode cX1_run 51 = .ok (.iconst 1, 1) := by decide +kernel
theorem dX1_run_52 : decode cX1_run 52 = .ok (.istore 4, 2) := by decide +kernel
theorem dX1_run_54 : decode cX1_run 54 = .ok (.iload 4, 2) := by decide +kernel
theorem dX1_run_56 : decode cX1_run 56 = .ok (.sipush 300, 3) := by decide +kernel
theorem dX1_run_59 : decode cX1_run 59 = .ok (.if_icmp .gt 115, 3) := by decide +kernel
theorem dX1_run_62 : decode cX1_run 62 = .ok (.aload_n 0, 1) := by decide +kernel
theorem dX1_run_63 : decode cX1_run 63 = .ok (.invokevirtual 62, 3) := by decide +kernel
theorem dX1_run_66 : decode cX1_run 66 = .ok (.aload_n 0, 1) := by decide +kernel
theorem dX1_run_67 : decode cX1_run 67 = .ok (.getfield 38, 3) := by decide +kernel
theorem dX1_run_70 : decode cX1_run 70 = .ok (.iconst 5, 1) := by decide +kernel
theorem dX1_run_71 : decode cX1_run 71 = .ok (.if_icmp .eq 12, 3) := by decide +kernel
theorem dX1_run_74 : decode cX1_run 74 = .ok (.aload_n 0, 1) := by decide +kernel
theorem dX1_run_75 : decode cX1_run 75 = .ok (.getfield 38, 3) := by decide +kernel
theorem dX1_run_78 : decode cX1_run 78 = .ok (.bipush 6, 2) := by decide +kernel
theorem dX1_run_80 : decode cX1_run 80 = .ok (.if_icmp .ne 6, 3) := by decide +kernel
theorem dX1_run_83 : decode cX1_run 83 = .ok (.iload 4, 2) := by decide +kernel
theorem dX1_run_85 : decode cX1_run 85 = .ok (.ireturn, 1) := by decide +kernel
theorem dX1_run_86 : decode cX1_run 86 = .ok (.aload_n 0, 1) := by decide +kernel
theorem dX1_run_87 : decode cX1_run 87 = .ok (.getfield 45, 3) := by decide +kernel
theorem dX1_run_90 : decode cX1_run 90 = .ok (.iload_n 2, 1) := by decide +kernel
theorem dX1_run_91 : decode cX1_run 91 = .ok (.if_icmp .gt 11, 3) := by decide +kernel
theorem dX1_run_94 : decode cX1_run 94 = .ok (.aload_n 0, 1) := by decide +kernel
theorem dX1_run_95 : decode cX1_run 95 = .ok (.iconst 2, 1) := by decide +kernel
theorem dX1_run_96 : decode cX1_run 96 = .ok (.putfield 38, 3) := by decide +kernel
theorem dX1_run_99 : decode cX1_run 99 = .ok (.iload 4, 2) := by decide +kernel
theorem dX1_run_101 : decode cX1_run 101 = .ok (.ireturn, 1) := by decide +kernel
theorem dX1_run_102 : decode cX1_run 102 = .ok (.aload_n 0, 1) := by decide +kernel
theorem dX1_run_103 : decode cX1_run 103 = .ok (.getfield 19, 3) := by decide +kernel
theorem dX1_run_106 : decode cX1_run 106 = .ok (.aload_n 0, 1) := by decide +kernel
theorem dX1_run_107 : decode cX1_run 107 = .ok (.getfield 48, 3) := by decide +kernel
theorem dX1_run_110 : decode cX1_run 110 = .ok (.iaload, 1) := by decide +kernel
theorem dX1_run_111 : decode cX1_run 111 = .ok (.ifCond .ne 11, 3) := by decide +kernel
theorem dX1_run_114 : decode cX1_run 114 = .ok (.aload_n 0, 1) := by decide +kernel
theorem dX1_run_115 : decode cX1_run 115 = .ok (.iconst 3, 1) := by decide +kernel
theorem dX1_run_116 : decode cX1_run 116 = .ok (.putfield 38, 3) := by decide +kernel
theorem dX1_run_119 : decode cX1_run 119 = .ok (.iload 4, 2) := by decide +kernel
theorem dX1_run_121 : decode cX1_run 121 = .ok (.ireturn, 1) := by decide +kernel
theorem dX1_run_122 : decode cX1_run 122 = .ok (.aload_n 0, 1) := by decide +kernel
theorem dX1_run_123 : decode cX1_run 123 = .ok (.getfield 19, 3) := by decide +kernel
theorem dX1_run_126 : decode cX1_run 126 = .ok (.aload_n 0, 1) := by decide +kernel
theorem dX1_run_127 : decode cX1_run 127 = .ok (.getfield 48, 3) := by decide +kernel
theorem dX1_run_130 : decode cX1_run 130 = .ok (.iaload, 1) := by decide +kernel
theorem dX1_run_131 : decode cX1_run 131 = .ok (.ifCond .le 23, 3) := by decide +kernel
theorem dX1_run_134 : decode cX1_run 134 = .ok (.aload_n 0, 1) := by decide +kernel
theorem dX1_run_135 : decode cX1_run 135 = .ok (.getfield 19, 3) := by decide +kernel
theorem dX1_run_138 : decode cX1_run 138 = .ok (.aload_n 0, 1) := by decide +kernel
theorem dX1_run_139 : decode cX1_run 139 = .ok (.getfield 48, 3) := by decide +kernel
theorem dX1_run_142 : decode cX1_run 142 = .ok (.aload_n 0, 1) := by decide +kernel
theorem dX1_run_143 : decode cX1_run 143 = .ok (.getfield 19, 3) := by decide +kernel
theorem dX1_run_146 : decode cX1_run 146 = .ok (.aload_n 0, 1) := by decide +kernel
theorem dX1_run_147 : decode cX1_run 147 = .ok (.getfield 48, 3) := by decide +kernel
theorem dX1_run_150 : decode cX1_run 150 = .ok (.iaload, 1) := by decide +kernel
theorem dX1_run_151 : decode cX1_run 151 = .ok (.iconst 1, 1) := by decide +kernel
theorem dX1_run_152 : decode cX1_run 152 = .ok (.isub, 1) := by decide +kernel
theorem dX1_run_153 : decode cX1_run 153 = .ok (.iastore, 1) := by decide +kernel
theorem dX1_run_154 : decode cX1_run 154 = .ok (.iload 4, 2) := by decide +kernel
theorem dX1_run_156 : decode cX1_run 156 = .ok (.iload_n 3, 1) := by decide +kernel
theorem dX1_run_157 : decode cX1_run 157 = .ok (.if_icmp .ne 11, 3) := by decide +kernel
theorem dX1_run_160 : decode cX1_run 160 = .ok (.aload_n 0, 1) := by decide +kernel
theorem dX1_run_161 : decode cX1_run 161 = .ok (.iconst 4, 1) := by decide +kernel
theorem dX1_run_162 : decode cX1_run 162 = .ok (.putfield 38, 3) := by decide +kernel
theorem dX1_run_165 : decode cX1_run 165 = .ok (.iload 4, 2) := by decide +kernel
theorem dX1_run_167 : decode cX1_run 167 = .ok (.ireturn, 1) := by decide +kernel
theorem dX1_run_168 : decode cX1_run 168 = .ok (.iinc 4 1, 3) := by decide +kernel
theorem dX1_run_171 : decode cX1_run 171 = .ok (.goto (-117), 3) := by decide +kernel
theorem dX1_run_174 : decode cX1_run 174 = .ok (.sipush 300, 3) := by decide +kernel
theorem dX1_run_177 : decode cX1_run 177 = .ok (.ireturn, 1) := by decide +kernel
theorem dX1_carryOut_0 : decode cX1_carryOut 0 = .ok (.aload_n 0, 1) := by decide +kernel
theorem dX1_carryOut_1 : decode cX1_carryOut 1 = .ok (.getfield 7, 3) := by decide +kernel
theorem dX1_carryOut_4 : decode cX1_carryOut 4 = .ok (.aload_n 0, 1) := by decide +kernel
theorem dX1_carryOut_5 : decode cX1_carryOut 5 = .ok (.getfield 48, 3) := by decide +kernel
theorem dX1_carryOut_8 : decode cX1_carryOut 8 = .ok (.iaload, 1) := by decide +kernel
theorem dX1_carryOut_9 : decode cX1_carryOut 9 = .ok (.istore_n 1, 1) := by decide +kernel
theorem dX1_carryOut_10 : decode cX1_carryOut 10 = .ok (.aload_n 0, 1) := by decide +kernel
theorem dX1_carryOut_11 : decode cX1_carryOut 11 = .ok (.getfield 13, 3) := by decide +kernel
theorem dX1_carryOut_14 : decode cX1_carryOut 14 = .ok (.aload_n 0, 1) := by decide +kernel
theorem dX1_carryOut_15 : decode cX1_carryOut 15 = .ok (.getfield 48, 3) := by decide +kernel
theorem dX1_carryOut_18 : decode cX1_carryOut 18 = .ok (.iaload, 1) := by decide +kernel
theorem dX1_carryOut_19 : decode cX1_carryOut 19 = .ok (.istore_n 2, 1) := by decide +kernel
theorem dX1_carryOut_20 : decode cX1_carryOut 20 = .ok (.aload_n 0, 1) := by decide +kernel
theorem dX1_carryOut_21 : decode cX1_carryOut 21 = .ok (.getfield 16, 3) := by decide +kernel
theorem dX1_carryOut_24 : decode cX1_carryOut 24 = .ok (.aload_n 0, 1) := by decide +kernel
theorem dX1_carryOut_25 : decode cX1_carryOut 25 = .ok (.getfield 48, 3) := by decide +kernel
theorem dX1_carryOut_28 : decode cX1_carryOut 28 = .ok (.iaload, 1) := by decide +kernel
theorem dX1_carryOut_29 : decode cX1_carryOut 29 = .ok (.istore_n 3, 1) := by decide +kernel
theorem dX1_carryOut_30 : decode cX1_carryOut 30 = .ok (.aload_n 0, 1) := by decide +kernel
theorem dX1_carryOut_31 : decode cX1_carryOut 31 = .ok (.getfield 45, 3) := by decide +kernel
theorem dX1_carryOut_34 : decode cX1_carryOut 34 = .ok (.iconst 1, 1) := by decide +kernel
theorem dX1_carryOut_35 : decode cX1_carryOut 35 = .ok (.isub, 1) := by decide +kernel
theorem dX1_carryOut_36 : decode cX1_carryOut 36 = .ok (.iconst 4, 1) := by decide +kernel
theorem dX1_carryOut_37 : decode cX1_carryOut 37 = .ok (.imul, 1) := by decide +kernel
theorem dX1_carryOut_38 : decode cX1_carryOut 38 = .ok (.istore 4, 2) := by decide +kernel
theorem dX1_carryOut_40 : decode cX1_carryOut 40 = .ok (.iload 4, 2) := by decide +kernel
theorem dX1_carryOut_42 : decode cX1_carryOut 42 = .ok (.iload_n 2, 1) := by decide +kernel
theorem dX1_carryOut_43 : decode cX1_carryOut 43 = .ok (.iconst 3, 1) := by decide +kernel
theorem dX1_carryOut_44 : decode cX1_carryOut 44 = .ok (.iand, 1) := by decide +kernel
theorem dX1_carryOut_45 : decode cX1_carryOut 45 = .ok (.iadd, 1) := by decide +kernel
theorem dX1_carryOut_46 : decode cX1_carryOut 46 = .ok (.istore 5, 2) := by decide +kernel
theorem dX1_carryOut_48 : decode cX1_carryOut 48 = .ok (.iload 4, 2) := by decide +kernel
theorem dX1_carryOut_50 : decode cX1_carryOut 50 = .ok (.iload_n 3, 1) := by decide +kernel
theorem dX1_carryOut_51 : decode cX1_carryOut 51 = .ok (.iconst 3, 1) := by decide +kernel
theorem dX1_carryOut_52 : decode cX1_carryOut 52 = .ok (.iand, 1) := by decide +kernel
theorem dX1_carryOut_53 : decode cX1_carryOut 53 = .ok (.iadd, 1) := by decide +kernel
theorem dX1_carryOut_54 : decode cX1_carryOut 54 = .ok (.istore 6, 2) := by decide +kernel
theorem dX1_carryOut_56 : decode cX1_carryOut 56 = .ok (.aload_n 0, 1) := by decide +kernel
theorem dX1_carryOut_57 : decode cX1_carryOut 57 = .ok (.getfield 48, 3) := by decide +kernel
theorem dX1_carryOut_60 : decode cX1_carryOut 60 = .ok (.iconst 1, 1) := by decide +kernel
theorem dX1_carryOut_61 : decode cX1_carryOut 61 = .ok (.iadd, 1) := by decide +kernel
theorem dX1_carryOut_62 : decode cX1_carryOut 62 = .ok (.istore 7, 2) := by decide +kernel
theorem dX1_carryOut_64 : decode cX1_carryOut 64 = .ok (.iload_n 1, 1) := by decide +kernel
theorem dX1_carryOut_65 : decode cX1_carryOut 65 = .ok (.ifCond .ne 14, 3) := by decide +kernel
theorem dX1_carryOut_68 : decode cX1_carryOut 68 = .ok (.aload_n 0, 1) := by decide +kernel
theorem dX1_carryOut_69 : decode cX1_carryOut 69 = .ok (.getfield 22, 3) := by decide +kernel
theorem dX1_carryOut_72 : decode cX1_carryOut 72 = .ok (.iload 5, 2) := by decide +kernel
theorem dX1_carryOut_74 : decode cX1_carryOut 74 = .ok (.iload_n 3, 1) := by decide +kernel
theorem dX1_carryOut_75 : decode cX1_carryOut 75 = .ok (.iastore, 1) := by decide +kernel
theorem dX1_carryOut_76 : decode cX1_carryOut 76 = .ok (.goto 391, 3) := by decide +kernel
theorem dX1_carryOut_79 : decode cX1_carryOut 79 = .ok (.iload_n 1, 1) := by decide +kernel
theorem dX1_carryOut_80 : decode cX1_carryOut 80 = .ok (.iconst 1, 1) := by decide +kernel
theorem dX1_carryOut_81 : decode cX1_carryOut 81 = .ok (.if_icmp .ne 20, 3) := by decide +kernel
theorem dX1_carryOut_84 : decode cX1_carryOut 84 = .ok (.aload_n 0, 1) := by decide +kernel
theorem dX1_carryOut_85 : decode cX1_carryOut 85 = .ok (.getfield 22, 3) := by decide +kernel
theorem dX1_carryOut_88 : decode cX1_carryOut 88 = .ok (.iload 5, 2) := by decide +kernel
theorem dX1_carryOut_90 : decode cX1_carryOut 90 = .ok (.aload_n 0, 1) := by decide +kernel
theorem dX1_carryOut_91 : decode cX1_carryOut 91 = .ok (.getfield 22, 3) := by decide +kernel
theorem dX1_carryOut_94 : decode cX1_carryOut 94 = .ok (.iload 6, 2) := by decide +kernel
theorem dX1_carryOut_96 : decode cX1_carryOut 96 = .ok (.iaload, 1) := by decide +kernel
theorem dX1_carryOut_97 : decode cX1_carryOut 97 = .ok (.iastore, 1) := by decide +kernel
theorem dX1_carryOut_98 : decode cX1_carryOut 98 = .ok (.goto 369, 3) := by decide +kernel
theorem dX1_carryOut_101 : decode cX1_carryOut 101 = .ok (.iload_n 1, 1) := by decide +kernel
theorem dX1_carryOut_102 : decode cX1_carryOut 102 = .ok (.iconst 2, 1) := by decide +kernel
theorem dX1_carryOut_103 : decode cX1_carryOut 103 = .ok (.if_icmp .ne 28, 3) := by decide +kernel
theorem dX1_carryOut_106 : decode cX1_carryOut 106 = .ok (.aload_n 0, 1) := by decide +kernel
theorem dX1_carryOut_107 : decode cX1_carryOut 107 = .ok (.getfield 22, 3) := by decide +kernel
theorem dX1_carryOut_110 : decode cX1_carryOut 110 = .ok (.iload 5, 2) := by decide +kernel
theorem dX1_carryOut_112 : decode cX1_carryOut 112 = .ok (.aload_n 0, 1) := by decide +kernel
theorem dX1_carryOut_113 : decode cX1_carryOut 113 = .ok (.getfield 22, 3) := by decide +kernel
theorem dX1_carryOut_116 : decode cX1_carryOut 116 = .ok (.iload 5, 2) := by decide +kernel
theorem dX1_carryOut_118 : decode cX1_carryOut 118 = .ok (.iaload, 1) := by decide +kernel
theorem dX1_carryOut_119 : decode cX1_carryOut 119 = .ok (.aload_n 0, 1) := by decide +kernel
theorem dX1_carryOut_120 : decode cX1_carryOut 120 = .ok (.getfield 22, 3) := by decide +kernel
theorem dX1_carryOut_123 : decode cX1_carryOut 123 = .ok (.iload 6, 2) := by decide +kernel
theorem dX1_carryOut_125 : decode cX1_carryOut 125 = .ok (.iaload, 1) := by decide +kernel
theorem dX1_carryOut_126 : decode cX1_carryOut 126 = .ok (.iadd, 1) := by decide +kernel
theorem dX1_carryOut_127 : decode cX1_carryOut 127 = .ok (.iastore, 1) := by decide +kernel
theorem dX1_carryOut_128 : decode cX1_carryOut 128 = .ok (.goto 339, 3) := by decide +kernel
theorem dX1_carryOut_131 : decode cX1_carryOut 131 = .ok (.iload_n 1, 1) := by decide +kernel
theorem dX1_carryOut_132 : decode cX1_carryOut 132 = .ok (.iconst 3, 1) := by decide +kernel
theorem dX1_carryOut_133 : decode cX1_carryOut 133 = .ok (.if_icmp .ne 28, 3) := by decide +kernel
theorem dX1_carryOut_136 : decode cX1_carryOut 136 = .ok (.aload_n 0, 1) := by decide +kernel
theorem dX1_carryOut_137 : decode cX1_carryOut 137 = .ok (.getfield 22, 3) := by decide +kernel
theorem dX1_carryOut_140 : decode cX1_carryOut 140 = .ok (.iload 5, 2) := by decide +kernel
theorem dX1_carryOut_142 : decode cX1_carryOut 142 = .ok (.aload_n 0, 1) := by decide +kernel
theorem dX1_carryOut_143 : decode cX1_carryOut 143 = .ok (.getfield 22, 3) := by decide +kernel
theorem dX1_carryOut_146 : decode cX1_carryOut 146 = .ok (.iload 5, 2) := by decide +kernel
theorem dX1_carryOut_148 : decode cX1_carryOut 148 = .ok (.iaload, 1) := by decide +kernel
theorem dX1_carryOut_149 : decode cX1_carryOut 149 = .ok (.aload_n 0, 1) := by decide +kernel
theorem dX1_carryOut_150 : decode cX1_carryOut 150 = .ok (.getfield 22, 3) := by decide +kernel
theorem dX1_carryOut_153 : decode cX1_carryOut 153 = .ok (.iload 6, 2) := by decide +kernel
theorem dX1_carryOut_155 : decode cX1_carryOut 155 = .ok (.iaload, 1) := by decide +kernel
theorem dX1_carryOut_156 : decode cX1_carryOut 156 = .ok (.isub, 1) := by decide +kernel
theorem dX1_carryOut_157 : decode cX1_carryOut 157 = .ok (.iastore, 1) := by decide +kernel
theorem dX1_carryOut_158 : decode cX1_carryOut 158 = .ok (.goto 309, 3) := by decide +kernel
theorem dX1_carryOut_161 : decode cX1_carryOut 161 = .ok (.iload_n 1, 1) := by decide +kernel
theorem dX1_carryOut_162 : decode cX1_carryOut 162 = .ok (.iconst 4, 1) := by decide +kernel
theorem dX1_carryOut_163 : decode cX1_carryOut 163 = .ok (.if_icmp .ne 28, 3) := by decide +kernel
theorem dX1_carryOut_166 : decode cX1_carryOut 166 = .ok (.aload_n 0, 1) := by decide +kernel
theorem dX1_carryOut_167 : decode cX1_carryOut 167 = .ok (.getfield 22, 3) := by decide +kernel
theorem dX1_carryOut_170 : decode cX1_carryOut 170 = .ok (.iload 5, 2) := by decide +kernel
theorem dX1_carryOut_172 : decode cX1_carryOut 172 = .ok (.aload_n 0, 1) := by decide +kernel
theorem dX1_carryOut_173 : decode cX1_carryOut 173 = .ok (.getfield 22, 3) := by decide +kernel
theorem dX1_carryOut_176 : decode cX1_carryOut 176 = .ok (.iload 5, 2) := by decide +kernel
theorem dX1_carryOut_178 : decode cX1_carryOut 178 = .ok (.iaload, 1) := by decide +kernel
theorem dX1_carryOut_179 : decode cX1_carryOut 179 = .ok (.aload_n 0, 1) := by decide +kernel
theorem dX1_carryOut_180 : decode cX1_carryOut 180 = .ok (.getfield 22, 3) := by decide +kernel
theorem dX1_carryOut_183 : decode cX1_carryOut 183 = .ok (.iload 6, 2) := by decide +kernel
theorem dX1_carryOut_185 : decode cX1_carryOut 185 = .ok (.iaload, 1) := by decide +kernel
theorem dX1_carryOut_186 : decode cX1_carryOut 186 = .ok (.imul, 1) := by decide +kernel
theorem dX1_carryOut_187 : decode cX1_carryOut 187 = .ok (.iastore, 1) := by decide +kernel
theorem dX1_carryOut_188 : decode cX1_carryOut 188 = .ok (.goto 279, 3) := by decide +kernel
theorem dX1_carryOut_191 : decode cX1_carryOut 191 = .ok (.iload_n 1, 1) := by decide +kernel
theorem dX1_carryOut_192 : decode cX1_carryOut 192 = .ok (.iconst 5, 1) := by decide +kernel
theorem dX1_carryOut_193 : decode cX1_carryOut 193 = .ok (.if_icmp .ne 9, 3) := by decide +kernel
theorem dX1_carryOut_196 : decode cX1_carryOut 196 = .ok (.iload_n 3, 1) := by decide +kernel
theorem dX1_carryOut_197 : decode cX1_carryOut 197 = .ok (.istore 7, 2) := by decide +kernel
theorem dX1_carryOut_199 : decode cX1_carryOut 199 = .ok (.goto 268, 3) := by decide +kernel
theorem dX1_carryOut_202 : decode cX1_carryOut 202 = .ok (.iload_n 1, 1) := by decide +kernel
theorem dX1_carryOut_203 : decode cX1_carryOut 203 = .ok (.bipush 6, 2) := by decide +kernel
theorem dX1_carryOut_205 : decode cX1_carryOut 205 = .ok (.if_icmp .ne 37, 3) := by decide +kernel
theorem dX1_carryOut_208 : decode cX1_carryOut 208 = .ok (.aload_n 0, 1) := by decide +kernel
theorem dX1_carryOut_209 : decode cX1_carryOut 209 = .ok (.getfield 22, 3) := by decide +kernel
theorem dX1_carryOut_212 : decode cX1_carryOut 212 = .ok (.iload 5, 2) := by decide +kernel
theorem dX1_carryOut_214 : decode cX1_carryOut 214 = .ok (.iaload, 1) := by decide +kernel
theorem dX1_carryOut_215 : decode cX1_carryOut 215 = .ok (.aload_n 0, 1) := by decide +kernel
theorem dX1_carryOut_216 : decode cX1_carryOut 216 = .ok (.getfield 22, 3) := by decide +kernel
theorem dX1_carryOut_219 : decode cX1_carryOut 219 = .ok (.iload 4, 2) := by decide +kernel
theorem dX1_carryOut_221 : decode cX1_carryOut 221 = .ok (.iload_n 2, 1) := by decide +kernel
theorem dX1_carryOut_222 : decode cX1_carryOut 222 = .ok (.iconst 2, 1) := by decide +kernel
theorem dX1_carryOut_223 : decode cX1_carryOut 223 = .ok (.ishr, 1) := by decide +kernel
theorem dX1_carryOut_224 : decode cX1_carryOut 224 = .ok (.iconst 3, 1) := by decide +kernel
theorem dX1_carryOut_225 : decode cX1_carryOut 225 = .ok (.iand, 1) := by decide +kernel
theorem dX1_carryOut_226 : decode cX1_carryOut 226 = .ok (.iadd, 1) := by decide +kernel
theorem dX1_carryOut_227 : decode cX1_carryOut 227 = .ok (.iaload, 1) := by decide +kernel
theorem dX1_carryOut_228 : decode cX1_carryOut 228 = .ok (.if_icmp .ge 7, 3) := by decide +kernel
theorem dX1_carryOut_231 : decode cX1_carryOut 231 = .ok (.iload_n 3, 1) := by decide +kernel
theorem dX1_carryOut_232 : decode cX1_carryOut 232 = .ok (.goto 5, 3) := by decide +kernel
theorem dX1_carryOut_235 : decode cX1_carryOut 235 = .ok (.iload 7, 2) := by decide +kernel
theorem dX1_carryOut_237 : decode cX1_carryOut 237 = .ok (.istore 7, 2) := by decide +kernel
theorem dX1_carryOut_239 : decode cX1_carryOut 239 = .ok (.goto 228, 3) := by decide +kernel
theorem dX1_carryOut_242 : decode cX1_carryOut 242 = .ok (.iload_n 1, 1) := by decide +kernel
theorem dX1_carryOut_243 : decode cX1_carryOut 243 = .ok (.bipush 7, 2) := by decide +kernel
theorem dX1_carryOut_245 : decode cX1_carryOut 245 = .ok (.if_icmp .ne 24, 3) := by decide +kernel
theorem dX1_carryOut_248 : decode cX1_carryOut 248 = .ok (.aload_n 0, 1) := by decide +kernel
theorem dX1_carryOut_249 : decode cX1_carryOut 249 = .ok (.getfield 22, 3) := by decide +kernel
theorem dX1_carryOut_252 : decode cX1_carryOut 252 = .ok (.iload 5, 2) := by decide +kernel
theorem dX1_carryOut_254 : decode cX1_carryOut 254 = .ok (.iaload, 1) := by decide +kernel
theorem dX1_carryOut_255 : decode cX1_carryOut 255 = .ok (.ifCond .ne 7, 3) := by decide +kernel
theorem dX1_carryOut_258 : decode cX1_carryOut 258 = .ok (.iload_n 3, 1) := by decide +kernel
theorem dX1_carryOut_259 : decode cX1_carryOut 259 = .ok (.goto 5, 3) := by decide +kernel
theorem dX1_carryOut_262 : decode cX1_carryOut 262 = .ok (.iload 7, 2) := by decide +kernel
theorem dX1_carryOut_264 : decode cX1_carryOut 264 = .ok (.istore 7, 2) := by decide +kernel
theorem dX1_carryOut_266 : decode cX1_carryOut 266 = .ok (.goto 201, 3) := by decide +kernel
theorem dX1_carryOut_269 : decode cX1_carryOut 269 = .ok (.iload_n 1, 1) := by decide +kernel
theorem dX1_carryOut_270 : decode cX1_carryOut 270 = .ok (.bipush 8, 2) := by decide +kernel
theorem dX1_carryOut_272 : decode cX1_carryOut 272 = .ok (.if_icmp .ne 110, 3) := by decide +kernel
theorem dX1_carryOut_275 : decode cX1_carryOut 275 = .ok (.aload_n 0, 1) := by decide +kernel
theorem dX1_carryOut_276 : decode cX1_carryOut 276 = .ok (.getfield 45, 3) := by decide +kernel
theorem dX1_carryOut_279 : decode cX1_carryOut 279 = .ok (.bipush 6, 2) := by decide +kernel
theorem dX1_carryOut_281 : decode cX1_carryOut 281 = .ok (.if_icmp .ne 10, 3) := by decide +kernel
theorem dX1_carryOut_284 : decode cX1_carryOut 284 = .ok (.aload_n 0, 1) := by decide +kernel
theorem dX1_carryOut_285 : decode cX1_carryOut 285 = .ok (.bipush 6, 2) := by decide +kernel
theorem dX1_carryOut_287 : decode cX1_carryOut 287 = .ok (.putfield 38, 3) := by decide +kernel
theorem dX1_carryOut_290 : decode cX1_carryOut 290 = .ok (.return_, 1) := by decide +kernel
theorem dX1_carryOut_291 : decode cX1_carryOut 291 = .ok (.aload_n 0, 1) := by decide +kernel
theorem dX1_carryOut_292 : decode cX1_carryOut 292 = .ok (.getfield 25, 3) := by decide +kernel
theorem dX1_carryOut_295 : decode cX1_carryOut 295 = .ok (.aload_n 0, 1) := by decide +kernel
theorem dX1_carryOut_296 : decode cX1_carryOut 296 = .ok (.getfield 45, 3) := by decide +kernel
theorem dX1_carryOut_299 : decode cX1_carryOut 299 = .ok (.iconst 1, 1) := by decide +kernel
theorem dX1_carryOut_300 : decode cX1_carryOut 300 = .ok (.isub, 1) := by decide +kernel
theorem dX1_carryOut_301 : decode cX1_carryOut 301 = .ok (.iload 7, 2) := by decide +kernel
theorem dX1_carryOut_303 : decode cX1_carryOut 303 = .ok (.iastore, 1) := by decide +kernel
theorem dX1_carryOut_304 : decode cX1_carryOut 304 = .ok (.aload_n 0, 1) := by decide +kernel
theorem dX1_carryOut_305 : decode cX1_carryOut 305 = .ok (.getfield 28, 3) := by decide +kernel
theorem dX1_carryOut_308 : decode cX1_carryOut 308 = .ok (.aload_n 0, 1) := by decide +kernel
theorem dX1_carryOut_309 : decode cX1_carryOut 309 = .ok (.getfield 45, 3) := by decide +kernel
theorem dX1_carryOut_312 : decode cX1_carryOut 312 = .ok (.iconst 1, 1) := by decide +kernel
theorem dX1_carryOut_313 : decode cX1_carryOut 313 = .ok (.isub, 1) := by decide +kernel
theorem dX1_carryOut_314 : decode cX1_carryOut 314 = .ok (.iload_n 2, 1) := by decide +kernel
theorem dX1_carryOut_315 : decode cX1_carryOut 315 = .ok (.iconst 3, 1) := by decide +kernel
theorem dX1_carryOut_316 : decode cX1_carryOut 316 = .ok (.iand, 1) := by decide +kernel
theorem dX1_carryOut_317 : decode cX1_carryOut 317 = .ok (.iastore, 1) := by decide +kernel
theorem dX1_carryOut_318 : decode cX1_carryOut 318 = .ok (.aload_n 0, 1) := by decide +kernel
theorem dX1_carryOut_319 : decode cX1_carryOut 319 = .ok (.getfield 22, 3) := by decide +kernel
theorem dX1_carryOut_322 : decode cX1_carryOut 322 = .ok (.iload 4, 2) := by decide +kernel
theorem dX1_carryOut_324 : decode cX1_carryOut 324 = .ok (.iconst 4, 1) := by decide +kernel
theorem dX1_carryOut_325 : decode cX1_carryOut 325 = .ok (.iadd, 1) := by decide +kernel
theorem dX1_carryOut_326 : decode cX1_carryOut 326 = .ok (.aload_n 0, 1) := by decide +kernel
theorem dX1_carryOut_327 : decode cX1_carryOut 327 = .ok (.getfield 22, 3) := by decide +kernel
theorem dX1_carryOut_330 : decode cX1_carryOut 330 = .ok (.iload 5, 2) := by decide +kernel
theorem dX1_carryOut_332 : decode cX1_carryOut 332 = .ok (.iaload, 1) := by decide +kernel
theorem dX1_carryOut_333 : decode cX1_carryOut 333 = .ok (.iastore, 1) := by decide +kernel
theorem dX1_carryOut_334 : decode cX1_carryOut 334 = .ok (.aload_n 0, 1) := by decide +kernel
theorem dX1_carryOut_335 : decode cX1_carryOut 335 = .ok (.getfield 22, 3) := by decide +kernel
theorem dX1_carryOut_338 : decode cX1_carryOut 338 = .ok (.iload 4, 2) := by decide +kernel
theorem dX1_carryOut_340 : decode cX1_carryOut 340 = .ok (.iconst 5, 1) := by decide +kernel
theorem dX1_carryOut_341 : decode cX1_carryOut 341 = .ok (.iadd, 1) := by decide +kernel
theorem dX1_carryOut_342 : decode cX1_carryOut 342 = .ok (.iconst 0, 1) := by decide +kernel
theorem dX1_carryOut_343 : decode cX1_carryOut 343 = .ok (.iastore, 1) := by decide +kernel
theorem dX1_carryOut_344 : decode cX1_carryOut 344 = .ok (.aload_n 0, 1) := by decide +kernel
theorem dX1_carryOut_345 : decode cX1_carryOut 345 = .ok (.getfield 22, 3) := by decide +kernel
theorem dX1_carryOut_348 : decode cX1_carryOut 348 = .ok (.iload 4, 2) := by decide +kernel
theorem dX1_carryOut_350 : decode cX1_carryOut 350 = .ok (.bipush 6, 2) := by decide +kernel
theorem dX1_carryOut_352 : decode cX1_carryOut 352 = .ok (.iadd, 1) := by decide +kernel
theorem dX1_carryOut_353 : decode cX1_carryOut 353 = .ok (.iconst 0, 1) := by decide +kernel
theorem dX1_carryOut_354 : decode cX1_carryOut 354 = .ok (.iastore, 1) := by decide +kernel
theorem dX1_carryOut_355 : decode cX1_carryOut 355 = .ok (.aload_n 0, 1) := by decide +kernel
theorem dX1_carryOut_356 : decode cX1_carryOut 356 = .ok (.getfield 22, 3) := by decide +kernel
theorem dX1_carryOut_359 : decode cX1_carryOut 359 = .ok (.iload 4, 2) := by decide +kernel
theorem dX1_carryOut_361 : decode cX1_carryOut 361 = .ok (.bipush 7, 2) := by decide +kernel
theorem dX1_carryOut_363 : decode cX1_carryOut 363 = .ok (.iadd, 1) := by decide +kernel
theorem dX1_carryOut_364 : decode cX1_carryOut 364 = .ok (.iconst 0, 1) := by decide +kernel
theorem dX1_carryOut_365 : decode cX1_carryOut 365 = .ok (.iastore, 1) := by decide +kernel
theorem dX1_carryOut_366 : decode cX1_carryOut 366 = .ok (.aload_n 0, 1) := by decide +kernel
theorem dX1_carryOut_367 : decode cX1_carryOut 367 = .ok (.aload_n 0, 1) := by decide +kernel
theorem dX1_carryOut_368 : decode cX1_carryOut 368 = .ok (.getfield 45, 3) := by decide +kernel
theorem dX1_carryOut_371 : decode cX1_carryOut 371 = .ok (.iconst 1, 1) := by decide +kernel
theorem dX1_carryOut_372 : decode cX1_carryOut 372 = .ok (.iadd, 1) := by decide +kernel
theorem dX1_carryOut_373 : decode cX1_carryOut 373 = .ok (.putfield 45, 3) := by decide +kernel
theorem dX1_carryOut_376 : decode cX1_carryOut 376 = .ok (.iload_n 3, 1) := by decide +kernel
theorem dX1_carryOut_377 : decode cX1_carryOut 377 = .ok (.istore 7, 2) := by decide +kernel
theorem dX1_carryOut_379 : decode cX1_carryOut 379 = .ok (.goto 88, 3) := by decide +kernel
theorem dX1_carryOut_382 : decode cX1_carryOut 382 = .ok (.iload_n 1, 1) := by decide +kernel
theorem dX1_carryOut_383 : decode cX1_carryOut 383 = .ok (.bipush 9, 2) := by decide +kernel
theorem dX1_carryOut_385 : decode cX1_carryOut 385 = .ok (.if_icmp .ne 71, 3) := by decide +kernel
theorem dX1_carryOut_388 : decode cX1_carryOut 388 = .ok (.aload_n 0, 1) := by decide +kernel
theorem dX1_carryOut_389 : decode cX1_carryOut 389 = .ok (.getfield 45, 3) := by decide +kernel
theorem dX1_carryOut_392 : decode cX1_carryOut 392 = .ok (.iconst 1, 1) := by decide +kernel
theorem dX1_carryOut_393 : decode cX1_carryOut 393 = .ok (.if_icmp .ne 9, 3) := by decide +kernel
theorem dX1_carryOut_396 : decode cX1_carryOut 396 = .ok (.aload_n 0, 1) := by decide +kernel
theorem dX1_carryOut_397 : decode cX1_carryOut 397 = .ok (.iconst 5, 1) := by decide +kernel
theorem dX1_carryOut_398 : decode cX1_carryOut 398 = .ok (.putfield 38, 3) := by decide +kernel
theorem dX1_carryOut_401 : decode cX1_carryOut 401 = .ok (.return_, 1) := by decide +kernel
theorem dX1_carryOut_402 : decode cX1_carryOut 402 = .ok (.aload_n 0, 1) := by decide +kernel
theorem dX1_carryOut_403 : decode cX1_carryOut 403 = .ok (.aload_n 0, 1) := by decide +kernel
theorem dX1_carryOut_404 : decode cX1_carryOut 404 = .ok (.getfield 45, 3) := by decide +kernel
theorem dX1_carryOut_407 : decode cX1_carryOut 407 = .ok (.iconst 1, 1) := by decide +kernel
theorem dX1_carryOut_408 : decode cX1_carryOut 408 = .ok (.isub, 1) := by decide +kernel
theorem dX1_carryOut_409 : decode cX1_carryOut 409 = .ok (.putfield 45, 3) := by decide +kernel
theorem dX1_carryOut_412 : decode cX1_carryOut 412 = .ok (.aload_n 0, 1) := by decide +kernel
theorem dX1_carryOut_413 : decode cX1_carryOut 413 = .ok (.getfield 22, 3) := by decide +kernel
theorem dX1_carryOut_416 : decode cX1_carryOut 416 = .ok (.iload 4, 2) := by decide +kernel
theorem dX1_carryOut_418 : decode cX1_carryOut 418 = .ok (.iconst 4, 1) := by decide +kernel
theorem dX1_carryOut_419 : decode cX1_carryOut 419 = .ok (.isub, 1) := by decide +kernel
theorem dX1_carryOut_420 : decode cX1_carryOut 420 = .ok (.aload_n 0, 1) := by decide +kernel
theorem dX1_carryOut_421 : decode cX1_carryOut 421 = .ok (.getfield 28, 3) := by decide +kernel
theorem dX1_carryOut_424 : decode cX1_carryOut 424 = .ok (.aload_n 0, 1) := by decide +kernel
theorem dX1_carryOut_425 : decode cX1_carryOut 425 = .ok (.getfield 45, 3) := by decide +kernel
theorem dX1_carryOut_428 : decode cX1_carryOut 428 = .ok (.iconst 1, 1) := by decide +kernel
theorem dX1_carryOut_429 : decode cX1_carryOut 429 = .ok (.isub, 1) := by decide +kernel
theorem dX1_carryOut_430 : decode cX1_carryOut 430 = .ok (.iaload, 1) := by decide +kernel
theorem dX1_carryOut_431 : decode cX1_carryOut 431 = .ok (.iadd, 1) := by decide +kernel
theorem dX1_carryOut_432 : decode cX1_carryOut 432 = .ok (.aload_n 0, 1) := by decide +kernel
theorem dX1_carryOut_433 : decode cX1_carryOut 433 = .ok (.getfield 22, 3) := by decide +kernel
theorem dX1_carryOut_436 : decode cX1_carryOut 436 = .ok (.iload 4, 2) := by decide +kernel
theorem dX1_carryOut_438 : decode cX1_carryOut 438 = .ok (.iaload, 1) := by decide +kernel
theorem dX1_carryOut_439 : decode cX1_carryOut 439 = .ok (.iastore, 1) := by decide +kernel
theorem dX1_carryOut_440 : decode cX1_carryOut 440 = .ok (.aload_n 0, 1) := by decide +kernel
theorem dX1_carryOut_441 : decode cX1_carryOut 441 = .ok (.getfield 25, 3) := by decide +kernel
theorem dX1_carryOut_444 : decode cX1_carryOut 444 = .ok (.aload_n 0, 1) := by decide +kernel
theorem dX1_carryOut_445 : decode cX1_carryOut 445 = .ok (.getfield 45, 3) := by decide +kernel
theorem dX1_carryOut_448 : decode cX1_carryOut 448 = .ok (.iconst 1, 1) := by decide +kernel
theorem dX1_carryOut_449 : decode cX1_carryOut 449 = .ok (.isub, 1) := by decide +kernel
theorem dX1_carryOut_450 : decode cX1_carryOut 450 = .ok (.iaload, 1) := by decide +kernel
theorem dX1_carryOut_451 : decode cX1_carryOut 451 = .ok (.istore 7, 2) := by decide +kernel
theorem dX1_carryOut_453 : decode cX1_carryOut 453 = .ok (.goto 14, 3) := by decide +kernel
theorem dX1_carryOut_456 : decode cX1_carryOut 456 = .ok (.aload_n 0, 1) := by decide +kernel
theorem dX1_carryOut_457 : decode cX1_carryOut 457 = .ok (.aload_n 0, 1) := by decide +kernel
theorem dX1_carryOut_458 : decode cX1_carryOut 458 = .ok (.getfield 22, 3) := by decide +kernel
theorem dX1_carryOut_461 : decode cX1_carryOut 461 = .ok (.iload 5, 2) := by decide +kernel
theorem dX1_carryOut_463 : decode cX1_carryOut 463 = .ok (.iaload, 1) := by decide +kernel
theorem dX1_carryOut_464 : decode cX1_carryOut 464 = .ok (.invokevirtual 58, 3) := by decide +kernel
theorem dX1_carryOut_467 : decode cX1_carryOut 467 = .ok (.aload_n 0, 1) := by decide +kernel
theorem dX1_carryOut_468 : decode cX1_carryOut 468 = .ok (.iload 7, 2) := by decide +kernel
theorem dX1_carryOut_470 : decode cX1_carryOut 470 = .ok (.putfield 48, 3) := by decide +kernel
theorem dX1_carryOut_473 : decode cX1_carryOut 473 = .ok (.aload_n 0, 1) := by decide +kernel
theorem dX1_carryOut_474 : decode cX1_carryOut 474 = .ok (.aload_n 0, 1) := by decide +kernel
theorem dX1_carryOut_475 : decode cX1_carryOut 475 = .ok (.getfield 48, 3) := by decide +kernel
theorem dX1_carryOut_478 : decode cX1_carryOut 478 = .ok (.invokevirtual 41, 3) := by decide +kernel
theorem dX1_carryOut_481 : decode cX1_carryOut 481 = .ok (.ifCond .eq 9, 3) := by decide +kernel
theorem dX1_carryOut_484 : decode cX1_carryOut 484 = .ok (.aload_n 0, 1) := by decide +kernel
theorem dX1_carryOut_485 : decode cX1_carryOut 485 = .ok (.bipush 6, 2) := by decide +kernel
theorem dX1_carryOut_487 : decode cX1_carryOut 487 = .ok (.putfield 38, 3) := by decide +kernel
theorem dX1_carryOut_490 : decode cX1_carryOut 490 = .ok (.return_, 1) := by decide +kernel
end
section
set_option maxRecDepth 100000
theorem dX1_out_0 : decode cX1_out 0 = .ok (.bipush 7, 2) := by decide +kernel
theorem dX1_out_2 : decode cX1_out 2 = .ok (.istore_n 2, 1) := by decide +kernel
theorem dX1_out_3 : decode cX1_out 3 = .ok (.iload_n 2, 1) := by decide +kernel
theorem dX1_out_4 : decode cX1_out 4 = .ok (.ifCond .le 23, 3) := by decide +kernel
theorem dX1_out_7 : decode cX1_out 7 = .ok (.aload_n 0, 1) := by decide +kernel
theorem dX1_out_8 : decode cX1_out 8 = .ok (.getfield 31, 3) := by decide +kernel
theorem dX1_out_11 : decode cX1_out 11 = .ok (.iload_n 2, 1) := by decide +kernel
theorem dX1_out_12 : decode cX1_out 12 = .ok (.aload_n 0, 1) := by decide +kernel
theorem dX1_out_13 : decode cX1_out 13 = .ok (.getfield 31, 3) := by decide +kernel
theorem dX1_out_16 : decode cX1_out 16 = .ok (.iload_n 2, 1) := by decide +kernel
theorem dX1_out_17 : decode cX1_out 17 = .ok (.iconst 1, 1) := by decide +kernel
theorem dX1_out_18 : decode cX1_out 18 = .ok (.isub, 1) := by decide +kernel
theorem dX1_out_19 : decode cX1_out 19 = .ok (.iaload, 1) := by decide +kernel
theorem dX1_out_20 : decode cX1_out 20 = .ok (.iastore, 1) := by decide +kernel
theorem dX1_out_21 : decode cX1_out 21 = .ok (.iinc 2 (-1), 3) := by decide +kernel
theorem dX1_out_24 : decode cX1_out 24 = .ok (.goto (-21), 3) := by decide +kernel
theorem dX1_out_27 : decode cX1_out 27 = .ok (.aload_n 0, 1) := by decide +kernel
theorem dX1_out_28 : decode cX1_out 28 = .ok (.getfield 31, 3) := by decide +kernel
theorem dX1_out_31 : decode cX1_out 31 = .ok (.iconst 0, 1) := by decide +kernel
theorem dX1_out_32 : decode cX1_out 32 = .ok (.iload_n 1, 1) := by decide +kernel
theorem dX1_out_33 : decode cX1_out 33 = .ok (.iastore, 1) := by decide +kernel
theorem dX1_out_34 : decode cX1_out 34 = .ok (.aload_n 0, 1) := by decide +kernel
theorem dX1_out_35 : decode cX1_out 35 = .ok (.aload_n 0, 1) := by decide +kernel
theorem dX1_out_36 : decode cX1_out 36 = .ok (.getfield 51, 3) := by decide +kernel
theorem dX1_out_39 : decode cX1_out 39 = .ok (.iconst 1, 1) := by decide +kernel
theorem dX1_out_40 : decode cX1_out 40 = .ok (.iadd, 1) := by decide +kernel
theorem dX1_out_41 : decode cX1_out 41 = .ok (.putfield 51, 3) := by decide +kernel
theorem dX1_out_44 : decode cX1_out 44 = .ok (.return_, 1) := by decide +kernel
theorem dX1_stepInto_0 : decode cX1_stepInto 0 = .ok (.aload_n 0, 1) := by decide +kernel
theorem dX1_stepInto_1 : decode cX1_stepInto 1 = .ok (.iconst 1, 1) := by decide +kernel
theorem dX1_stepInto_2 : decode cX1_stepInto 2 = .ok (.bipush 6, 2) := by decide +kernel
theorem dX1_stepInto_4 : decode cX1_stepInto 4 = .ok (.invokevirtual 65, 3) := by decide +kernel
theorem dX1_stepInto_7 : decode cX1_stepInto 7 = .ok (.ireturn, 1) := by decide +kernel
theorem dX1_stepOver_0 : decode cX1_stepOver 0 = .ok (.aload_n 0, 1) := by decide +kernel
theorem dX1_stepOver_1 : decode cX1_stepOver 1 = .ok (.iload_n 1, 1) := by decide +kernel
theorem dX1_stepOver_2 : decode cX1_stepOver 2 = .ok (.aload_n 0, 1) := by decide +kernel
theorem dX1_stepOver_3 : decode cX1_stepOver 3 = .ok (.getfield 45, 3) := by decide +kernel
theorem dX1_stepOver_6 : decode cX1_stepOver 6 = .ok (.invokevirtual 65, 3) := by decide +kernel
theorem dX1_stepOver_9 : decode cX1_stepOver 9 = .ok (.ireturn, 1) := by decide +kernel
theorem dX1_stepOut_0 : decode cX1_stepOut 0 = .ok (.aload_n 0, 1) := by decide +kernel
theorem dX1_stepOut_1 : decode cX1_stepOut 1 = .ok (.iload_n 1, 1) := by decide +kernel
theorem dX1_stepOut_2 : decode cX1_stepOut 2 = .ok (.aload_n 0, 1) := by decide +kernel
theorem dX1_stepOut_3 : decode cX1_stepOut 3 = .ok (.getfield 45, 3) := by decide +kernel
theorem dX1_stepOut_6 : decode cX1_stepOut 6 = .ok (.iconst 1, 1) := by decide +kernel
theorem dX1_stepOut_7 : decode cX1_stepOut 7 = .ok (.isub, 1) := by decide +kernel
theorem dX1_stepOut_8 : decode cX1_stepOut 8 = .ok (.invokevirtual 65, 3) := by decide +kernel
theorem dX1_stepOut_11 : decode cX1_stepOut 11 = .ok (.ireturn, 1) := by decide +kernel
theorem dX1_setLocal_0 : decode cX1_setLocal 0 = .ok (.aload_n 0, 1) := by decide +kernel
theorem dX1_setLocal_1 : decode cX1_setLocal 1 = .ok (.getfield 45, 3) := by decide +kernel
theorem dX1_setLocal_4 : decode cX1_setLocal 4 = .ok (.ifCond .ne 6, 3) := by decide +kernel
theorem dX1_setLocal_7 : decode cX1_setLocal 7 = .ok (.bipush (-4), 2) := by decide +kernel
theorem dX1_setLocal_9 : decode cX1_setLocal 9 = .ok (.ireturn, 1) := by decide +kernel
theorem dX1_setLocal_10 : decode cX1_setLocal 10 = .ok (.iload_n 1, 1) := by decide +kernel
theorem dX1_setLocal_11 : decode cX1_setLocal 11 = .ok (.ifCond .lt 8, 3) := by decide +kernel
theorem dX1_setLocal_14 : decode cX1_setLocal 14 = .ok (.iload_n 1, 1) := by decide +kernel
theorem dX1_setLocal_15 : decode cX1_setLocal 15 = .ok (.iconst 3, 1) := by decide +kernel
theorem dX1_setLocal_16 : decode cX1_setLocal 16 = .ok (.if_icmp .le 6, 3) := by decide +kernel
theorem dX1_setLocal_19 : decode cX1_setLocal 19 = .ok (.bipush (-3), 2) := by decide +kernel
theorem dX1_setLocal_21 : decode cX1_setLocal 21 = .ok (.ireturn, 1) := by decide +kernel
theorem dX1_setLocal_22 : decode cX1_setLocal 22 = .ok (.aload_n 0, 1) := by decide +kernel
theorem dX1_setLocal_23 : decode cX1_setLocal 23 = .ok (.getfield 22, 3) := by decide +kernel
theorem dX1_setLocal_26 : decode cX1_setLocal 26 = .ok (.aload_n 0, 1) := by decide +kernel
theorem dX1_setLocal_27 : decode cX1_setLocal 27 = .ok (.getfield 45, 3) := by decide +kernel
theorem dX1_setLocal_30 : decode cX1_setLocal 30 = .ok (.iconst 1, 1) := by decide +kernel
theorem dX1_setLocal_31 : decode cX1_setLocal 31 = .ok (.isub, 1) := by decide +kernel
theorem dX1_setLocal_32 : decode cX1_setLocal 32 = .ok (.iconst 4, 1) := by decide +kernel
theorem dX1_setLocal_33 : decode cX1_setLocal 33 = .ok (.imul, 1) := by decide +kernel
theorem dX1_setLocal_34 : decode cX1_setLocal 34 = .ok (.iload_n 1, 1) := by decide +kernel
theorem dX1_setLocal_35 : decode cX1_setLocal 35 = .ok (.iadd, 1) := by decide +kernel
theorem dX1_setLocal_36 : decode cX1_setLocal 36 = .ok (.iload_n 2, 1) := by decide +kernel
theorem dX1_setLocal_37 : decode cX1_setLocal 37 = .ok (.iastore, 1) := by decide +kernel
theorem dX1_setLocal_38 : decode cX1_setLocal 38 = .ok (.iconst 0, 1) := by decide +kernel
theorem dX1_setLocal_39 : decode cX1_setLocal 39 = .ok (.ireturn, 1) := by decide +kernel
theorem dX1_state_0 : decode cX1_state 0 = .ok (.aload_n 0, 1) := by decide +kernel
theorem dX1_state_1 : decode cX1_state 1 = .ok (.getfield 38, 3) := by decide +kernel
theorem dX1_state_4 : decode cX1_state 4 = .ok (.ireturn, 1) := by decide +kernel
theorem dX1_depth_0 : decode cX1_depth 0 = .ok (.aload_n 0, 1) := by decide +kernel
theorem dX1_depth_1 : decode cX1_depth 1 = .ok (.getfield 45, 3) := by decide +kernel
theorem dX1_depth_4 : decode cX1_depth 4 = .ok (.ireturn, 1) := by decide +kernel
theorem dX1_counter_0 : decode cX1_counter 0 = .ok (.iload_n 1, 1) := by decide +kernel
theorem dX1_counter_1 : decode cX1_counter 1 = .ok (.ifCond .lt 11, 3) := by decide +kernel
theorem dX1_counter_4 : decode cX1_counter 4 = .ok (.iload_n 1, 1) := by decide +kernel
theorem dX1_counter_5 : decode cX1_counter 5 = .ok (.aload_n 0, 1) := by decide +kernel
theorem dX1_counter_6 : decode cX1_counter 6 = .ok (.getfield 45, 3) := by decide +kernel
theorem dX1_counter_9 : decode cX1_counter 9 = .ok (.if_icmp .lt 6, 3) := by decide +kernel
theorem dX1_counter_12 : decode cX1_counter 12 = .ok (.bipush (-3), 2) := by decide +kernel
theorem dX1_counter_14 : decode cX1_counter 14 = .ok (.ireturn, 1) := by decide +kernel
theorem dX1_counter_15 : decode cX1_counter 15 = .ok (.iload_n 1, 1) := by decide +kernel
theorem dX1_counter_16 : decode cX1_counter 16 = .ok (.ifCond .ne 10, 3) := by decide +kernel
theorem dX1_counter_19 : decode cX1_counter 19 = .ok (.aload_n 0, 1) := by decide +kernel
theorem dX1_counter_20 : decode cX1_counter 20 = .ok (.getfield 48, 3) := by decide +kernel
theorem dX1_counter_23 : decode cX1_counter 23 = .ok (.goto 16, 3) := by decide +kernel
theorem dX1_counter_26 : decode cX1_counter 26 = .ok (.aload_n 0, 1) := by decide +kernel
theorem dX1_counter_27 : decode cX1_counter 27 = .ok (.getfield 25, 3) := by decide +kernel
theorem dX1_counter_30 : decode cX1_counter 30 = .ok (.aload_n 0, 1) := by decide +kernel
theorem dX1_counter_31 : decode cX1_counter 31 = .ok (.getfield 45, 3) := by decide +kernel
theorem dX1_counter_34 : decode cX1_counter 34 = .ok (.iconst 1, 1) := by decide +kernel
theorem dX1_counter_35 : decode cX1_counter 35 = .ok (.isub, 1) := by decide +kernel
theorem dX1_counter_36 : decode cX1_counter 36 = .ok (.iload_n 1, 1) := by decide +kernel
theorem dX1_counter_37 : decode cX1_counter 37 = .ok (.isub, 1) := by decide +kernel
theorem dX1_counter_38 : decode cX1_counter 38 = .ok (.iaload, 1) := by decide +kernel
theorem dX1_counter_39 : decode cX1_counter 39 = .ok (.ireturn, 1) := by decide +kernel
theorem dX1_local_0 : decode cX1_local 0 = .ok (.iload_n 1, 1) := by decide +kernel
theorem dX1_local_1 : decode cX1_local 1 = .ok (.ifCond .lt 20, 3) := by decide +kernel
theorem dX1_local_4 : decode cX1_local 4 = .ok (.iload_n 1, 1) := by decide +kernel
theorem dX1_local_5 : decode cX1_local 5 = .ok (.aload_n 0, 1) := by decide +kernel
theorem dX1_local_6 : decode cX1_local 6 = .ok (.getfield 45, 3) := by decide +kernel
theorem dX1_local_9 : decode cX1_local 9 = .ok (.if_icmp .ge 12, 3) := by decide +kernel
theorem dX1_local_12 : decode cX1_local 12 = .ok (.iload_n 2, 1) := by decide +kernel
theorem dX1_local_13 : decode cX1_local 13 = .ok (.ifCond .lt 8, 3) := by decide +kernel
theorem dX1_local_16 : decode cX1_local 16 = .ok (.iload_n 2, 1) := by decide +kernel
theorem dX1_local_17 : decode cX1_local 17 = .ok (.iconst 3, 1) := by decide +kernel
theorem dX1_local_18 : decode cX1_local 18 = .ok (.if_icmp .le 5, 3) := by decide +kernel
theorem dX1_local_21 : decode cX1_local 21 = .ok (.iconst 0, 1) := by decide +kernel
theorem dX1_local_22 : decode cX1_local 22 = .ok (.ireturn, 1) := by decide +kernel
theorem dX1_local_23 : decode cX1_local 23 = .ok (.aload_n 0, 1) := by decide +kernel
theorem dX1_local_24 : decode cX1_local 24 = .ok (.getfield 22, 3) := by decide +kernel
theorem dX1_local_27 : decode cX1_local 27 = .ok (.aload_n 0, 1) := by decide +kernel
theorem dX1_local_28 : decode cX1_local 28 = .ok (.getfield 45, 3) := by decide +kernel
theorem dX1_local_31 : decode cX1_local 31 = .ok (.iconst 1, 1) := by decide +kernel
theorem dX1_local_32 : decode cX1_local 32 = .ok (.isub, 1) := by decide +kernel
theorem dX1_local_33 : decode cX1_local 33 = .ok (.iload_n 1, 1) := by decide +kernel
theorem dX1_local_34 : decode cX1_local 34 = .ok (.isub, 1) := by decide +kernel
theorem dX1_local_35 : decode cX1_local 35 = .ok (.iconst 4, 1) := by decide +kernel
theorem dX1_local_36 : decode cX1_local 36 = .ok (.imul, 1) := by decide +kernel
theorem dX1_local_37 : decode cX1_local 37 = .ok (.iload_n 2, 1) := by decide +kernel
theorem dX1_local_38 : decode cX1_local 38 = .ok (.iadd, 1) := by decide +kernel
theorem dX1_local_39 : decode cX1_local 39 = .ok (.iaload, 1) := by decide +kernel
theorem dX1_local_40 : decode cX1_local 40 = .ok (.ireturn, 1) := by decide +kernel
theorem dX1_outputs_0 : decode cX1_outputs 0 = .ok (.aload_n 0, 1) := by decide +kernel
theorem dX1_outputs_1 : decode cX1_outputs 1 = .ok (.getfield 51, 3) := by decide +kernel
theorem dX1_outputs_4 : decode cX1_outputs 4 = .ok (.ireturn, 1) := by decide +kernel
theorem dX1_output_0 : decode cX1_output 0 = .ok (.iload_n 1, 1) := by decide +kernel
theorem dX1_output_1 : decode cX1_output 1 = .ok (.ifCond .lt 17, 3) := by decide +kernel
theorem dX1_output_4 : decode cX1_output 4 = .ok (.iload_n 1, 1) := by decide +kernel
theorem dX1_output_5 : decode cX1_output 5 = .ok (.bipush 7, 2) := by decide +kernel
theorem dX1_output_7 : decode cX1_output 7 = .ok (.if_icmp .gt 11, 3) := by decide +kernel
theorem dX1_output_10 : decode cX1_output 10 = .ok (.iload_n 1, 1) := by decide +kernel
theorem dX1_output_11 : decode cX1_output 11 = .ok (.aload_n 0, 1) := by decide +kernel
theorem dX1_output_12 : decode cX1_output 12 = .ok (.getfield 51, 3) := by decide +kernel
theorem dX1_output_15 : decode cX1_output 15 = .ok (.if_icmp .lt 5, 3) := by decide +kernel
theorem dX1_output_18 : decode cX1_output 18 = .ok (.iconst 0, 1) := by decide +kernel
theorem dX1_output_19 : decode cX1_output 19 = .ok (.ireturn, 1) := by decide +kernel
theorem dX1_output_20 : decode cX1_output 20 = .ok (.aload_n 0, 1) := by decide +kernel
theorem dX1_output_21 : decode cX1_output 21 = .ok (.getfield 31, 3) := by decide +kernel
theorem dX1_output_24 : decode cX1_output 24 = .ok (.iload_n 1, 1) := by decide +kernel
theorem dX1_output_25 : decode cX1_output 25 = .ok (.iaload, 1) := by decide +kernel
theorem dX1_output_26 : decode cX1_output 26 = .ok (.ireturn, 1) := by decide +kernel
theorem dX1_skip_0 : decode cX1_skip 0 = .ok (.aload_n 0, 1) := by decide +kernel
theorem dX1_skip_1 : decode cX1_skip 1 = .ok (.iload_n 1, 1) := by decide +kernel
theorem dX1_skip_2 : decode cX1_skip 2 = .ok (.invokevirtual 41, 3) := by decide +kernel
theorem dX1_skip_5 : decode cX1_skip 5 = .ok (.ifCond .ne 12, 3) := by decide +kernel
theorem dX1_skip_8 : decode cX1_skip 8 = .ok (.aload_n 0, 1) := by decide +kernel
theorem dX1_skip_9 : decode cX1_skip 9 = .ok (.getfield 19, 3) := by decide +kernel
theorem dX1_skip_12 : decode cX1_skip 12 = .ok (.iload_n 1, 1) := by decide +kernel
theorem dX1_skip_13 : decode cX1_skip 13 = .ok (.iaload, 1) := by decide +kernel
theorem dX1_skip_14 : decode cX1_skip 14 = .ok (.ifCond .ge 8, 3) := by decide +kernel
theorem dX1_skip_17 : decode cX1_skip 17 = .ok (.bipush (-3), 2) := by decide +kernel
theorem dX1_skip_19 : decode cX1_skip 19 = .ok (.goto 9, 3) := by decide +kernel
theorem dX1_skip_22 : decode cX1_skip 22 = .ok (.aload_n 0, 1) := by decide +kernel
theorem dX1_skip_23 : decode cX1_skip 23 = .ok (.getfield 19, 3) := by decide +kernel
theorem dX1_skip_26 : decode cX1_skip 26 = .ok (.iload_n 1, 1) := by decide +kernel
theorem dX1_skip_27 : decode cX1_skip 27 = .ok (.iaload, 1) := by decide +kernel
theorem dX1_skip_28 : decode cX1_skip 28 = .ok (.ireturn, 1) := by decide +kernel
end
section
/-! the law's own entry -/
set_option maxRecDepth 100000
abbrev cL_law : ByteArray := code
theorem dL_law_0 : decode cL_law 0 = .ok (.new 7, 3) := by decide +kernel
theorem dL_law_3 : decode cL_law 3 = .ok (.dup, 1) := by decide +kernel
theorem dL_law_4 : decode cL_law 4 = .ok (.invokespecial 9, 3) := by decide +kernel
theorem dL_law_7 : decode cL_law 7 = .ok (.astore_n 1, 1) := by decide +kernel
theorem dL_law_8 : decode cL_law 8 = .ok (.new 10, 3) := by decide +kernel
theorem dL_law_11 : decode cL_law 11 = .ok (.dup, 1) := by decide +kernel
theorem dL_law_12 : decode cL_law 12 = .ok (.invokespecial 12, 3) := by decide +kernel
theorem dL_law_15 : decode cL_law 15 = .ok (.astore_n 2, 1) := by decide +kernel
theorem dL_law_16 : decode cL_law 16 = .ok (.iconst 0, 1) := by decide +kernel
theorem dL_law_17 : decode cL_law 17 = .ok (.istore_n 3, 1) := by decide +kernel
theorem dL_law_18 : decode cL_law 18 = .ok (.iload_n 3, 1) := by decide +kernel
theorem dL_law_19 : decode cL_law 19 = .ok (.aload_n 0, 1) := by decide +kernel
theorem dL_law_20 : decode cL_law 20 = .ok (.arraylength, 1) := by decide +kernel
theorem dL_law_21 : decode cL_law 21 = .ok (.iconst 4, 1) := by decide +kernel
theorem dL_law_22 : decode cL_law 22 = .ok (.isub, 1) := by decide +kernel
theorem dL_law_23 : decode cL_law 23 = .ok (.if_icmp .gt 473, 3) := by decide +kernel
theorem dL_law_26 : decode cL_law 26 = .ok (.aload_n 0, 1) := by decide +kernel
theorem dL_law_27 : decode cL_law 27 = .ok (.iload_n 3, 1) := by decide +kernel
theorem dL_law_28 : decode cL_law 28 = .ok (.iaload, 1) := by decide +kernel
theorem dL_law_29 : decode cL_law 29 = .ok (.bipush 15, 2) := by decide +kernel
theorem dL_law_31 : decode cL_law 31 = .ok (.iand, 1) := by decide +kernel
theorem dL_law_32 : decode cL_law 32 = .ok (.tableswitch 458 0 15 #[80, 123, 146, 179, 202, 225, 238, 261, 284, 317, 330, 343, 366, 399, 412, 435], 80) := by decide +kernel
theorem dL_law_112 : decode cL_law 112 = .ok (.aload_n 1, 1) := by decide +kernel
theorem dL_law_113 : decode cL_law 113 = .ok (.aload_n 0, 1) := by decide +kernel
theorem dL_law_114 : decode cL_law 114 = .ok (.iload_n 3, 1) := by decide +kernel
theorem dL_law_115 : decode cL_law 115 = .ok (.iconst 1, 1) := by decide +kernel
theorem dL_law_116 : decode cL_law 116 = .ok (.iadd, 1) := by decide +kernel
theorem dL_law_117 : decode cL_law 117 = .ok (.iaload, 1) := by decide +kernel
theorem dL_law_118 : decode cL_law 118 = .ok (.aload_n 0, 1) := by decide +kernel
theorem dL_law_119 : decode cL_law 119 = .ok (.iload_n 3, 1) := by decide +kernel
theorem dL_law_120 : decode cL_law 120 = .ok (.iconst 2, 1) := by decide +kernel
theorem dL_law_121 : decode cL_law 121 = .ok (.iadd, 1) := by decide +kernel
theorem dL_law_122 : decode cL_law 122 = .ok (.iaload, 1) := by decide +kernel
theorem dL_law_123 : decode cL_law 123 = .ok (.aload_n 0, 1) := by decide +kernel
theorem dL_law_124 : decode cL_law 124 = .ok (.iload_n 3, 1) := by decide +kernel
theorem dL_law_125 : decode cL_law 125 = .ok (.iconst 3, 1) := by decide +kernel
theorem dL_law_126 : decode cL_law 126 = .ok (.iadd, 1) := by decide +kernel
theorem dL_law_127 : decode cL_law 127 = .ok (.iaload, 1) := by decide +kernel
theorem dL_law_128 : decode cL_law 128 = .ok (.invokevirtual 13, 3) := by decide +kernel
theorem dL_law_131 : decode cL_law 131 = .ok (.aload_n 2, 1) := by decide +kernel
theorem dL_law_132 : decode cL_law 132 = .ok (.aload_n 0, 1) := by decide +kernel
theorem dL_law_133 : decode cL_law 133 = .ok (.iload_n 3, 1) := by decide +kernel
theorem dL_law_134 : decode cL_law 134 = .ok (.iconst 1, 1) := by decide +kernel
theorem dL_law_135 : decode cL_law 135 = .ok (.iadd, 1) := by decide +kernel
theorem dL_law_136 : decode cL_law 136 = .ok (.iaload, 1) := by decide +kernel
theorem dL_law_137 : decode cL_law 137 = .ok (.aload_n 0, 1) := by decide +kernel
theorem dL_law_138 : decode cL_law 138 = .ok (.iload_n 3, 1) := by decide +kernel
theorem dL_law_139 : decode cL_law 139 = .ok (.iconst 2, 1) := by decide +kernel
theorem dL_law_140 : decode cL_law 140 = .ok (.iadd, 1) := by decide +kernel
theorem dL_law_141 : decode cL_law 141 = .ok (.iaload, 1) := by decide +kernel
theorem dL_law_142 : decode cL_law 142 = .ok (.aload_n 0, 1) := by decide +kernel
theorem dL_law_143 : decode cL_law 143 = .ok (.iload_n 3, 1) := by decide +kernel
theorem dL_law_144 : decode cL_law 144 = .ok (.iconst 3, 1) := by decide +kernel
theorem dL_law_145 : decode cL_law 145 = .ok (.iadd, 1) := by decide +kernel
theorem dL_law_146 : decode cL_law 146 = .ok (.iaload, 1) := by decide +kernel
theorem dL_law_147 : decode cL_law 147 = .ok (.invokevirtual 17, 3) := by decide +kernel
theorem dL_law_150 : decode cL_law 150 = .ok (.if_icmp .eq 340, 3) := by decide +kernel
theorem dL_law_153 : decode cL_law 153 = .ok (.iconst 0, 1) := by decide +kernel
theorem dL_law_154 : decode cL_law 154 = .ok (.ireturn, 1) := by decide +kernel
theorem dL_law_155 : decode cL_law 155 = .ok (.aload_n 1, 1) := by decide +kernel
theorem dL_law_156 : decode cL_law 156 = .ok (.aload_n 0, 1) := by decide +kernel
theorem dL_law_157 : decode cL_law 157 = .ok (.iload_n 3, 1) := by decide +kernel
theorem dL_law_158 : decode cL_law 158 = .ok (.iconst 1, 1) := by decide +kernel
theorem dL_law_159 : decode cL_law 159 = .ok (.iadd, 1) := by decide +kernel
theorem dL_law_160 : decode cL_law 160 = .ok (.iaload, 1) := by decide +kernel
theorem dL_law_161 : decode cL_law 161 = .ok (.invokevirtual 18, 3) := by decide +kernel
theorem dL_law_164 : decode cL_law 164 = .ok (.aload_n 2, 1) := by decide +kernel
theorem dL_law_165 : decode cL_law 165 = .ok (.aload_n 0, 1) := by decide +kernel
theorem dL_law_166 : decode cL_law 166 = .ok (.iload_n 3, 1) := by decide +kernel
theorem dL_law_167 : decode cL_law 167 = .ok (.iconst 1, 1) := by decide +kernel
theorem dL_law_168 : decode cL_law 168 = .ok (.iadd, 1) := by decide +kernel
theorem dL_law_169 : decode cL_law 169 = .ok (.iaload, 1) := by decide +kernel
theorem dL_law_170 : decode cL_law 170 = .ok (.invokevirtual 22, 3) := by decide +kernel
theorem dL_law_173 : decode cL_law 173 = .ok (.if_icmp .eq 317, 3) := by decide +kernel
theorem dL_law_176 : decode cL_law 176 = .ok (.iconst 0, 1) := by decide +kernel
theorem dL_law_177 : decode cL_law 177 = .ok (.ireturn, 1) := by decide +kernel
theorem dL_law_178 : decode cL_law 178 = .ok (.aload_n 1, 1) := by decide +kernel
theorem dL_law_179 : decode cL_law 179 = .ok (.aload_n 0, 1) := by decide +kernel
theorem dL_law_180 : decode cL_law 180 = .ok (.iload_n 3, 1) := by decide +kernel
theorem dL_law_181 : decode cL_law 181 = .ok (.iconst 1, 1) := by decide +kernel
theorem dL_law_182 : decode cL_law 182 = .ok (.iadd, 1) := by decide +kernel
theorem dL_law_183 : decode cL_law 183 = .ok (.iaload, 1) := by decide +kernel
theorem dL_law_184 : decode cL_law 184 = .ok (.aload_n 0, 1) := by decide +kernel
theorem dL_law_185 : decode cL_law 185 = .ok (.iload_n 3, 1) := by decide +kernel
theorem dL_law_186 : decode cL_law 186 = .ok (.iconst 2, 1) := by decide +kernel
theorem dL_law_187 : decode cL_law 187 = .ok (.iadd, 1) := by decide +kernel
theorem dL_law_188 : decode cL_law 188 = .ok (.iaload, 1) := by decide +kernel
theorem dL_law_189 : decode cL_law 189 = .ok (.invokevirtual 23, 3) := by decide +kernel
theorem dL_law_192 : decode cL_law 192 = .ok (.aload_n 2, 1) := by decide +kernel
theorem dL_law_193 : decode cL_law 193 = .ok (.aload_n 0, 1) := by decide +kernel
theorem dL_law_194 : decode cL_law 194 = .ok (.iload_n 3, 1) := by decide +kernel
theorem dL_law_195 : decode cL_law 195 = .ok (.iconst 1, 1) := by decide +kernel
theorem dL_law_196 : decode cL_law 196 = .ok (.iadd, 1) := by decide +kernel
theorem dL_law_197 : decode cL_law 197 = .ok (.iaload, 1) := by decide +kernel
theorem dL_law_198 : decode cL_law 198 = .ok (.aload_n 0, 1) := by decide +kernel
theorem dL_law_199 : decode cL_law 199 = .ok (.iload_n 3, 1) := by decide +kernel
theorem dL_law_200 : decode cL_law 200 = .ok (.iconst 2, 1) := by decide +kernel
theorem dL_law_201 : decode cL_law 201 = .ok (.iadd, 1) := by decide +kernel
theorem dL_law_202 : decode cL_law 202 = .ok (.iaload, 1) := by decide +kernel
theorem dL_law_203 : decode cL_law 203 = .ok (.invokevirtual 27, 3) := by decide +kernel
theorem dL_law_206 : decode cL_law 206 = .ok (.if_icmp .eq 284, 3) := by decide +kernel
theorem dL_law_209 : decode cL_law 209 = .ok (.iconst 0, 1) := by decide +kernel
theorem dL_law_210 : decode cL_law 210 = .ok (.ireturn, 1) := by decide +kernel
theorem dL_law_211 : decode cL_law 211 = .ok (.aload_n 1, 1) := by decide +kernel
theorem dL_law_212 : decode cL_law 212 = .ok (.aload_n 0, 1) := by decide +kernel
theorem dL_law_213 : decode cL_law 213 = .ok (.iload_n 3, 1) := by decide +kernel
theorem dL_law_214 : decode cL_law 214 = .ok (.iconst 1, 1) := by decide +kernel
theorem dL_law_215 : decode cL_law 215 = .ok (.iadd, 1) := by decide +kernel
theorem dL_law_216 : decode cL_law 216 = .ok (.iaload, 1) := by decide +kernel
theorem dL_law_217 : decode cL_law 217 = .ok (.invokevirtual 28, 3) := by decide +kernel
theorem dL_law_220 : decode cL_law 220 = .ok (.aload_n 2, 1) := by decide +kernel
theorem dL_law_221 : decode cL_law 221 = .ok (.aload_n 0, 1) := by decide +kernel
theorem dL_law_222 : decode cL_law 222 = .ok (.iload_n 3, 1) := by decide +kernel
theorem dL_law_223 : decode cL_law 223 = .ok (.iconst 1, 1) := by decide +kernel
theorem dL_law_224 : decode cL_law 224 = .ok (.iadd, 1) := by decide +kernel
theorem dL_law_225 : decode cL_law 225 = .ok (.iaload, 1) := by decide +kernel
theorem dL_law_226 : decode cL_law 226 = .ok (.invokevirtual 31, 3) := by decide +kernel
theorem dL_law_229 : decode cL_law 229 = .ok (.if_icmp .eq 261, 3) := by decide +kernel
theorem dL_law_232 : decode cL_law 232 = .ok (.iconst 0, 1) := by decide +kernel
theorem dL_law_233 : decode cL_law 233 = .ok (.ireturn, 1) := by decide +kernel
theorem dL_law_234 : decode cL_law 234 = .ok (.aload_n 1, 1) := by decide +kernel
theorem dL_law_235 : decode cL_law 235 = .ok (.aload_n 0, 1) := by decide +kernel
theorem dL_law_236 : decode cL_law 236 = .ok (.iload_n 3, 1) := by decide +kernel
theorem dL_law_237 : decode cL_law 237 = .ok (.iconst 1, 1) := by decide +kernel
theorem dL_law_238 : decode cL_law 238 = .ok (.iadd, 1) := by decide +kernel
theorem dL_law_239 : decode cL_law 239 = .ok (.iaload, 1) := by decide +kernel
theorem dL_law_240 : decode cL_law 240 = .ok (.invokevirtual 32, 3) := by decide +kernel
theorem dL_law_243 : decode cL_law 243 = .ok (.aload_n 2, 1) := by decide +kernel
theorem dL_law_244 : decode cL_law 244 = .ok (.aload_n 0, 1) := by decide +kernel
theorem dL_law_245 : decode cL_law 245 = .ok (.iload_n 3, 1) := by decide +kernel
theorem dL_law_246 : decode cL_law 246 = .ok (.iconst 1, 1) := by decide +kernel
theorem dL_law_247 : decode cL_law 247 = .ok (.iadd, 1) := by decide +kernel
theorem dL_law_248 : decode cL_law 248 = .ok (.iaload, 1) := by decide +kernel
theorem dL_law_249 : decode cL_law 249 = .ok (.invokevirtual 35, 3) := by decide +kernel
theorem dL_law_252 : decode cL_law 252 = .ok (.if_icmp .eq 238, 3) := by decide +kernel
theorem dL_law_255 : decode cL_law 255 = .ok (.iconst 0, 1) := by decide +kernel
theorem dL_law_256 : decode cL_law 256 = .ok (.ireturn, 1) := by decide +kernel
theorem dL_law_257 : decode cL_law 257 = .ok (.aload_n 1, 1) := by decide +kernel
theorem dL_law_258 : decode cL_law 258 = .ok (.invokevirtual 36, 3) := by decide +kernel
theorem dL_law_261 : decode cL_law 261 = .ok (.aload_n 2, 1) := by decide +kernel
theorem dL_law_262 : decode cL_law 262 = .ok (.invokevirtual 40, 3) := by decide +kernel
theorem dL_law_265 : decode cL_law 265 = .ok (.if_icmp .eq 225, 3) := by decide +kernel
theorem dL_law_268 : decode cL_law 268 = .ok (.iconst 0, 1) := by decide +kernel
theorem dL_law_269 : decode cL_law 269 = .ok (.ireturn, 1) := by decide +kernel
theorem dL_law_270 : decode cL_law 270 = .ok (.aload_n 1, 1) := by decide +kernel
theorem dL_law_271 : decode cL_law 271 = .ok (.aload_n 0, 1) := by decide +kernel
theorem dL_law_272 : decode cL_law 272 = .ok (.iload_n 3, 1) := by decide +kernel
theorem dL_law_273 : decode cL_law 273 = .ok (.iconst 1, 1) := by decide +kernel
theorem dL_law_274 : decode cL_law 274 = .ok (.iadd, 1) := by decide +kernel
theorem dL_law_275 : decode cL_law 275 = .ok (.iaload, 1) := by decide +kernel
theorem dL_law_276 : decode cL_law 276 = .ok (.invokevirtual 41, 3) := by decide +kernel
theorem dL_law_279 : decode cL_law 279 = .ok (.aload_n 2, 1) := by decide +kernel
theorem dL_law_280 : decode cL_law 280 = .ok (.aload_n 0, 1) := by decide +kernel
theorem dL_law_281 : decode cL_law 281 = .ok (.iload_n 3, 1) := by decide +kernel
theorem dL_law_282 : decode cL_law 282 = .ok (.iconst 1, 1) := by decide +kernel
theorem dL_law_283 : decode cL_law 283 = .ok (.iadd, 1) := by decide +kernel
theorem dL_law_284 : decode cL_law 284 = .ok (.iaload, 1) := by decide +kernel
theorem dL_law_285 : decode cL_law 285 = .ok (.invokevirtual 44, 3) := by decide +kernel
theorem dL_law_288 : decode cL_law 288 = .ok (.if_icmp .eq 202, 3) := by decide +kernel
theorem dL_law_291 : decode cL_law 291 = .ok (.iconst 0, 1) := by decide +kernel
theorem dL_law_292 : decode cL_law 292 = .ok (.ireturn, 1) := by decide +kernel
theorem dL_law_293 : decode cL_law 293 = .ok (.aload_n 1, 1) := by decide +kernel
theorem dL_law_294 : decode cL_law 294 = .ok (.aload_n 0, 1) := by decide +kernel
theorem dL_law_295 : decode cL_law 295 = .ok (.iload_n 3, 1) := by decide +kernel
theorem dL_law_296 : decode cL_law 296 = .ok (.iconst 1, 1) := by decide +kernel
theorem dL_law_297 : decode cL_law 297 = .ok (.iadd, 1) := by decide +kernel
theorem dL_law_298 : decode cL_law 298 = .ok (.iaload, 1) := by decide +kernel
theorem dL_law_299 : decode cL_law 299 = .ok (.invokevirtual 45, 3) := by decide +kernel
theorem dL_law_302 : decode cL_law 302 = .ok (.aload_n 2, 1) := by decide +kernel
theorem dL_law_303 : decode cL_law 303 = .ok (.aload_n 0, 1) := by decide +kernel
theorem dL_law_304 : decode cL_law 304 = .ok (.iload_n 3, 1) := by decide +kernel
theorem dL_law_305 : decode cL_law 305 = .ok (.iconst 1, 1) := by decide +kernel
theorem dL_law_306 : decode cL_law 306 = .ok (.iadd, 1) := by decide +kernel
theorem dL_law_307 : decode cL_law 307 = .ok (.iaload, 1) := by decide +kernel
theorem dL_law_308 : decode cL_law 308 = .ok (.invokevirtual 48, 3) := by decide +kernel
theorem dL_law_311 : decode cL_law 311 = .ok (.if_icmp .eq 179, 3) := by decide +kernel
theorem dL_law_314 : decode cL_law 314 = .ok (.iconst 0, 1) := by decide +kernel
theorem dL_law_315 : decode cL_law 315 = .ok (.ireturn, 1) := by decide +kernel
theorem dL_law_316 : decode cL_law 316 = .ok (.aload_n 1, 1) := by decide +kernel
theorem dL_law_317 : decode cL_law 317 = .ok (.aload_n 0, 1) := by decide +kernel
theorem dL_law_318 : decode cL_law 318 = .ok (.iload_n 3, 1) := by decide +kernel
theorem dL_law_319 : decode cL_law 319 = .ok (.iconst 1, 1) := by decide +kernel
theorem dL_law_320 : decode cL_law 320 = .ok (.iadd, 1) := by decide +kernel
theorem dL_law_321 : decode cL_law 321 = .ok (.iaload, 1) := by decide +kernel
theorem dL_law_322 : decode cL_law 322 = .ok (.aload_n 0, 1) := by decide +kernel
theorem dL_law_323 : decode cL_law 323 = .ok (.iload_n 3, 1) := by decide +kernel
theorem dL_law_324 : decode cL_law 324 = .ok (.iconst 2, 1) := by decide +kernel
theorem dL_law_325 : decode cL_law 325 = .ok (.iadd, 1) := by decide +kernel
theorem dL_law_326 : decode cL_law 326 = .ok (.iaload, 1) := by decide +kernel
theorem dL_law_327 : decode cL_law 327 = .ok (.invokevirtual 49, 3) := by decide +kernel
theorem dL_law_330 : decode cL_law 330 = .ok (.aload_n 2, 1) := by decide +kernel
theorem dL_law_331 : decode cL_law 331 = .ok (.aload_n 0, 1) := by decide +kernel
theorem dL_law_332 : decode cL_law 332 = .ok (.iload_n 3, 1) := by decide +kernel
theorem dL_law_333 : decode cL_law 333 = .ok (.iconst 1, 1) := by decide +kernel
theorem dL_law_334 : decode cL_law 334 = .ok (.iadd, 1) := by decide +kernel
theorem dL_law_335 : decode cL_law 335 = .ok (.iaload, 1) := by decide +kernel
theorem dL_law_336 : decode cL_law 336 = .ok (.aload_n 0, 1) := by decide +kernel
theorem dL_law_337 : decode cL_law 337 = .ok (.iload_n 3, 1) := by decide +kernel
theorem dL_law_338 : decode cL_law 338 = .ok (.iconst 2, 1) := by decide +kernel
theorem dL_law_339 : decode cL_law 339 = .ok (.iadd, 1) := by decide +kernel
theorem dL_law_340 : decode cL_law 340 = .ok (.iaload, 1) := by decide +kernel
theorem dL_law_341 : decode cL_law 341 = .ok (.invokevirtual 52, 3) := by decide +kernel
theorem dL_law_344 : decode cL_law 344 = .ok (.if_icmp .eq 146, 3) := by decide +kernel
theorem dL_law_347 : decode cL_law 347 = .ok (.iconst 0, 1) := by decide +kernel
theorem dL_law_348 : decode cL_law 348 = .ok (.ireturn, 1) := by decide +kernel
theorem dL_law_349 : decode cL_law 349 = .ok (.aload_n 1, 1) := by decide +kernel
theorem dL_law_350 : decode cL_law 350 = .ok (.invokevirtual 53, 3) := by decide +kernel
theorem dL_law_353 : decode cL_law 353 = .ok (.aload_n 2, 1) := by decide +kernel
theorem dL_law_354 : decode cL_law 354 = .ok (.invokevirtual 56, 3) := by decide +kernel
theorem dL_law_357 : decode cL_law 357 = .ok (.if_icmp .eq 133, 3) := by decide +kernel
theorem dL_law_360 : decode cL_law 360 = .ok (.iconst 0, 1) := by decide +kernel
theorem dL_law_361 : decode cL_law 361 = .ok (.ireturn, 1) := by decide +kernel
theorem dL_law_362 : decode cL_law 362 = .ok (.aload_n 1, 1) := by decide +kernel
theorem dL_law_363 : decode cL_law 363 = .ok (.invokevirtual 57, 3) := by decide +kernel
theorem dL_law_366 : decode cL_law 366 = .ok (.aload_n 2, 1) := by decide +kernel
theorem dL_law_367 : decode cL_law 367 = .ok (.invokevirtual 60, 3) := by decide +kernel
theorem dL_law_370 : decode cL_law 370 = .ok (.if_icmp .eq 120, 3) := by decide +kernel
theorem dL_law_373 : decode cL_law 373 = .ok (.iconst 0, 1) := by decide +kernel
theorem dL_law_374 : decode cL_law 374 = .ok (.ireturn, 1) := by decide +kernel
theorem dL_law_375 : decode cL_law 375 = .ok (.aload_n 1, 1) := by decide +kernel
theorem dL_law_376 : decode cL_law 376 = .ok (.aload_n 0, 1) := by decide +kernel
theorem dL_law_377 : decode cL_law 377 = .ok (.iload_n 3, 1) := by decide +kernel
theorem dL_law_378 : decode cL_law 378 = .ok (.iconst 1, 1) := by decide +kernel
theorem dL_law_379 : decode cL_law 379 = .ok (.iadd, 1) := by decide +kernel
theorem dL_law_380 : decode cL_law 380 = .ok (.iaload, 1) := by decide +kernel
theorem dL_law_381 : decode cL_law 381 = .ok (.invokevirtual 61, 3) := by decide +kernel
theorem dL_law_384 : decode cL_law 384 = .ok (.aload_n 2, 1) := by decide +kernel
theorem dL_law_385 : decode cL_law 385 = .ok (.aload_n 0, 1) := by decide +kernel
theorem dL_law_386 : decode cL_law 386 = .ok (.iload_n 3, 1) := by decide +kernel
theorem dL_law_387 : decode cL_law 387 = .ok (.iconst 1, 1) := by decide +kernel
theorem dL_law_388 : decode cL_law 388 = .ok (.iadd, 1) := by decide +kernel
theorem dL_law_389 : decode cL_law 389 = .ok (.iaload, 1) := by decide +kernel
theorem dL_law_390 : decode cL_law 390 = .ok (.invokevirtual 64, 3) := by decide +kernel
theorem dL_law_393 : decode cL_law 393 = .ok (.if_icmp .eq 97, 3) := by decide +kernel
theorem dL_law_396 : decode cL_law 396 = .ok (.iconst 0, 1) := by decide +kernel
theorem dL_law_397 : decode cL_law 397 = .ok (.ireturn, 1) := by decide +kernel
theorem dL_law_398 : decode cL_law 398 = .ok (.aload_n 1, 1) := by decide +kernel
theorem dL_law_399 : decode cL_law 399 = .ok (.aload_n 0, 1) := by decide +kernel
theorem dL_law_400 : decode cL_law 400 = .ok (.iload_n 3, 1) := by decide +kernel
theorem dL_law_401 : decode cL_law 401 = .ok (.iconst 1, 1) := by decide +kernel
theorem dL_law_402 : decode cL_law 402 = .ok (.iadd, 1) := by decide +kernel
theorem dL_law_403 : decode cL_law 403 = .ok (.iaload, 1) := by decide +kernel
theorem dL_law_404 : decode cL_law 404 = .ok (.aload_n 0, 1) := by decide +kernel
theorem dL_law_405 : decode cL_law 405 = .ok (.iload_n 3, 1) := by decide +kernel
theorem dL_law_406 : decode cL_law 406 = .ok (.iconst 2, 1) := by decide +kernel
theorem dL_law_407 : decode cL_law 407 = .ok (.iadd, 1) := by decide +kernel
theorem dL_law_408 : decode cL_law 408 = .ok (.iaload, 1) := by decide +kernel
theorem dL_law_409 : decode cL_law 409 = .ok (.invokevirtual 65, 3) := by decide +kernel
theorem dL_law_412 : decode cL_law 412 = .ok (.aload_n 2, 1) := by decide +kernel
theorem dL_law_413 : decode cL_law 413 = .ok (.aload_n 0, 1) := by decide +kernel
theorem dL_law_414 : decode cL_law 414 = .ok (.iload_n 3, 1) := by decide +kernel
theorem dL_law_415 : decode cL_law 415 = .ok (.iconst 1, 1) := by decide +kernel
theorem dL_law_416 : decode cL_law 416 = .ok (.iadd, 1) := by decide +kernel
theorem dL_law_417 : decode cL_law 417 = .ok (.iaload, 1) := by decide +kernel
theorem dL_law_418 : decode cL_law 418 = .ok (.aload_n 0, 1) := by decide +kernel
theorem dL_law_419 : decode cL_law 419 = .ok (.iload_n 3, 1) := by decide +kernel
theorem dL_law_420 : decode cL_law 420 = .ok (.iconst 2, 1) := by decide +kernel
theorem dL_law_421 : decode cL_law 421 = .ok (.iadd, 1) := by decide +kernel
theorem dL_law_422 : decode cL_law 422 = .ok (.iaload, 1) := by decide +kernel
theorem dL_law_423 : decode cL_law 423 = .ok (.invokevirtual 68, 3) := by decide +kernel
theorem dL_law_426 : decode cL_law 426 = .ok (.if_icmp .eq 64, 3) := by decide +kernel
theorem dL_law_429 : decode cL_law 429 = .ok (.iconst 0, 1) := by decide +kernel
theorem dL_law_430 : decode cL_law 430 = .ok (.ireturn, 1) := by decide +kernel
theorem dL_law_431 : decode cL_law 431 = .ok (.aload_n 1, 1) := by decide +kernel
theorem dL_law_432 : decode cL_law 432 = .ok (.invokevirtual 69, 3) := by decide +kernel
theorem dL_law_435 : decode cL_law 435 = .ok (.aload_n 2, 1) := by decide +kernel
theorem dL_law_436 : decode cL_law 436 = .ok (.invokevirtual 72, 3) := by decide +kernel
theorem dL_law_439 : decode cL_law 439 = .ok (.if_icmp .eq 51, 3) := by decide +kernel
theorem dL_law_442 : decode cL_law 442 = .ok (.iconst 0, 1) := by decide +kernel
theorem dL_law_443 : decode cL_law 443 = .ok (.ireturn, 1) := by decide +kernel
theorem dL_law_444 : decode cL_law 444 = .ok (.aload_n 1, 1) := by decide +kernel
theorem dL_law_445 : decode cL_law 445 = .ok (.aload_n 0, 1) := by decide +kernel
theorem dL_law_446 : decode cL_law 446 = .ok (.iload_n 3, 1) := by decide +kernel
theorem dL_law_447 : decode cL_law 447 = .ok (.iconst 1, 1) := by decide +kernel
theorem dL_law_448 : decode cL_law 448 = .ok (.iadd, 1) := by decide +kernel
theorem dL_law_449 : decode cL_law 449 = .ok (.iaload, 1) := by decide +kernel
theorem dL_law_450 : decode cL_law 450 = .ok (.invokevirtual 73, 3) := by decide +kernel
theorem dL_law_453 : decode cL_law 453 = .ok (.aload_n 2, 1) := by decide +kernel
theorem dL_law_454 : decode cL_law 454 = .ok (.aload_n 0, 1) := by decide +kernel
theorem dL_law_455 : decode cL_law 455 = .ok (.iload_n 3, 1) := by decide +kernel
theorem dL_law_456 : decode cL_law 456 = .ok (.iconst 1, 1) := by decide +kernel
theorem dL_law_457 : decode cL_law 457 = .ok (.iadd, 1) := by decide +kernel
theorem dL_law_458 : decode cL_law 458 = .ok (.iaload, 1) := by decide +kernel
theorem dL_law_459 : decode cL_law 459 = .ok (.invokevirtual 76, 3) := by decide +kernel
theorem dL_law_462 : decode cL_law 462 = .ok (.if_icmp .eq 28, 3) := by decide +kernel
theorem dL_law_465 : decode cL_law 465 = .ok (.iconst 0, 1) := by decide +kernel
theorem dL_law_466 : decode cL_law 466 = .ok (.ireturn, 1) := by decide +kernel
theorem dL_law_467 : decode cL_law 467 = .ok (.aload_n 1, 1) := by decide +kernel
theorem dL_law_468 : decode cL_law 468 = .ok (.aload_n 0, 1) := by decide +kernel
theorem dL_law_469 : decode cL_law 469 = .ok (.iload_n 3, 1) := by decide +kernel
theorem dL_law_470 : decode cL_law 470 = .ok (.iconst 1, 1) := by decide +kernel
theorem dL_law_471 : decode cL_law 471 = .ok (.iadd, 1) := by decide +kernel
theorem dL_law_472 : decode cL_law 472 = .ok (.iaload, 1) := by decide +kernel
theorem dL_law_473 : decode cL_law 473 = .ok (.invokevirtual 77, 3) := by decide +kernel
theorem dL_law_476 : decode cL_law 476 = .ok (.aload_n 2, 1) := by decide +kernel
theorem dL_law_477 : decode cL_law 477 = .ok (.aload_n 0, 1) := by decide +kernel
theorem dL_law_478 : decode cL_law 478 = .ok (.iload_n 3, 1) := by decide +kernel
theorem dL_law_479 : decode cL_law 479 = .ok (.iconst 1, 1) := by decide +kernel
theorem dL_law_480 : decode cL_law 480 = .ok (.iadd, 1) := by decide +kernel
theorem dL_law_481 : decode cL_law 481 = .ok (.iaload, 1) := by decide +kernel
theorem dL_law_482 : decode cL_law 482 = .ok (.invokevirtual 80, 3) := by decide +kernel
theorem dL_law_485 : decode cL_law 485 = .ok (.if_icmp .eq 5, 3) := by decide +kernel
theorem dL_law_488 : decode cL_law 488 = .ok (.iconst 0, 1) := by decide +kernel
theorem dL_law_489 : decode cL_law 489 = .ok (.ireturn, 1) := by decide +kernel
theorem dL_law_490 : decode cL_law 490 = .ok (.iinc 3 4, 3) := by decide +kernel
theorem dL_law_493 : decode cL_law 493 = .ok (.goto (-475), 3) := by decide +kernel
theorem dL_law_496 : decode cL_law 496 = .ok (.iconst 1, 1) := by decide +kernel
theorem dL_law_497 : decode cL_law 497 = .ok (.ireturn, 1) := by decide +kernel
end
section
/-! the base rows: written by gen/gen_base.py -/
abbrev wdSt : Type := (Nat → Int32) × (Nat → Nat → Int32)
def wdS (σ : wdSt) (k : Nat) (v : Int32) : wdSt := (upd σ.1 k v, σ.2)
def wdA (σ : wdSt) (k i : Nat) (v : Int32) : wdSt := (σ.1, va_up σ.2 k (upd (σ.2 k) i v))
abbrev vwCl : List vw_C := [(RX0, TX0, 24), (RX1, TX1, 13)]
abbrev wdTy (cI cZ : ClassId) : List (ClassId × FieldType) := [(cI, .int), (cZ, .boolean)]
abbrev wdRm (f n : Nat) : Room := { frames := f, cells := 0, slots := 0, locals := n }
theorem wd_Dc {A : Nat → Prop} {ws ws' : va_W} (h : ws.map (fun q => q.1) = ws'.map (fun q => q.1)) (hD : va_D A ws) : va_D A ws' := by
  have key : ∀ (i : Nat) (x : Nat × va_E), ws'[i]? = some x → ∃ y : Nat × va_E, ws[i]? = some y ∧ y.1 = x.1 := by
    intro i x hx
    have h1 : (ws.map (fun q => q.1))[i]? = some x.1 := by rw [h, List.getElem?_map, hx]; rfl
    rw [List.getElem?_map] at h1
    cases hy : ws[i]? with
    | none => rw [hy] at h1; cases h1
    | some y => rw [hy] at h1; exact ⟨y, rfl, Option.some.inj h1⟩
  refine ⟨fun i j x y hx hy hxy => ?_, fun k x hx => ?_⟩
  · obtain ⟨x1, a1, b1⟩ := key i x hx
    obtain ⟨y1, a2, b2⟩ := key j y hy
    exact hD.1 i j x1 y1 a1 a2 (by rw [b1, b2, hxy])
  · obtain ⟨x1, a1, b1⟩ := key k x hx
    rw [← b1]
    exact hD.2 k x1 a1
theorem wd_Dm {A : Nat → Prop} {ws : va_W} (hD : va_D A ws) {a : Nat} (h : a ∈ ws.map (fun q => q.1)) : A a := by
  obtain ⟨x, hx, rfl⟩ := List.mem_map.mp h
  obtain ⟨i, hi⟩ := List.getElem?_of_mem hx
  exact hD.2 i x hi
theorem ci_m1 : Int32.ofInt (-1) = (-1 : Int32) := by decide +kernel
theorem ci_0 : Int32.ofInt (0) = (0 : Int32) := by decide +kernel
theorem ci_1 : Int32.ofInt (1) = (1 : Int32) := by decide +kernel
theorem ci_2 : Int32.ofInt (2) = (2 : Int32) := by decide +kernel
theorem ci_3 : Int32.ofInt (3) = (3 : Int32) := by decide +kernel
theorem ci_4 : Int32.ofInt (4) = (4 : Int32) := by decide +kernel
theorem ci_5 : Int32.ofInt (5) = (5 : Int32) := by decide +kernel
theorem cb_m4 : (Int8.ofInt (-4)).toInt32 = (-4 : Int32) := by decide +kernel
theorem cb_m3 : (Int8.ofInt (-3)).toInt32 = (-3 : Int32) := by decide +kernel
theorem cb_m2 : (Int8.ofInt (-2)).toInt32 = (-2 : Int32) := by decide +kernel
theorem cb_6 : (Int8.ofInt (6)).toInt32 = (6 : Int32) := by decide +kernel
theorem cb_7 : (Int8.ofInt (7)).toInt32 = (7 : Int32) := by decide +kernel
theorem cb_8 : (Int8.ofInt (8)).toInt32 = (8 : Int32) := by decide +kernel
theorem cb_9 : (Int8.ofInt (9)).toInt32 = (9 : Int32) := by decide +kernel
theorem cb_10 : (Int8.ofInt (10)).toInt32 = (10 : Int32) := by decide +kernel
theorem cb_11 : (Int8.ofInt (11)).toInt32 = (11 : Int32) := by decide +kernel
theorem cb_12 : (Int8.ofInt (12)).toInt32 = (12 : Int32) := by decide +kernel
theorem cb_15 : (Int8.ofInt (15)).toInt32 = (15 : Int32) := by decide +kernel
theorem cb_20 : (Int8.ofInt (20)).toInt32 = (20 : Int32) := by decide +kernel
theorem cb_21 : (Int8.ofInt (21)).toInt32 = (21 : Int32) := by decide +kernel
theorem cb_24 : (Int8.ofInt (24)).toInt32 = (24 : Int32) := by decide +kernel
theorem cb_48 : (Int8.ofInt (48)).toInt32 = (48 : Int32) := by decide +kernel
theorem cb_100 : (Int8.ofInt (100)).toInt32 = (100 : Int32) := by decide +kernel
theorem cs_300 : (Int16.ofInt (300)).toInt32 = (300 : Int32) := by decide +kernel
theorem wd_inc (n : Nat) : nI n + Int32.ofInt 1 = nI (n + 1) := nI_1 n
theorem wd_dec (n : Nat) : nI (n + 1) + Int32.ofInt (-1) = nI n := pk_m1 n
section WB
variable {p : Program} {l : Launch} {e : Env} {R : Room} {s : State} {m : MethodId} {args : Array Value} {below : List Frame} {meth : Method} {c : Code} {H : Heap} {locs : List Loc} {cells slots : Nat} {Q : State → Prop}
variable {pc : Nat} {ls : Array Slot} {rest : List Value}
theorem wd_top {x : Int32} (y : Int32) (h : x = y) (k : W p l e R s m args below meth c H locs cells slots Q (F0 m (pc) ls (.int y :: rest))) : W p l e R s m args below meth c H locs cells slots Q (F0 m (pc) ls (.int x :: rest)) := by rw [h]; exact k
theorem wd_top2 {x : Int32} {v : Value} (y : Int32) (h : x = y) (k : W p l e R s m args below meth c H locs cells slots Q (F0 m (pc) ls (v :: .int y :: rest))) : W p l e R s m args below meth c H locs cells slots Q (F0 m (pc) ls (v :: .int x :: rest)) := by rw [h]; exact k
end WB
abbrev x_f (q : Nat → Nat) (σ : wdSt) : List Value := [.int (σ.1 0), .ref (q 2), .ref (q 3), .ref (q 4), .int (σ.1 4), .ref (q 6), .ref (q 7), .ref (q 8), .int (σ.1 8), .ref (q 10), .ref (q 11), .ref (q 12), .ref (q 13), .ref (q 14), .int (σ.1 14), .int (σ.1 15), .int (σ.1 16), .int (σ.1 17), .int (σ.1 18), .ref (q 20), .ref (q 21), .ref (q 22), .int (σ.1 22), .ref (q 24)]
abbrev x_w (q : Nat → Nat) (cI cZ : ClassId) (σ : wdSt) : va_W := [(q 0, .inr (0, x_f q σ)), (q 2, .inl (cI, 20, .inl (σ.2 1))), (q 3, .inl (cI, 20, .inl (σ.2 2))), (q 4, .inl (cI, 20, .inl (σ.2 3))), (q 6, .inl (cZ, 20, .inl (σ.2 5))), (q 7, .inl (cI, 20, .inl (σ.2 6))), (q 8, .inl (cZ, 20, .inl (σ.2 7))), (q 10, .inl (cI, 48, .inl (σ.2 9))), (q 11, .inl (cI, 48, .inl (σ.2 10))), (q 12, .inl (cI, 48, .inl (σ.2 11))), (q 13, .inl (cI, 21, .inl (σ.2 12))), (q 14, .inl (cI, 21, .inl (σ.2 13))), (q 20, .inl (cI, 24, .inl (σ.2 19))), (q 21, .inl (cI, 6, .inl (σ.2 20))), (q 22, .inl (cI, 6, .inl (σ.2 21))), (q 24, .inl (cI, 8, .inl (σ.2 23)))]
abbrev x_ad (q : Nat → Nat) : List Nat := [q 0, q 2, q 3, q 4, q 6, q 7, q 8, q 10, q 11, q 12, q 13, q 14, q 20, q 21, q 22, q 24]
def x_A (q : Nat → Nat) (sz : Nat) : Nat → Prop := fun a => a ∈ x_ad q ∨ sz ≤ a
theorem x_Dc {A : Nat → Prop} {q : Nat → Nat} {cI cZ : ClassId} {σ : wdSt} (σ' : wdSt) (h : va_D A (x_w q cI cZ σ)) : va_D A (x_w q cI cZ σ') := wd_Dc (ws := x_w q cI cZ σ) rfl h
theorem x_Dm {A : Nat → Prop} {q : Nat → Nat} {cI cZ : ClassId} {σ : wdSt} (h : va_D A (x_w q cI cZ σ)) {a : Nat} (ha : a ∈ x_ad q) : A a := wd_Dm h (show a ∈ List.map (fun q => q.1) (x_w q cI cZ σ) from ha)
def x_J (D : va_G) (q : Nat → Nat) (cI cZ : ClassId) (A : Nat → Prop) (σ : wdSt) (s : State) (H : Heap) (locs : List Loc) : Prop := va_K D vwCl (wdTy cI cZ) s ∧ (∀ a : Nat, s.heap.size ≤ a → A a) ∧ va_P D vwCl (x_w q cI cZ σ) H ∧ va_D A (x_w q cI cZ σ) ∧ va_S A s.heap H locs
def x_Pc (D : va_G) (q : Nat → Nat) (cI cZ : ClassId) (sz : Nat) (σ : wdSt) (As : List Value) : Array Value → State → Prop := va_Pc (.ref (q 0) :: As) (fun U => U.heap.size = sz ∧ va_P D vwCl (x_w q cI cZ σ) U.heap ∧ va_K D vwCl (wdTy cI cZ) U ∧ va_D (fun _ => True) (x_w q cI cZ σ))
def x_B (D : va_G) (q : Nat → Nat) (cI cZ : ClassId) (σ : wdSt) (t : State) : Prop := va_P D vwCl (x_w q cI cZ σ) t.heap ∧ va_K D vwCl (wdTy cI cZ) t
abbrev x_MV (l : Launch) (y : MethodName) (b : ByteArray) (nL f n : Nat) (D : va_G) (q : Nat → Nat) (cI cZ : ClassId) (sz : Nat) (σ : wdSt) (As : List Value) (post : wdSt → Prop) : Prop := Met l y (ws_ y b nL none) (wdRm f n) (x_Pc D q cI cZ sz σ As) (va_Qv post (x_B D q cI cZ) (x_A q sz)) 0 0 (x_A q sz)
abbrev x_MI (l : Launch) (y : MethodName) (b : ByteArray) (nL : Nat) (ret : FieldType) (f n : Nat) (D : va_G) (q : Nat → Nat) (cI cZ : ClassId) (sz : Nat) (σ : wdSt) (As : List Value) (post : Int32 → wdSt → Prop) : Prop := Met l y (ws_ y b nL (some ret)) (wdRm f n) (x_Pc D q cI cZ sz σ As) (va_Qi post (x_B D q cI cZ) (x_A q sz)) 0 0 (x_A q sz)
theorem x_open {l : Launch} {y : MethodName} {cc : ByteArray} {nL f n : Nat} {ret : Option FieldType} {D : va_G} {q : Nat → Nat} {cI cZ : ClassId} {sz : Nat} {σ : wdSt} {As : List Value} {Qc : Array Value → State → Outcome → State → Prop} (hy : plainName y.cls = true) (hyc : y.cls = RX0) (hlen : (lg_sl (.ref (q 0) :: As)).length ≤ nL)
    (body : ∀ (p : Program) (e : Env) (s : State) (m : MethodId) (below : List Frame) (meth : Method) (c : Code), CallFix p m c cc nL s (Value.ref (q 0) :: As).toArray lw_all RX0 → meth.sig.returnType = ret → meth.locks = false → x_J D q cI cZ (x_A q sz) σ s s.heap [] → ∀ ls : Array Slot, lv_has ls nL (lv_args 0 (.ref (q 0) :: As)) → W p l e (wdRm f n) s m (Value.ref (q 0) :: As).toArray below meth c s.heap [] 0 0 (MQ below Qc (Value.ref (q 0) :: As).toArray s 0 0 (x_A q sz)) (F0 m 0 ls [])) : Met l y (ws_ y cc nL ret) (wdRm f n) (x_Pc D q cI cZ sz σ As) Qc 0 0 (x_A q sz) := by
  refine Met.ofW (cc := cc) (maxL := nL) (ret := ret) hy rfl ?_
  intro p e s m args below meth c s₁ B hml hv
  obtain ⟨rfl, hsz, hP, hK, hD0⟩ := hv
  have hts := atoms_spec (ws := ws_ y cc nL ret) B.pre
  have hts : ∀ w ∈ lw_all, w.before _ s = true := fun w h => hts w (List.mem_cons_of_mem _ h)
  have hown : s.vm.findClass y.cls = some m.cls := findClass_of_methodNamed B.named
  rw [hyc] at hown
  have hl := lv_entry (.ref (q 0) :: As) (n := nL) hlen
  rw [lg_entry_eq]
  refine body p e s m below meth c ⟨B.exec, B.bytes, hml, hown, hts⟩ B.returns B.notSynchronized ⟨hK, fun a h => Or.inr (by rw [← hsz]; exact h), hP, ?_, va_S.rf⟩ _ hl
  exact ⟨hD0.1, fun k x hx => Or.inl (show x.1 ∈ List.map (fun q => q.1) (x_w q cI cZ σ) from List.mem_map.mpr ⟨x, List.mem_of_getElem? hx, rfl⟩)⟩
section XB
variable {p : Program} {l : Launch} {e : Env} {R : Room} {s : State} {m : MethodId} {args : Array Value} {below : List Frame} {meth : Method} {c : Code} {H : Heap} {locs : List Loc} {cells slots : Nat} {Q : State → Prop}
variable {cc : ByteArray} {pc nL : Nat} {ls : Array Slot} {rest : List Value} {D : va_G} {q : Nat → Nat} {cI cZ : ClassId} {A : Nat → Prop} {σ : wdSt}
theorem x_get (S : CallFix p m c cc nL s args lw_all RX0) (J : x_J D q cI cZ A σ s H locs) (k : Nat) (hk : k < 24) {idx : Nat} (hlink : Cond.fieldLink RX0 idx RX0 (TX0 k).2.1 (TX0 k).2.2.1 ∈ lw_all) (hsame : (TX0 k).1 = RX0) {v : Value} (hv : (x_f q σ)[k]? = some v) (hdg : decode cc pc = .ok (.getfield idx, 3)) (kk : W p l e R s m args below meth c H locs cells slots Q (F0 m (pc + 3) ls (v :: rest))) : W p l e R s m args below meth c H locs cells slots Q (F0 m (pc) ls (.ref (q 0) :: rest)) :=
  va_get (D := D) (ci := 0) (C := RX0) (T := TX0) (N := 24) S.1 S.2.1 S.2.2.2.2 in_X0 S.2.2.2.1 J.1 J.2.2.1 0 rfl rfl k hk (S.2.2.2.2 _ hlink) (fun x h => by rw [hsame] at h; exact h) hv hdg kk
theorem x_put (S : CallFix p m c cc nL s args lw_all RX0) (J : x_J D q cI cZ A σ s H locs) (k : Nat) (hk : k < 24) {idx : Nat} (hlink : Cond.fieldLink RX0 idx RX0 (TX0 k).2.1 (TX0 k).2.2.1 ∈ lw_all) (hsame : (TX0 k).1 = RX0) (hfin : (TX0 k).2.2.2 = false) {ty : FieldType} {v : Int32} (hd : parseFieldDescriptor (TX0 k).2.2.1 = some ty) (hn : narrow ty (.int v) = .int v) (hfit : fits ty (.int v) = true) (he : (x_f q σ).set k (.int v) = x_f q (wdS σ k v)) (hdg : decode cc pc = .ok (.putfield idx, 3))
    (kk : ∀ (H1 : Heap) (locs1 : List Loc), x_J D q cI cZ A (wdS σ k v) s H1 locs1 → W p l e R s m args below meth c H1 locs1 cells slots Q (F0 m (pc + 3) ls (rest))) : W p l e R s m args below meth c H locs cells slots Q (F0 m (pc) ls (.int v :: .ref (q 0) :: rest)) := by
  refine va_put (D := D) (ci := 0) (C := RX0) (T := TX0) (N := 24) S.1 S.2.1 S.2.2.2.2 in_X0 tyX0 tyX0_ok nmX0 S.2.2.2.1 J.1 J.2.2.1 J.2.2.2.1 J.2.2.2.2 0 rfl rfl k hk (S.2.2.2.2 _ hlink) (fun x h => by rw [hsame] at h; exact h) hfin hd hn hfit hk hdg (fun H1 locs1 hP hD hS => kk H1 locs1 ⟨J.1, J.2.1, ?_, x_Dc _ J.2.2.2.1, hS⟩)
  rw [he] at hP
  exact hP
theorem x_iald (S : CallFix p m c cc nL s args lw_all RX0) (J : x_J D q cI cZ A σ s H locs) (j : Nat) {a N : Nat} {f : Nat → Int32} (ha : (x_w q cI cZ σ)[j]? = some (a, .inl (cI, N, .inl f))) (n : Nat) (hn : n < N) (hN : N < 2 ^ 31) {v : Int32} (hv : f n = v) (hdg : decode cc pc = .ok (.iaload, 1)) (kk : W p l e R s m args below meth c H locs cells slots Q (F0 m (pc + 1) ls (.int v :: rest))) : W p l e R s m args below meth c H locs cells slots Q (F0 m (pc) ls (.int (nI n) :: .ref a :: rest)) := by
  refine va_iald S.1 S.2.1 J.1 J.2.2.1 j 0 ha rfl (vp_in_nI hn hN) hdg ?_
  rw [nI_clamp (Nat.lt_trans hn hN), hv]
  exact kk
theorem x_iast (S : CallFix p m c cc nL s args lw_all RX0) (J : x_J D q cI cZ A σ s H locs) (j k : Nat) {a N : Nat} {f : Nat → Int32} (ha : (x_w q cI cZ σ)[j]? = some (a, .inl (cI, N, .inl f))) (n : Nat) {x : Int32} (he : (x_w q cI cZ σ).set j (a, .inl (cI, N, .inl (upd f n x))) = x_w q cI cZ (wdA σ k n x)) (hn : n < N) (hN : N < 2 ^ 31) (hdg : decode cc pc = .ok (.iastore, 1)) (kk : ∀ (H1 : Heap) (locs1 : List Loc), x_J D q cI cZ A (wdA σ k n x) s H1 locs1 → W p l e R s m args below meth c H1 locs1 cells slots Q (F0 m (pc + 1) ls (rest))) : W p l e R s m args below meth c H locs cells slots Q (F0 m (pc) ls (.int x :: .int (nI n) :: .ref a :: rest)) := by
  refine va_iast S.1 S.2.1 J.1 J.2.2.1 J.2.2.2.1 J.2.2.2.2 j 0 ha rfl (vp_in_nI hn hN) hdg (fun H1 locs1 hP hD hS => kk H1 locs1 ⟨J.1, J.2.1, ?_, x_Dc _ J.2.2.2.1, hS⟩)
  rw [nI_clamp (Nat.lt_trans hn hN), he] at hP
  exact hP
theorem x_zald (S : CallFix p m c cc nL s args lw_all RX0) (J : x_J D q cI cZ A σ s H locs) (j : Nat) {a N : Nat} {f : Nat → Int32} (ha : (x_w q cI cZ σ)[j]? = some (a, .inl (cZ, N, .inl f))) (n : Nat) (hn : n < N) (hN : N < 2 ^ 31) {v : Int32} (hv : f n = v) (hdg : decode cc pc = .ok (.baload, 1)) (kk : W p l e R s m args below meth c H locs cells slots Q (F0 m (pc + 1) ls (.int v :: rest))) : W p l e R s m args below meth c H locs cells slots Q (F0 m (pc) ls (.int (nI n) :: .ref a :: rest)) := by
  refine va_zald S.1 S.2.1 J.1 J.2.2.1 j 1 ha rfl (vp_in_nI hn hN) hdg ?_
  rw [nI_clamp (Nat.lt_trans hn hN), hv]
  exact kk
theorem x_zast (S : CallFix p m c cc nL s args lw_all RX0) (J : x_J D q cI cZ A σ s H locs) (j k : Nat) {a N : Nat} {f : Nat → Int32} (ha : (x_w q cI cZ σ)[j]? = some (a, .inl (cZ, N, .inl f))) (n : Nat) {x : Int32} (he : (x_w q cI cZ σ).set j (a, .inl (cZ, N, .inl (upd f n x))) = x_w q cI cZ (wdA σ k n x)) (hn : n < N) (hN : N < 2 ^ 31) (hx : vp_nar .boolean x = x) (hdg : decode cc pc = .ok (.bastore, 1)) (kk : ∀ (H1 : Heap) (locs1 : List Loc), x_J D q cI cZ A (wdA σ k n x) s H1 locs1 → W p l e R s m args below meth c H1 locs1 cells slots Q (F0 m (pc + 1) ls (rest))) : W p l e R s m args below meth c H locs cells slots Q (F0 m (pc) ls (.int x :: .int (nI n) :: .ref a :: rest)) := by
  refine va_zast S.1 S.2.1 J.1 J.2.2.1 J.2.2.2.1 J.2.2.2.2 j 1 ha rfl (vp_in_nI hn hN) hdg (fun H1 locs1 hP hD hS => kk H1 locs1 ⟨J.1, J.2.1, ?_, x_Dc _ J.2.2.2.1, hS⟩)
  rw [nI_clamp (Nat.lt_trans hn hN), hx, he] at hP
  exact hP
/-- length -/
theorem x_g0 (S : CallFix p m c cc nL s args lw_all RX0) (J : x_J D q cI cZ A σ s H locs) {v : Int32} (hv : σ.1 0 = v) (hdg : decode cc pc = .ok (.getfield 60, 3)) (kk : W p l e R s m args below meth c H locs cells slots Q (F0 m (pc + 3) ls (.int v :: rest))) : W p l e R s m args below meth c H locs cells slots Q (F0 m (pc) ls (.ref (q 0) :: rest)) := x_get S J 0 (by decide) q32 rfl (congrArg (fun z => some (Value.int z)) hv) hdg kk
theorem x_p0 (S : CallFix p m c cc nL s args lw_all RX0) (J : x_J D q cI cZ A σ s H locs) {v : Int32} (hdg : decode cc pc = .ok (.putfield 60, 3)) (kk : ∀ (H1 : Heap) (locs1 : List Loc), x_J D q cI cZ A (wdS σ 0 v) s H1 locs1 → W p l e R s m args below meth c H1 locs1 cells slots Q (F0 m (pc + 3) ls (rest))) : W p l e R s m args below meth c H locs cells slots Q (F0 m (pc) ls (.int v :: .ref (q 0) :: rest)) := x_put S J 0 (by decide) q32 rfl rfl (ty := .int) (by decide +kernel) rfl rfl rfl hdg kk
/-- op -/
theorem x_r1 (S : CallFix p m c cc nL s args lw_all RX0) (J : x_J D q cI cZ A σ s H locs) (hdg : decode cc pc = .ok (.getfield 7, 3)) (kk : W p l e R s m args below meth c H locs cells slots Q (F0 m (pc + 3) ls (.ref (q 2) :: rest))) : W p l e R s m args below meth c H locs cells slots Q (F0 m (pc) ls (.ref (q 0) :: rest)) := x_get S J 1 (by decide) q33 rfl rfl hdg kk
theorem x_l1 (S : CallFix p m c cc nL s args lw_all RX0) (J : x_J D q cI cZ A σ s H locs) (n : Nat) (hn : n < 20) {v : Int32} (hv : σ.2 1 n = v) (hdg : decode cc pc = .ok (.iaload, 1)) (kk : W p l e R s m args below meth c H locs cells slots Q (F0 m (pc + 1) ls (.int v :: rest))) : W p l e R s m args below meth c H locs cells slots Q (F0 m (pc) ls (.int (nI n) :: .ref (q 2) :: rest)) := x_iald S J 1 rfl n hn (by decide) hv hdg kk
theorem x_s1 (S : CallFix p m c cc nL s args lw_all RX0) (J : x_J D q cI cZ A σ s H locs) (n : Nat) (hn : n < 20) {x : Int32} (hdg : decode cc pc = .ok (.iastore, 1)) (kk : ∀ (H1 : Heap) (locs1 : List Loc), x_J D q cI cZ A (wdA σ 1 n x) s H1 locs1 → W p l e R s m args below meth c H1 locs1 cells slots Q (F0 m (pc + 1) ls (rest))) : W p l e R s m args below meth c H locs cells slots Q (F0 m (pc) ls (.int x :: .int (nI n) :: .ref (q 2) :: rest)) := x_iast S J 1 1 rfl n rfl hn (by decide) hdg kk
/-- first -/
theorem x_r2 (S : CallFix p m c cc nL s args lw_all RX0) (J : x_J D q cI cZ A σ s H locs) (hdg : decode cc pc = .ok (.getfield 13, 3)) (kk : W p l e R s m args below meth c H locs cells slots Q (F0 m (pc + 3) ls (.ref (q 3) :: rest))) : W p l e R s m args below meth c H locs cells slots Q (F0 m (pc) ls (.ref (q 0) :: rest)) := x_get S J 2 (by decide) q34 rfl rfl hdg kk
theorem x_l2 (S : CallFix p m c cc nL s args lw_all RX0) (J : x_J D q cI cZ A σ s H locs) (n : Nat) (hn : n < 20) {v : Int32} (hv : σ.2 2 n = v) (hdg : decode cc pc = .ok (.iaload, 1)) (kk : W p l e R s m args below meth c H locs cells slots Q (F0 m (pc + 1) ls (.int v :: rest))) : W p l e R s m args below meth c H locs cells slots Q (F0 m (pc) ls (.int (nI n) :: .ref (q 3) :: rest)) := x_iald S J 2 rfl n hn (by decide) hv hdg kk
theorem x_s2 (S : CallFix p m c cc nL s args lw_all RX0) (J : x_J D q cI cZ A σ s H locs) (n : Nat) (hn : n < 20) {x : Int32} (hdg : decode cc pc = .ok (.iastore, 1)) (kk : ∀ (H1 : Heap) (locs1 : List Loc), x_J D q cI cZ A (wdA σ 2 n x) s H1 locs1 → W p l e R s m args below meth c H1 locs1 cells slots Q (F0 m (pc + 1) ls (rest))) : W p l e R s m args below meth c H locs cells slots Q (F0 m (pc) ls (.int x :: .int (nI n) :: .ref (q 3) :: rest)) := x_iast S J 2 2 rfl n rfl hn (by decide) hdg kk
/-- second -/
theorem x_r3 (S : CallFix p m c cc nL s args lw_all RX0) (J : x_J D q cI cZ A σ s H locs) (hdg : decode cc pc = .ok (.getfield 16, 3)) (kk : W p l e R s m args below meth c H locs cells slots Q (F0 m (pc + 3) ls (.ref (q 4) :: rest))) : W p l e R s m args below meth c H locs cells slots Q (F0 m (pc) ls (.ref (q 0) :: rest)) := x_get S J 3 (by decide) q35 rfl rfl hdg kk
theorem x_l3 (S : CallFix p m c cc nL s args lw_all RX0) (J : x_J D q cI cZ A σ s H locs) (n : Nat) (hn : n < 20) {v : Int32} (hv : σ.2 3 n = v) (hdg : decode cc pc = .ok (.iaload, 1)) (kk : W p l e R s m args below meth c H locs cells slots Q (F0 m (pc + 1) ls (.int v :: rest))) : W p l e R s m args below meth c H locs cells slots Q (F0 m (pc) ls (.int (nI n) :: .ref (q 4) :: rest)) := x_iald S J 3 rfl n hn (by decide) hv hdg kk
theorem x_s3 (S : CallFix p m c cc nL s args lw_all RX0) (J : x_J D q cI cZ A σ s H locs) (n : Nat) (hn : n < 20) {x : Int32} (hdg : decode cc pc = .ok (.iastore, 1)) (kk : ∀ (H1 : Heap) (locs1 : List Loc), x_J D q cI cZ A (wdA σ 3 n x) s H1 locs1 → W p l e R s m args below meth c H1 locs1 cells slots Q (F0 m (pc + 1) ls (rest))) : W p l e R s m args below meth c H locs cells slots Q (F0 m (pc) ls (.int x :: .int (nI n) :: .ref (q 4) :: rest)) := x_iast S J 3 3 rfl n rfl hn (by decide) hdg kk
/-- breaks -/
theorem x_g4 (S : CallFix p m c cc nL s args lw_all RX0) (J : x_J D q cI cZ A σ s H locs) {v : Int32} (hv : σ.1 4 = v) (hdg : decode cc pc = .ok (.getfield 83, 3)) (kk : W p l e R s m args below meth c H locs cells slots Q (F0 m (pc + 3) ls (.int v :: rest))) : W p l e R s m args below meth c H locs cells slots Q (F0 m (pc) ls (.ref (q 0) :: rest)) := x_get S J 4 (by decide) q36 rfl (congrArg (fun z => some (Value.int z)) hv) hdg kk
theorem x_p4 (S : CallFix p m c cc nL s args lw_all RX0) (J : x_J D q cI cZ A σ s H locs) {v : Int32} (hdg : decode cc pc = .ok (.putfield 83, 3)) (kk : ∀ (H1 : Heap) (locs1 : List Loc), x_J D q cI cZ A (wdS σ 4 v) s H1 locs1 → W p l e R s m args below meth c H1 locs1 cells slots Q (F0 m (pc + 3) ls (rest))) : W p l e R s m args below meth c H locs cells slots Q (F0 m (pc) ls (.int v :: .ref (q 0) :: rest)) := x_put S J 4 (by decide) q36 rfl rfl (ty := .int) (by decide +kernel) rfl rfl rfl hdg kk
/-- broken -/
theorem x_r5 (S : CallFix p m c cc nL s args lw_all RX0) (J : x_J D q cI cZ A σ s H locs) (hdg : decode cc pc = .ok (.getfield 19, 3)) (kk : W p l e R s m args below meth c H locs cells slots Q (F0 m (pc + 3) ls (.ref (q 6) :: rest))) : W p l e R s m args below meth c H locs cells slots Q (F0 m (pc) ls (.ref (q 0) :: rest)) := x_get S J 5 (by decide) q37 rfl rfl hdg kk
theorem x_l5 (S : CallFix p m c cc nL s args lw_all RX0) (J : x_J D q cI cZ A σ s H locs) (n : Nat) (hn : n < 20) {v : Int32} (hv : σ.2 5 n = v) (hdg : decode cc pc = .ok (.baload, 1)) (kk : W p l e R s m args below meth c H locs cells slots Q (F0 m (pc + 1) ls (.int v :: rest))) : W p l e R s m args below meth c H locs cells slots Q (F0 m (pc) ls (.int (nI n) :: .ref (q 6) :: rest)) := x_zald S J 4 rfl n hn (by decide) hv hdg kk
theorem x_s5 (S : CallFix p m c cc nL s args lw_all RX0) (J : x_J D q cI cZ A σ s H locs) (n : Nat) (hn : n < 20) {x : Int32} (hx : vp_nar .boolean x = x) (hdg : decode cc pc = .ok (.bastore, 1)) (kk : ∀ (H1 : Heap) (locs1 : List Loc), x_J D q cI cZ A (wdA σ 5 n x) s H1 locs1 → W p l e R s m args below meth c H1 locs1 cells slots Q (F0 m (pc + 1) ls (rest))) : W p l e R s m args below meth c H locs cells slots Q (F0 m (pc) ls (.int x :: .int (nI n) :: .ref (q 6) :: rest)) := x_zast S J 4 5 rfl n rfl hn (by decide) hx hdg kk
/-- skips -/
theorem x_r6 (S : CallFix p m c cc nL s args lw_all RX0) (J : x_J D q cI cZ A σ s H locs) (hdg : decode cc pc = .ok (.getfield 23, 3)) (kk : W p l e R s m args below meth c H locs cells slots Q (F0 m (pc + 3) ls (.ref (q 7) :: rest))) : W p l e R s m args below meth c H locs cells slots Q (F0 m (pc) ls (.ref (q 0) :: rest)) := x_get S J 6 (by decide) q38 rfl rfl hdg kk
theorem x_l6 (S : CallFix p m c cc nL s args lw_all RX0) (J : x_J D q cI cZ A σ s H locs) (n : Nat) (hn : n < 20) {v : Int32} (hv : σ.2 6 n = v) (hdg : decode cc pc = .ok (.iaload, 1)) (kk : W p l e R s m args below meth c H locs cells slots Q (F0 m (pc + 1) ls (.int v :: rest))) : W p l e R s m args below meth c H locs cells slots Q (F0 m (pc) ls (.int (nI n) :: .ref (q 7) :: rest)) := x_iald S J 5 rfl n hn (by decide) hv hdg kk
theorem x_s6 (S : CallFix p m c cc nL s args lw_all RX0) (J : x_J D q cI cZ A σ s H locs) (n : Nat) (hn : n < 20) {x : Int32} (hdg : decode cc pc = .ok (.iastore, 1)) (kk : ∀ (H1 : Heap) (locs1 : List Loc), x_J D q cI cZ A (wdA σ 6 n x) s H1 locs1 → W p l e R s m args below meth c H1 locs1 cells slots Q (F0 m (pc + 1) ls (rest))) : W p l e R s m args below meth c H locs cells slots Q (F0 m (pc) ls (.int x :: .int (nI n) :: .ref (q 7) :: rest)) := x_iast S J 5 6 rfl n rfl hn (by decide) hdg kk
/-- planted -/
theorem x_r7 (S : CallFix p m c cc nL s args lw_all RX0) (J : x_J D q cI cZ A σ s H locs) (hdg : decode cc pc = .ok (.getfield 26, 3)) (kk : W p l e R s m args below meth c H locs cells slots Q (F0 m (pc + 3) ls (.ref (q 8) :: rest))) : W p l e R s m args below meth c H locs cells slots Q (F0 m (pc) ls (.ref (q 0) :: rest)) := x_get S J 7 (by decide) q39 rfl rfl hdg kk
theorem x_l7 (S : CallFix p m c cc nL s args lw_all RX0) (J : x_J D q cI cZ A σ s H locs) (n : Nat) (hn : n < 20) {v : Int32} (hv : σ.2 7 n = v) (hdg : decode cc pc = .ok (.baload, 1)) (kk : W p l e R s m args below meth c H locs cells slots Q (F0 m (pc + 1) ls (.int v :: rest))) : W p l e R s m args below meth c H locs cells slots Q (F0 m (pc) ls (.int (nI n) :: .ref (q 8) :: rest)) := x_zald S J 6 rfl n hn (by decide) hv hdg kk
theorem x_s7 (S : CallFix p m c cc nL s args lw_all RX0) (J : x_J D q cI cZ A σ s H locs) (n : Nat) (hn : n < 20) {x : Int32} (hx : vp_nar .boolean x = x) (hdg : decode cc pc = .ok (.bastore, 1)) (kk : ∀ (H1 : Heap) (locs1 : List Loc), x_J D q cI cZ A (wdA σ 7 n x) s H1 locs1 → W p l e R s m args below meth c H1 locs1 cells slots Q (F0 m (pc + 1) ls (rest))) : W p l e R s m args below meth c H locs cells slots Q (F0 m (pc) ls (.int x :: .int (nI n) :: .ref (q 8) :: rest)) := x_zast S J 6 7 rfl n rfl hn (by decide) hx hdg kk
/-- goalDepth -/
theorem x_g8 (S : CallFix p m c cc nL s args lw_all RX0) (J : x_J D q cI cZ A σ s H locs) {v : Int32} (hv : σ.1 8 = v) (hdg : decode cc pc = .ok (.getfield 117, 3)) (kk : W p l e R s m args below meth c H locs cells slots Q (F0 m (pc + 3) ls (.int v :: rest))) : W p l e R s m args below meth c H locs cells slots Q (F0 m (pc) ls (.ref (q 0) :: rest)) := x_get S J 8 (by decide) q40 rfl (congrArg (fun z => some (Value.int z)) hv) hdg kk
theorem x_p8 (S : CallFix p m c cc nL s args lw_all RX0) (J : x_J D q cI cZ A σ s H locs) {v : Int32} (hdg : decode cc pc = .ok (.putfield 117, 3)) (kk : ∀ (H1 : Heap) (locs1 : List Loc), x_J D q cI cZ A (wdS σ 8 v) s H1 locs1 → W p l e R s m args below meth c H1 locs1 cells slots Q (F0 m (pc + 3) ls (rest))) : W p l e R s m args below meth c H locs cells slots Q (F0 m (pc) ls (.int v :: .ref (q 0) :: rest)) := x_put S J 8 (by decide) q40 rfl rfl (ty := .int) (by decide +kernel) rfl rfl rfl hdg kk
/-- wovenOp -/
theorem x_r9 (S : CallFix p m c cc nL s args lw_all RX0) (J : x_J D q cI cZ A σ s H locs) (hdg : decode cc pc = .ok (.getfield 29, 3)) (kk : W p l e R s m args below meth c H locs cells slots Q (F0 m (pc + 3) ls (.ref (q 10) :: rest))) : W p l e R s m args below meth c H locs cells slots Q (F0 m (pc) ls (.ref (q 0) :: rest)) := x_get S J 9 (by decide) q41 rfl rfl hdg kk
theorem x_l9 (S : CallFix p m c cc nL s args lw_all RX0) (J : x_J D q cI cZ A σ s H locs) (n : Nat) (hn : n < 48) {v : Int32} (hv : σ.2 9 n = v) (hdg : decode cc pc = .ok (.iaload, 1)) (kk : W p l e R s m args below meth c H locs cells slots Q (F0 m (pc + 1) ls (.int v :: rest))) : W p l e R s m args below meth c H locs cells slots Q (F0 m (pc) ls (.int (nI n) :: .ref (q 10) :: rest)) := x_iald S J 7 rfl n hn (by decide) hv hdg kk
theorem x_s9 (S : CallFix p m c cc nL s args lw_all RX0) (J : x_J D q cI cZ A σ s H locs) (n : Nat) (hn : n < 48) {x : Int32} (hdg : decode cc pc = .ok (.iastore, 1)) (kk : ∀ (H1 : Heap) (locs1 : List Loc), x_J D q cI cZ A (wdA σ 9 n x) s H1 locs1 → W p l e R s m args below meth c H1 locs1 cells slots Q (F0 m (pc + 1) ls (rest))) : W p l e R s m args below meth c H locs cells slots Q (F0 m (pc) ls (.int x :: .int (nI n) :: .ref (q 10) :: rest)) := x_iast S J 7 9 rfl n rfl hn (by decide) hdg kk
/-- wovenFrom -/
theorem x_r10 (S : CallFix p m c cc nL s args lw_all RX0) (J : x_J D q cI cZ A σ s H locs) (hdg : decode cc pc = .ok (.getfield 32, 3)) (kk : W p l e R s m args below meth c H locs cells slots Q (F0 m (pc + 3) ls (.ref (q 11) :: rest))) : W p l e R s m args below meth c H locs cells slots Q (F0 m (pc) ls (.ref (q 0) :: rest)) := x_get S J 10 (by decide) q42 rfl rfl hdg kk
theorem x_l10 (S : CallFix p m c cc nL s args lw_all RX0) (J : x_J D q cI cZ A σ s H locs) (n : Nat) (hn : n < 48) {v : Int32} (hv : σ.2 10 n = v) (hdg : decode cc pc = .ok (.iaload, 1)) (kk : W p l e R s m args below meth c H locs cells slots Q (F0 m (pc + 1) ls (.int v :: rest))) : W p l e R s m args below meth c H locs cells slots Q (F0 m (pc) ls (.int (nI n) :: .ref (q 11) :: rest)) := x_iald S J 8 rfl n hn (by decide) hv hdg kk
theorem x_s10 (S : CallFix p m c cc nL s args lw_all RX0) (J : x_J D q cI cZ A σ s H locs) (n : Nat) (hn : n < 48) {x : Int32} (hdg : decode cc pc = .ok (.iastore, 1)) (kk : ∀ (H1 : Heap) (locs1 : List Loc), x_J D q cI cZ A (wdA σ 10 n x) s H1 locs1 → W p l e R s m args below meth c H1 locs1 cells slots Q (F0 m (pc + 1) ls (rest))) : W p l e R s m args below meth c H locs cells slots Q (F0 m (pc) ls (.int x :: .int (nI n) :: .ref (q 11) :: rest)) := x_iast S J 8 10 rfl n rfl hn (by decide) hdg kk
/-- leads -/
theorem x_r11 (S : CallFix p m c cc nL s args lw_all RX0) (J : x_J D q cI cZ A σ s H locs) (hdg : decode cc pc = .ok (.getfield 35, 3)) (kk : W p l e R s m args below meth c H locs cells slots Q (F0 m (pc + 3) ls (.ref (q 12) :: rest))) : W p l e R s m args below meth c H locs cells slots Q (F0 m (pc) ls (.ref (q 0) :: rest)) := x_get S J 11 (by decide) q43 rfl rfl hdg kk
theorem x_l11 (S : CallFix p m c cc nL s args lw_all RX0) (J : x_J D q cI cZ A σ s H locs) (n : Nat) (hn : n < 48) {v : Int32} (hv : σ.2 11 n = v) (hdg : decode cc pc = .ok (.iaload, 1)) (kk : W p l e R s m args below meth c H locs cells slots Q (F0 m (pc + 1) ls (.int v :: rest))) : W p l e R s m args below meth c H locs cells slots Q (F0 m (pc) ls (.int (nI n) :: .ref (q 12) :: rest)) := x_iald S J 9 rfl n hn (by decide) hv hdg kk
theorem x_s11 (S : CallFix p m c cc nL s args lw_all RX0) (J : x_J D q cI cZ A σ s H locs) (n : Nat) (hn : n < 48) {x : Int32} (hdg : decode cc pc = .ok (.iastore, 1)) (kk : ∀ (H1 : Heap) (locs1 : List Loc), x_J D q cI cZ A (wdA σ 11 n x) s H1 locs1 → W p l e R s m args below meth c H1 locs1 cells slots Q (F0 m (pc + 1) ls (rest))) : W p l e R s m args below meth c H locs cells slots Q (F0 m (pc) ls (.int x :: .int (nI n) :: .ref (q 12) :: rest)) := x_iast S J 9 11 rfl n rfl hn (by decide) hdg kk
/-- entry -/
theorem x_r12 (S : CallFix p m c cc nL s args lw_all RX0) (J : x_J D q cI cZ A σ s H locs) (hdg : decode cc pc = .ok (.getfield 38, 3)) (kk : W p l e R s m args below meth c H locs cells slots Q (F0 m (pc + 3) ls (.ref (q 13) :: rest))) : W p l e R s m args below meth c H locs cells slots Q (F0 m (pc) ls (.ref (q 0) :: rest)) := x_get S J 12 (by decide) q44 rfl rfl hdg kk
theorem x_l12 (S : CallFix p m c cc nL s args lw_all RX0) (J : x_J D q cI cZ A σ s H locs) (n : Nat) (hn : n < 21) {v : Int32} (hv : σ.2 12 n = v) (hdg : decode cc pc = .ok (.iaload, 1)) (kk : W p l e R s m args below meth c H locs cells slots Q (F0 m (pc + 1) ls (.int v :: rest))) : W p l e R s m args below meth c H locs cells slots Q (F0 m (pc) ls (.int (nI n) :: .ref (q 13) :: rest)) := x_iald S J 10 rfl n hn (by decide) hv hdg kk
theorem x_s12 (S : CallFix p m c cc nL s args lw_all RX0) (J : x_J D q cI cZ A σ s H locs) (n : Nat) (hn : n < 21) {x : Int32} (hdg : decode cc pc = .ok (.iastore, 1)) (kk : ∀ (H1 : Heap) (locs1 : List Loc), x_J D q cI cZ A (wdA σ 12 n x) s H1 locs1 → W p l e R s m args below meth c H1 locs1 cells slots Q (F0 m (pc + 1) ls (rest))) : W p l e R s m args below meth c H locs cells slots Q (F0 m (pc) ls (.int x :: .int (nI n) :: .ref (q 13) :: rest)) := x_iast S J 10 12 rfl n rfl hn (by decide) hdg kk
/-- body -/
theorem x_r13 (S : CallFix p m c cc nL s args lw_all RX0) (J : x_J D q cI cZ A σ s H locs) (hdg : decode cc pc = .ok (.getfield 41, 3)) (kk : W p l e R s m args below meth c H locs cells slots Q (F0 m (pc + 3) ls (.ref (q 14) :: rest))) : W p l e R s m args below meth c H locs cells slots Q (F0 m (pc) ls (.ref (q 0) :: rest)) := x_get S J 13 (by decide) q45 rfl rfl hdg kk
theorem x_l13 (S : CallFix p m c cc nL s args lw_all RX0) (J : x_J D q cI cZ A σ s H locs) (n : Nat) (hn : n < 21) {v : Int32} (hv : σ.2 13 n = v) (hdg : decode cc pc = .ok (.iaload, 1)) (kk : W p l e R s m args below meth c H locs cells slots Q (F0 m (pc + 1) ls (.int v :: rest))) : W p l e R s m args below meth c H locs cells slots Q (F0 m (pc) ls (.int (nI n) :: .ref (q 14) :: rest)) := x_iald S J 11 rfl n hn (by decide) hv hdg kk
theorem x_s13 (S : CallFix p m c cc nL s args lw_all RX0) (J : x_J D q cI cZ A σ s H locs) (n : Nat) (hn : n < 21) {x : Int32} (hdg : decode cc pc = .ok (.iastore, 1)) (kk : ∀ (H1 : Heap) (locs1 : List Loc), x_J D q cI cZ A (wdA σ 13 n x) s H1 locs1 → W p l e R s m args below meth c H1 locs1 cells slots Q (F0 m (pc + 1) ls (rest))) : W p l e R s m args below meth c H locs cells slots Q (F0 m (pc) ls (.int x :: .int (nI n) :: .ref (q 14) :: rest)) := x_iast S J 11 13 rfl n rfl hn (by decide) hdg kk
/-- state -/
theorem x_g14 (S : CallFix p m c cc nL s args lw_all RX0) (J : x_J D q cI cZ A σ s H locs) {v : Int32} (hv : σ.1 14 = v) (hdg : decode cc pc = .ok (.getfield 56, 3)) (kk : W p l e R s m args below meth c H locs cells slots Q (F0 m (pc + 3) ls (.int v :: rest))) : W p l e R s m args below meth c H locs cells slots Q (F0 m (pc) ls (.ref (q 0) :: rest)) := x_get S J 14 (by decide) q46 rfl (congrArg (fun z => some (Value.int z)) hv) hdg kk
theorem x_p14 (S : CallFix p m c cc nL s args lw_all RX0) (J : x_J D q cI cZ A σ s H locs) {v : Int32} (hdg : decode cc pc = .ok (.putfield 56, 3)) (kk : ∀ (H1 : Heap) (locs1 : List Loc), x_J D q cI cZ A (wdS σ 14 v) s H1 locs1 → W p l e R s m args below meth c H1 locs1 cells slots Q (F0 m (pc + 3) ls (rest))) : W p l e R s m args below meth c H locs cells slots Q (F0 m (pc) ls (.int v :: .ref (q 0) :: rest)) := x_put S J 14 (by decide) q46 rfl rfl (ty := .int) (by decide +kernel) rfl rfl rfl hdg kk
/-- at -/
theorem x_g15 (S : CallFix p m c cc nL s args lw_all RX0) (J : x_J D q cI cZ A σ s H locs) {v : Int32} (hv : σ.1 15 = v) (hdg : decode cc pc = .ok (.getfield 73, 3)) (kk : W p l e R s m args below meth c H locs cells slots Q (F0 m (pc + 3) ls (.int v :: rest))) : W p l e R s m args below meth c H locs cells slots Q (F0 m (pc) ls (.ref (q 0) :: rest)) := x_get S J 15 (by decide) q47 rfl (congrArg (fun z => some (Value.int z)) hv) hdg kk
theorem x_p15 (S : CallFix p m c cc nL s args lw_all RX0) (J : x_J D q cI cZ A σ s H locs) {v : Int32} (hdg : decode cc pc = .ok (.putfield 73, 3)) (kk : ∀ (H1 : Heap) (locs1 : List Loc), x_J D q cI cZ A (wdS σ 15 v) s H1 locs1 → W p l e R s m args below meth c H1 locs1 cells slots Q (F0 m (pc + 3) ls (rest))) : W p l e R s m args below meth c H locs cells slots Q (F0 m (pc) ls (.int v :: .ref (q 0) :: rest)) := x_put S J 15 (by decide) q47 rfl rfl (ty := .int) (by decide +kernel) rfl rfl rfl hdg kk
/-- lost -/
theorem x_g16 (S : CallFix p m c cc nL s args lw_all RX0) (J : x_J D q cI cZ A σ s H locs) {v : Int32} (hv : σ.1 16 = v) (hdg : decode cc pc = .ok (.getfield 76, 3)) (kk : W p l e R s m args below meth c H locs cells slots Q (F0 m (pc + 3) ls (.int v :: rest))) : W p l e R s m args below meth c H locs cells slots Q (F0 m (pc) ls (.ref (q 0) :: rest)) := x_get S J 16 (by decide) q48 rfl (congrArg (fun z => some (Value.int z)) hv) hdg kk
theorem x_p16 (S : CallFix p m c cc nL s args lw_all RX0) (J : x_J D q cI cZ A σ s H locs) {v : Int32} (hn : narrow .boolean (.int v) = .int v) (hfit : fits .boolean (.int v) = true) (hdg : decode cc pc = .ok (.putfield 76, 3)) (kk : ∀ (H1 : Heap) (locs1 : List Loc), x_J D q cI cZ A (wdS σ 16 v) s H1 locs1 → W p l e R s m args below meth c H1 locs1 cells slots Q (F0 m (pc + 3) ls (rest))) : W p l e R s m args below meth c H locs cells slots Q (F0 m (pc) ls (.int v :: .ref (q 0) :: rest)) := x_put S J 16 (by decide) q48 rfl rfl (ty := .boolean) (by decide +kernel) hn hfit rfl hdg kk
/-- lostCounter -/
theorem x_g17 (S : CallFix p m c cc nL s args lw_all RX0) (J : x_J D q cI cZ A σ s H locs) {v : Int32} (hv : σ.1 17 = v) (hdg : decode cc pc = .ok (.getfield 108, 3)) (kk : W p l e R s m args below meth c H locs cells slots Q (F0 m (pc + 3) ls (.int v :: rest))) : W p l e R s m args below meth c H locs cells slots Q (F0 m (pc) ls (.ref (q 0) :: rest)) := x_get S J 17 (by decide) q49 rfl (congrArg (fun z => some (Value.int z)) hv) hdg kk
theorem x_p17 (S : CallFix p m c cc nL s args lw_all RX0) (J : x_J D q cI cZ A σ s H locs) {v : Int32} (hdg : decode cc pc = .ok (.putfield 108, 3)) (kk : ∀ (H1 : Heap) (locs1 : List Loc), x_J D q cI cZ A (wdS σ 17 v) s H1 locs1 → W p l e R s m args below meth c H1 locs1 cells slots Q (F0 m (pc + 3) ls (rest))) : W p l e R s m args below meth c H locs cells slots Q (F0 m (pc) ls (.int v :: .ref (q 0) :: rest)) := x_put S J 17 (by decide) q49 rfl rfl (ty := .int) (by decide +kernel) rfl rfl rfl hdg kk
/-- frames -/
theorem x_g18 (S : CallFix p m c cc nL s args lw_all RX0) (J : x_J D q cI cZ A σ s H locs) {v : Int32} (hv : σ.1 18 = v) (hdg : decode cc pc = .ok (.getfield 70, 3)) (kk : W p l e R s m args below meth c H locs cells slots Q (F0 m (pc + 3) ls (.int v :: rest))) : W p l e R s m args below meth c H locs cells slots Q (F0 m (pc) ls (.ref (q 0) :: rest)) := x_get S J 18 (by decide) q50 rfl (congrArg (fun z => some (Value.int z)) hv) hdg kk
theorem x_p18 (S : CallFix p m c cc nL s args lw_all RX0) (J : x_J D q cI cZ A σ s H locs) {v : Int32} (hdg : decode cc pc = .ok (.putfield 70, 3)) (kk : ∀ (H1 : Heap) (locs1 : List Loc), x_J D q cI cZ A (wdS σ 18 v) s H1 locs1 → W p l e R s m args below meth c H1 locs1 cells slots Q (F0 m (pc + 3) ls (rest))) : W p l e R s m args below meth c H locs cells slots Q (F0 m (pc) ls (.int v :: .ref (q 0) :: rest)) := x_put S J 18 (by decide) q50 rfl rfl (ty := .int) (by decide +kernel) rfl rfl rfl hdg kk
/-- locals -/
theorem x_r19 (S : CallFix p m c cc nL s args lw_all RX0) (J : x_J D q cI cZ A σ s H locs) (hdg : decode cc pc = .ok (.getfield 44, 3)) (kk : W p l e R s m args below meth c H locs cells slots Q (F0 m (pc + 3) ls (.ref (q 20) :: rest))) : W p l e R s m args below meth c H locs cells slots Q (F0 m (pc) ls (.ref (q 0) :: rest)) := x_get S J 19 (by decide) q51 rfl rfl hdg kk
theorem x_l19 (S : CallFix p m c cc nL s args lw_all RX0) (J : x_J D q cI cZ A σ s H locs) (n : Nat) (hn : n < 24) {v : Int32} (hv : σ.2 19 n = v) (hdg : decode cc pc = .ok (.iaload, 1)) (kk : W p l e R s m args below meth c H locs cells slots Q (F0 m (pc + 1) ls (.int v :: rest))) : W p l e R s m args below meth c H locs cells slots Q (F0 m (pc) ls (.int (nI n) :: .ref (q 20) :: rest)) := x_iald S J 12 rfl n hn (by decide) hv hdg kk
theorem x_s19 (S : CallFix p m c cc nL s args lw_all RX0) (J : x_J D q cI cZ A σ s H locs) (n : Nat) (hn : n < 24) {x : Int32} (hdg : decode cc pc = .ok (.iastore, 1)) (kk : ∀ (H1 : Heap) (locs1 : List Loc), x_J D q cI cZ A (wdA σ 19 n x) s H1 locs1 → W p l e R s m args below meth c H1 locs1 cells slots Q (F0 m (pc + 1) ls (rest))) : W p l e R s m args below meth c H locs cells slots Q (F0 m (pc) ls (.int x :: .int (nI n) :: .ref (q 20) :: rest)) := x_iast S J 12 19 rfl n rfl hn (by decide) hdg kk
/-- goesOn -/
theorem x_r20 (S : CallFix p m c cc nL s args lw_all RX0) (J : x_J D q cI cZ A σ s H locs) (hdg : decode cc pc = .ok (.getfield 47, 3)) (kk : W p l e R s m args below meth c H locs cells slots Q (F0 m (pc + 3) ls (.ref (q 21) :: rest))) : W p l e R s m args below meth c H locs cells slots Q (F0 m (pc) ls (.ref (q 0) :: rest)) := x_get S J 20 (by decide) q52 rfl rfl hdg kk
theorem x_l20 (S : CallFix p m c cc nL s args lw_all RX0) (J : x_J D q cI cZ A σ s H locs) (n : Nat) (hn : n < 6) {v : Int32} (hv : σ.2 20 n = v) (hdg : decode cc pc = .ok (.iaload, 1)) (kk : W p l e R s m args below meth c H locs cells slots Q (F0 m (pc + 1) ls (.int v :: rest))) : W p l e R s m args below meth c H locs cells slots Q (F0 m (pc) ls (.int (nI n) :: .ref (q 21) :: rest)) := x_iald S J 13 rfl n hn (by decide) hv hdg kk
theorem x_s20 (S : CallFix p m c cc nL s args lw_all RX0) (J : x_J D q cI cZ A σ s H locs) (n : Nat) (hn : n < 6) {x : Int32} (hdg : decode cc pc = .ok (.iastore, 1)) (kk : ∀ (H1 : Heap) (locs1 : List Loc), x_J D q cI cZ A (wdA σ 20 n x) s H1 locs1 → W p l e R s m args below meth c H1 locs1 cells slots Q (F0 m (pc + 1) ls (rest))) : W p l e R s m args below meth c H locs cells slots Q (F0 m (pc) ls (.int x :: .int (nI n) :: .ref (q 21) :: rest)) := x_iast S J 13 20 rfl n rfl hn (by decide) hdg kk
/-- takes -/
theorem x_r21 (S : CallFix p m c cc nL s args lw_all RX0) (J : x_J D q cI cZ A σ s H locs) (hdg : decode cc pc = .ok (.getfield 50, 3)) (kk : W p l e R s m args below meth c H locs cells slots Q (F0 m (pc + 3) ls (.ref (q 22) :: rest))) : W p l e R s m args below meth c H locs cells slots Q (F0 m (pc) ls (.ref (q 0) :: rest)) := x_get S J 21 (by decide) q53 rfl rfl hdg kk
theorem x_l21 (S : CallFix p m c cc nL s args lw_all RX0) (J : x_J D q cI cZ A σ s H locs) (n : Nat) (hn : n < 6) {v : Int32} (hv : σ.2 21 n = v) (hdg : decode cc pc = .ok (.iaload, 1)) (kk : W p l e R s m args below meth c H locs cells slots Q (F0 m (pc + 1) ls (.int v :: rest))) : W p l e R s m args below meth c H locs cells slots Q (F0 m (pc) ls (.int (nI n) :: .ref (q 22) :: rest)) := x_iald S J 14 rfl n hn (by decide) hv hdg kk
theorem x_s21 (S : CallFix p m c cc nL s args lw_all RX0) (J : x_J D q cI cZ A σ s H locs) (n : Nat) (hn : n < 6) {x : Int32} (hdg : decode cc pc = .ok (.iastore, 1)) (kk : ∀ (H1 : Heap) (locs1 : List Loc), x_J D q cI cZ A (wdA σ 21 n x) s H1 locs1 → W p l e R s m args below meth c H1 locs1 cells slots Q (F0 m (pc + 1) ls (rest))) : W p l e R s m args below meth c H locs cells slots Q (F0 m (pc) ls (.int x :: .int (nI n) :: .ref (q 22) :: rest)) := x_iast S J 14 21 rfl n rfl hn (by decide) hdg kk
/-- written -/
theorem x_g22 (S : CallFix p m c cc nL s args lw_all RX0) (J : x_J D q cI cZ A σ s H locs) {v : Int32} (hv : σ.1 22 = v) (hdg : decode cc pc = .ok (.getfield 80, 3)) (kk : W p l e R s m args below meth c H locs cells slots Q (F0 m (pc + 3) ls (.int v :: rest))) : W p l e R s m args below meth c H locs cells slots Q (F0 m (pc) ls (.ref (q 0) :: rest)) := x_get S J 22 (by decide) q54 rfl (congrArg (fun z => some (Value.int z)) hv) hdg kk
theorem x_p22 (S : CallFix p m c cc nL s args lw_all RX0) (J : x_J D q cI cZ A σ s H locs) {v : Int32} (hdg : decode cc pc = .ok (.putfield 80, 3)) (kk : ∀ (H1 : Heap) (locs1 : List Loc), x_J D q cI cZ A (wdS σ 22 v) s H1 locs1 → W p l e R s m args below meth c H1 locs1 cells slots Q (F0 m (pc + 3) ls (rest))) : W p l e R s m args below meth c H locs cells slots Q (F0 m (pc) ls (.int v :: .ref (q 0) :: rest)) := x_put S J 22 (by decide) q54 rfl rfl (ty := .int) (by decide +kernel) rfl rfl rfl hdg kk
/-- lastOut -/
theorem x_r23 (S : CallFix p m c cc nL s args lw_all RX0) (J : x_J D q cI cZ A σ s H locs) (hdg : decode cc pc = .ok (.getfield 53, 3)) (kk : W p l e R s m args below meth c H locs cells slots Q (F0 m (pc + 3) ls (.ref (q 24) :: rest))) : W p l e R s m args below meth c H locs cells slots Q (F0 m (pc) ls (.ref (q 0) :: rest)) := x_get S J 23 (by decide) q55 rfl rfl hdg kk
theorem x_l23 (S : CallFix p m c cc nL s args lw_all RX0) (J : x_J D q cI cZ A σ s H locs) (n : Nat) (hn : n < 8) {v : Int32} (hv : σ.2 23 n = v) (hdg : decode cc pc = .ok (.iaload, 1)) (kk : W p l e R s m args below meth c H locs cells slots Q (F0 m (pc + 1) ls (.int v :: rest))) : W p l e R s m args below meth c H locs cells slots Q (F0 m (pc) ls (.int (nI n) :: .ref (q 24) :: rest)) := x_iald S J 15 rfl n hn (by decide) hv hdg kk
theorem x_s23 (S : CallFix p m c cc nL s args lw_all RX0) (J : x_J D q cI cZ A σ s H locs) (n : Nat) (hn : n < 8) {x : Int32} (hdg : decode cc pc = .ok (.iastore, 1)) (kk : ∀ (H1 : Heap) (locs1 : List Loc), x_J D q cI cZ A (wdA σ 23 n x) s H1 locs1 → W p l e R s m args below meth c H1 locs1 cells slots Q (F0 m (pc + 1) ls (rest))) : W p l e R s m args below meth c H locs cells slots Q (F0 m (pc) ls (.int x :: .int (nI n) :: .ref (q 24) :: rest)) := x_iast S J 15 23 rfl n rfl hn (by decide) hdg kk
theorem x_vret {sz : Nat} (S : CallFix p m c cc nL s args lw_all RX0) (hr : meth.sig.returnType = none) (hlk : meth.locks = false) (J : x_J D q cI cZ (x_A q sz) σ s H locs) {post : wdSt → Prop} (hp : post σ) (hdg : decode cc pc = .ok (.return_, 1)) : W p l e R s m args below meth c H locs 0 0 (MQ below (va_Qv post (x_B D q cI cZ) (x_A q sz)) args s 0 0 (x_A q sz)) (F0 m pc ls []) :=
  W.vret S.1 S.2.1 hr (fun t ht hW => ⟨⟨σ, rfl, hp, by rw [ht]; exact J.2.2.1, va_K.moved hW.alike J.1⟩, J.2.2.2.2.F ht⟩) J.2.2.2.2.2.2 hdg hlk
theorem x_iret {sz : Nat} (S : CallFix p m c cc nL s args lw_all RX0) (hr : meth.sig.returnType = some .int) (hlk : meth.locks = false) (J : x_J D q cI cZ (x_A q sz) σ s H locs) {post : Int32 → wdSt → Prop} {v : Int32} (hp : post v σ) (hdg : decode cc pc = .ok (.ireturn, 1)) : W p l e R s m args below meth c H locs 0 0 (MQ below (va_Qi post (x_B D q cI cZ) (x_A q sz)) args s 0 0 (x_A q sz)) (F0 m pc ls [.int v]) :=
  W.iret S.1 S.2.1 hr (fun t ht hW => ⟨⟨v, σ, rfl, hp, by rw [ht]; exact J.2.2.1, va_K.moved hW.alike J.1⟩, J.2.2.2.2.F ht⟩) J.2.2.2.2.2.2 hdg hlk
theorem x_zret {sz : Nat} (S : CallFix p m c cc nL s args lw_all RX0) (hr : meth.sig.returnType = some .boolean) (hlk : meth.locks = false) (J : x_J D q cI cZ (x_A q sz) σ s H locs) {post : Int32 → wdSt → Prop} {v : Int32} (hn : narrow .boolean (.int v) = .int v) (hp : post v σ) (hdg : decode cc pc = .ok (.ireturn, 1)) : W p l e R s m args below meth c H locs 0 0 (MQ below (va_Qi post (x_B D q cI cZ) (x_A q sz)) args s 0 0 (x_A q sz)) (F0 m pc ls [.int v]) :=
  W.zret S.1 S.2.1 hr hn (fun t ht hW => ⟨⟨v, σ, rfl, hp, by rw [ht]; exact J.2.2.1, va_K.moved hW.alike J.1⟩, J.2.2.2.2.F ht⟩) J.2.2.2.2.2.2 hdg hlk
theorem x_preV (J : x_J D q cI cZ A σ s H locs) (As : List Value) : PreV s H RX0 (q 0) (x_Pc D q cI cZ H.size σ As) As := by
  refine ⟨fun a U g mk z => ?_, va_recv J.1 J.2.2.1 (ci := 0) (q0 := 0) rfl rfl, fun U hU hW => ⟨rfl, by rw [hU], by rw [hU]; exact J.2.2.1, va_K.moved hW.alike J.1, J.2.2.2.1.weaken (fun _ _ _ _ => trivial)⟩⟩
  obtain ⟨z0, z1, zP, zK, zD⟩ := z
  exact ⟨z0, z1, zP, va_K.moved (u := U) (U := U.calling g mk a) (Vm.Alike.refl U.vm) zK, zD⟩
theorem x_sub (J : x_J D q cI cZ A σ s H locs) : ∀ a : Nat, x_A q H.size a → A a := by
  intro a h
  rcases h with h | h
  · exact x_Dm J.2.2.2.1 h
  · exact J.2.1 a (Nat.le_trans J.2.2.2.2.1 h)
theorem x_ci {own : String} {idx : Nat} {y : MethodName} {bytes : ByteArray} {maxL : Nat} {ret : Option FieldType} {ws : List Cond} {rm : Room} {post : Int32 → wdSt → Prop} {As st0 : List Value} (S : CallFix p m c cc nL s args lw_all own) (J : x_J D q cI cZ A σ s H locs) (hM : Met l y ws rm (x_Pc D q cI cZ H.size σ As) (va_Qi post (x_B D q cI cZ) (x_A q H.size)) 0 0 (x_A q H.size)) {na : Nat} (cw : CallW R s args own RX0 idx y bytes maxL ret ws rm 0 0 na) (hna : As.length = na) (hsz : ls.size = nL) (hst : st0 = As.reverse ++ .ref (q 0) :: rest) (hW : (rest.map fun v => v.category).sum ≤ 8) (hdg : decode cc pc = .ok (.invokevirtual idx, 3)) (hcs : cells ≤ R.cells ∧ slots ≤ R.slots)
    (kk : ∀ (r : Int32) (σ1 : wdSt) (H1 : Heap) (locs1 : List Loc), post r σ1 → x_J D q cI cZ A σ1 s H1 locs1 → W p l e R s m args below meth c H1 locs1 cells slots Q (F0 m (pc + 3) ls (.int r :: rest))) : W p l e R s m args below meth c H locs cells slots Q (F0 m (pc) ls (st0)) :=
  va_calli (va_runV (As := As) (rest := rest) S hM cw (x_preV J As) rfl hna hsz hst (lv_room hW) hdg hcs) J.2.2.2.2 (fun a _ h => x_sub J a h) (x_sub J) (fun r u t H1 locs1 ht hvm hw hB hz hk hS => kk r u H1 locs1 hw ⟨J.1, J.2.1, by rw [← ht]; exact hB.1, x_Dc _ J.2.2.2.1, hS⟩)
theorem x_cv {own : String} {idx : Nat} {y : MethodName} {bytes : ByteArray} {maxL : Nat} {ret : Option FieldType} {ws : List Cond} {rm : Room} {post : wdSt → Prop} {As st0 : List Value} (S : CallFix p m c cc nL s args lw_all own) (J : x_J D q cI cZ A σ s H locs) (hM : Met l y ws rm (x_Pc D q cI cZ H.size σ As) (va_Qv post (x_B D q cI cZ) (x_A q H.size)) 0 0 (x_A q H.size)) {na : Nat} (cw : CallW R s args own RX0 idx y bytes maxL ret ws rm 0 0 na) (hna : As.length = na) (hsz : ls.size = nL) (hst : st0 = As.reverse ++ .ref (q 0) :: rest) (hW : (rest.map fun v => v.category).sum ≤ 8) (hdg : decode cc pc = .ok (.invokevirtual idx, 3)) (hcs : cells ≤ R.cells ∧ slots ≤ R.slots)
    (kk : ∀ (σ1 : wdSt) (H1 : Heap) (locs1 : List Loc), post σ1 → x_J D q cI cZ A σ1 s H1 locs1 → W p l e R s m args below meth c H1 locs1 cells slots Q (F0 m (pc + 3) ls (rest))) : W p l e R s m args below meth c H locs cells slots Q (F0 m (pc) ls (st0)) :=
  va_callv (va_runV (As := As) (rest := rest) S hM cw (x_preV J As) rfl hna hsz hst (lv_room hW) hdg hcs) J.2.2.2.2 (fun a _ h => x_sub J a h) (x_sub J) (fun u t H1 locs1 ht hvm hw hB hz hk hS => kk u H1 locs1 hw ⟨J.1, J.2.1, by rw [← ht]; exact hB.1, x_Dc _ J.2.2.2.1, hS⟩)
end XB
abbrev y_f (q : Nat → Nat) (σ : wdSt) : List Value := [.ref (q 1), .ref (q 2), .ref (q 3), .int (σ.1 3), .ref (q 5), .int (σ.1 5), .int (σ.1 6), .ref (q 8), .ref (q 9), .ref (q 10), .int (σ.1 10), .int (σ.1 11), .ref (q 13)]
abbrev y_w (q : Nat → Nat) (cI cZ : ClassId) (σ : wdSt) : va_W := [(q 0, .inr (1, y_f q σ)), (q 1, .inl (cI, 20, .inl (σ.2 0))), (q 2, .inl (cI, 20, .inl (σ.2 1))), (q 3, .inl (cI, 20, .inl (σ.2 2))), (q 5, .inl (cI, 20, .inl (σ.2 4))), (q 8, .inl (cI, 24, .inl (σ.2 7))), (q 9, .inl (cI, 6, .inl (σ.2 8))), (q 10, .inl (cI, 6, .inl (σ.2 9))), (q 13, .inl (cI, 8, .inl (σ.2 12)))]
abbrev y_ad (q : Nat → Nat) : List Nat := [q 0, q 1, q 2, q 3, q 5, q 8, q 9, q 10, q 13]
def y_A (q : Nat → Nat) (sz : Nat) : Nat → Prop := fun a => a ∈ y_ad q ∨ sz ≤ a
theorem y_Dc {A : Nat → Prop} {q : Nat → Nat} {cI cZ : ClassId} {σ : wdSt} (σ' : wdSt) (h : va_D A (y_w q cI cZ σ)) : va_D A (y_w q cI cZ σ') := wd_Dc (ws := y_w q cI cZ σ) rfl h
theorem y_Dm {A : Nat → Prop} {q : Nat → Nat} {cI cZ : ClassId} {σ : wdSt} (h : va_D A (y_w q cI cZ σ)) {a : Nat} (ha : a ∈ y_ad q) : A a := wd_Dm h (show a ∈ List.map (fun q => q.1) (y_w q cI cZ σ) from ha)
def y_J (D : va_G) (q : Nat → Nat) (cI cZ : ClassId) (A : Nat → Prop) (σ : wdSt) (s : State) (H : Heap) (locs : List Loc) : Prop := va_K D vwCl (wdTy cI cZ) s ∧ (∀ a : Nat, s.heap.size ≤ a → A a) ∧ va_P D vwCl (y_w q cI cZ σ) H ∧ va_D A (y_w q cI cZ σ) ∧ va_S A s.heap H locs
def y_Pc (D : va_G) (q : Nat → Nat) (cI cZ : ClassId) (sz : Nat) (σ : wdSt) (As : List Value) : Array Value → State → Prop := va_Pc (.ref (q 0) :: As) (fun U => U.heap.size = sz ∧ va_P D vwCl (y_w q cI cZ σ) U.heap ∧ va_K D vwCl (wdTy cI cZ) U ∧ va_D (fun _ => True) (y_w q cI cZ σ))
def y_B (D : va_G) (q : Nat → Nat) (cI cZ : ClassId) (σ : wdSt) (t : State) : Prop := va_P D vwCl (y_w q cI cZ σ) t.heap ∧ va_K D vwCl (wdTy cI cZ) t
abbrev y_MV (l : Launch) (y : MethodName) (b : ByteArray) (nL f n : Nat) (D : va_G) (q : Nat → Nat) (cI cZ : ClassId) (sz : Nat) (σ : wdSt) (As : List Value) (post : wdSt → Prop) : Prop := Met l y (ws_ y b nL none) (wdRm f n) (y_Pc D q cI cZ sz σ As) (va_Qv post (y_B D q cI cZ) (y_A q sz)) 0 0 (y_A q sz)
abbrev y_MI (l : Launch) (y : MethodName) (b : ByteArray) (nL : Nat) (ret : FieldType) (f n : Nat) (D : va_G) (q : Nat → Nat) (cI cZ : ClassId) (sz : Nat) (σ : wdSt) (As : List Value) (post : Int32 → wdSt → Prop) : Prop := Met l y (ws_ y b nL (some ret)) (wdRm f n) (y_Pc D q cI cZ sz σ As) (va_Qi post (y_B D q cI cZ) (y_A q sz)) 0 0 (y_A q sz)
theorem y_open {l : Launch} {y : MethodName} {cc : ByteArray} {nL f n : Nat} {ret : Option FieldType} {D : va_G} {q : Nat → Nat} {cI cZ : ClassId} {sz : Nat} {σ : wdSt} {As : List Value} {Qc : Array Value → State → Outcome → State → Prop} (hy : plainName y.cls = true) (hyc : y.cls = RX1) (hlen : (lg_sl (.ref (q 0) :: As)).length ≤ nL)
    (body : ∀ (p : Program) (e : Env) (s : State) (m : MethodId) (below : List Frame) (meth : Method) (c : Code), CallFix p m c cc nL s (Value.ref (q 0) :: As).toArray lw_all RX1 → meth.sig.returnType = ret → meth.locks = false → y_J D q cI cZ (y_A q sz) σ s s.heap [] → ∀ ls : Array Slot, lv_has ls nL (lv_args 0 (.ref (q 0) :: As)) → W p l e (wdRm f n) s m (Value.ref (q 0) :: As).toArray below meth c s.heap [] 0 0 (MQ below Qc (Value.ref (q 0) :: As).toArray s 0 0 (y_A q sz)) (F0 m 0 ls [])) : Met l y (ws_ y cc nL ret) (wdRm f n) (y_Pc D q cI cZ sz σ As) Qc 0 0 (y_A q sz) := by
  refine Met.ofW (cc := cc) (maxL := nL) (ret := ret) hy rfl ?_
  intro p e s m args below meth c s₁ B hml hv
  obtain ⟨rfl, hsz, hP, hK, hD0⟩ := hv
  have hts := atoms_spec (ws := ws_ y cc nL ret) B.pre
  have hts : ∀ w ∈ lw_all, w.before _ s = true := fun w h => hts w (List.mem_cons_of_mem _ h)
  have hown : s.vm.findClass y.cls = some m.cls := findClass_of_methodNamed B.named
  rw [hyc] at hown
  have hl := lv_entry (.ref (q 0) :: As) (n := nL) hlen
  rw [lg_entry_eq]
  refine body p e s m below meth c ⟨B.exec, B.bytes, hml, hown, hts⟩ B.returns B.notSynchronized ⟨hK, fun a h => Or.inr (by rw [← hsz]; exact h), hP, ?_, va_S.rf⟩ _ hl
  exact ⟨hD0.1, fun k x hx => Or.inl (show x.1 ∈ List.map (fun q => q.1) (y_w q cI cZ σ) from List.mem_map.mpr ⟨x, List.mem_of_getElem? hx, rfl⟩)⟩
section YB
variable {p : Program} {l : Launch} {e : Env} {R : Room} {s : State} {m : MethodId} {args : Array Value} {below : List Frame} {meth : Method} {c : Code} {H : Heap} {locs : List Loc} {cells slots : Nat} {Q : State → Prop}
variable {cc : ByteArray} {pc nL : Nat} {ls : Array Slot} {rest : List Value} {D : va_G} {q : Nat → Nat} {cI cZ : ClassId} {A : Nat → Prop} {σ : wdSt}
theorem y_get (S : CallFix p m c cc nL s args lw_all RX1) (J : y_J D q cI cZ A σ s H locs) (k : Nat) (hk : k < 13) {idx : Nat} (hlink : Cond.fieldLink RX1 idx RX1 (TX1 k).2.1 (TX1 k).2.2.1 ∈ lw_all) (hsame : (TX1 k).1 = RX1) {v : Value} (hv : (y_f q σ)[k]? = some v) (hdg : decode cc pc = .ok (.getfield idx, 3)) (kk : W p l e R s m args below meth c H locs cells slots Q (F0 m (pc + 3) ls (v :: rest))) : W p l e R s m args below meth c H locs cells slots Q (F0 m (pc) ls (.ref (q 0) :: rest)) :=
  va_get (D := D) (ci := 1) (C := RX1) (T := TX1) (N := 13) S.1 S.2.1 S.2.2.2.2 in_X1 S.2.2.2.1 J.1 J.2.2.1 0 rfl rfl k hk (S.2.2.2.2 _ hlink) (fun x h => by rw [hsame] at h; exact h) hv hdg kk
theorem y_put (S : CallFix p m c cc nL s args lw_all RX1) (J : y_J D q cI cZ A σ s H locs) (k : Nat) (hk : k < 13) {idx : Nat} (hlink : Cond.fieldLink RX1 idx RX1 (TX1 k).2.1 (TX1 k).2.2.1 ∈ lw_all) (hsame : (TX1 k).1 = RX1) (hfin : (TX1 k).2.2.2 = false) {ty : FieldType} {v : Int32} (hd : parseFieldDescriptor (TX1 k).2.2.1 = some ty) (hn : narrow ty (.int v) = .int v) (hfit : fits ty (.int v) = true) (he : (y_f q σ).set k (.int v) = y_f q (wdS σ k v)) (hdg : decode cc pc = .ok (.putfield idx, 3))
    (kk : ∀ (H1 : Heap) (locs1 : List Loc), y_J D q cI cZ A (wdS σ k v) s H1 locs1 → W p l e R s m args below meth c H1 locs1 cells slots Q (F0 m (pc + 3) ls (rest))) : W p l e R s m args below meth c H locs cells slots Q (F0 m (pc) ls (.int v :: .ref (q 0) :: rest)) := by
  refine va_put (D := D) (ci := 1) (C := RX1) (T := TX1) (N := 13) S.1 S.2.1 S.2.2.2.2 in_X1 tyX1 tyX1_ok nmX1 S.2.2.2.1 J.1 J.2.2.1 J.2.2.2.1 J.2.2.2.2 0 rfl rfl k hk (S.2.2.2.2 _ hlink) (fun x h => by rw [hsame] at h; exact h) hfin hd hn hfit hk hdg (fun H1 locs1 hP hD hS => kk H1 locs1 ⟨J.1, J.2.1, ?_, y_Dc _ J.2.2.2.1, hS⟩)
  rw [he] at hP
  exact hP
theorem y_iald (S : CallFix p m c cc nL s args lw_all RX1) (J : y_J D q cI cZ A σ s H locs) (j : Nat) {a N : Nat} {f : Nat → Int32} (ha : (y_w q cI cZ σ)[j]? = some (a, .inl (cI, N, .inl f))) (n : Nat) (hn : n < N) (hN : N < 2 ^ 31) {v : Int32} (hv : f n = v) (hdg : decode cc pc = .ok (.iaload, 1)) (kk : W p l e R s m args below meth c H locs cells slots Q (F0 m (pc + 1) ls (.int v :: rest))) : W p l e R s m args below meth c H locs cells slots Q (F0 m (pc) ls (.int (nI n) :: .ref a :: rest)) := by
  refine va_iald S.1 S.2.1 J.1 J.2.2.1 j 0 ha rfl (vp_in_nI hn hN) hdg ?_
  rw [nI_clamp (Nat.lt_trans hn hN), hv]
  exact kk
theorem y_iast (S : CallFix p m c cc nL s args lw_all RX1) (J : y_J D q cI cZ A σ s H locs) (j k : Nat) {a N : Nat} {f : Nat → Int32} (ha : (y_w q cI cZ σ)[j]? = some (a, .inl (cI, N, .inl f))) (n : Nat) {x : Int32} (he : (y_w q cI cZ σ).set j (a, .inl (cI, N, .inl (upd f n x))) = y_w q cI cZ (wdA σ k n x)) (hn : n < N) (hN : N < 2 ^ 31) (hdg : decode cc pc = .ok (.iastore, 1)) (kk : ∀ (H1 : Heap) (locs1 : List Loc), y_J D q cI cZ A (wdA σ k n x) s H1 locs1 → W p l e R s m args below meth c H1 locs1 cells slots Q (F0 m (pc + 1) ls (rest))) : W p l e R s m args below meth c H locs cells slots Q (F0 m (pc) ls (.int x :: .int (nI n) :: .ref a :: rest)) := by
  refine va_iast S.1 S.2.1 J.1 J.2.2.1 J.2.2.2.1 J.2.2.2.2 j 0 ha rfl (vp_in_nI hn hN) hdg (fun H1 locs1 hP hD hS => kk H1 locs1 ⟨J.1, J.2.1, ?_, y_Dc _ J.2.2.2.1, hS⟩)
  rw [nI_clamp (Nat.lt_trans hn hN), he] at hP
  exact hP
theorem y_zald (S : CallFix p m c cc nL s args lw_all RX1) (J : y_J D q cI cZ A σ s H locs) (j : Nat) {a N : Nat} {f : Nat → Int32} (ha : (y_w q cI cZ σ)[j]? = some (a, .inl (cZ, N, .inl f))) (n : Nat) (hn : n < N) (hN : N < 2 ^ 31) {v : Int32} (hv : f n = v) (hdg : decode cc pc = .ok (.baload, 1)) (kk : W p l e R s m args below meth c H locs cells slots Q (F0 m (pc + 1) ls (.int v :: rest))) : W p l e R s m args below meth c H locs cells slots Q (F0 m (pc) ls (.int (nI n) :: .ref a :: rest)) := by
  refine va_zald S.1 S.2.1 J.1 J.2.2.1 j 1 ha rfl (vp_in_nI hn hN) hdg ?_
  rw [nI_clamp (Nat.lt_trans hn hN), hv]
  exact kk
theorem y_zast (S : CallFix p m c cc nL s args lw_all RX1) (J : y_J D q cI cZ A σ s H locs) (j k : Nat) {a N : Nat} {f : Nat → Int32} (ha : (y_w q cI cZ σ)[j]? = some (a, .inl (cZ, N, .inl f))) (n : Nat) {x : Int32} (he : (y_w q cI cZ σ).set j (a, .inl (cZ, N, .inl (upd f n x))) = y_w q cI cZ (wdA σ k n x)) (hn : n < N) (hN : N < 2 ^ 31) (hx : vp_nar .boolean x = x) (hdg : decode cc pc = .ok (.bastore, 1)) (kk : ∀ (H1 : Heap) (locs1 : List Loc), y_J D q cI cZ A (wdA σ k n x) s H1 locs1 → W p l e R s m args below meth c H1 locs1 cells slots Q (F0 m (pc + 1) ls (rest))) : W p l e R s m args below meth c H locs cells slots Q (F0 m (pc) ls (.int x :: .int (nI n) :: .ref a :: rest)) := by
  refine va_zast S.1 S.2.1 J.1 J.2.2.1 J.2.2.2.1 J.2.2.2.2 j 1 ha rfl (vp_in_nI hn hN) hdg (fun H1 locs1 hP hD hS => kk H1 locs1 ⟨J.1, J.2.1, ?_, y_Dc _ J.2.2.2.1, hS⟩)
  rw [nI_clamp (Nat.lt_trans hn hN), hx, he] at hP
  exact hP
/-- ops -/
theorem y_r0 (S : CallFix p m c cc nL s args lw_all RX1) (J : y_J D q cI cZ A σ s H locs) (hdg : decode cc pc = .ok (.getfield 7, 3)) (kk : W p l e R s m args below meth c H locs cells slots Q (F0 m (pc + 3) ls (.ref (q 1) :: rest))) : W p l e R s m args below meth c H locs cells slots Q (F0 m (pc) ls (.ref (q 0) :: rest)) := y_get S J 0 (by decide) q244 rfl rfl hdg kk
theorem y_l0 (S : CallFix p m c cc nL s args lw_all RX1) (J : y_J D q cI cZ A σ s H locs) (n : Nat) (hn : n < 20) {v : Int32} (hv : σ.2 0 n = v) (hdg : decode cc pc = .ok (.iaload, 1)) (kk : W p l e R s m args below meth c H locs cells slots Q (F0 m (pc + 1) ls (.int v :: rest))) : W p l e R s m args below meth c H locs cells slots Q (F0 m (pc) ls (.int (nI n) :: .ref (q 1) :: rest)) := y_iald S J 1 rfl n hn (by decide) hv hdg kk
theorem y_s0 (S : CallFix p m c cc nL s args lw_all RX1) (J : y_J D q cI cZ A σ s H locs) (n : Nat) (hn : n < 20) {x : Int32} (hdg : decode cc pc = .ok (.iastore, 1)) (kk : ∀ (H1 : Heap) (locs1 : List Loc), y_J D q cI cZ A (wdA σ 0 n x) s H1 locs1 → W p l e R s m args below meth c H1 locs1 cells slots Q (F0 m (pc + 1) ls (rest))) : W p l e R s m args below meth c H locs cells slots Q (F0 m (pc) ls (.int x :: .int (nI n) :: .ref (q 1) :: rest)) := y_iast S J 1 0 rfl n rfl hn (by decide) hdg kk
/-- as -/
theorem y_r1 (S : CallFix p m c cc nL s args lw_all RX1) (J : y_J D q cI cZ A σ s H locs) (hdg : decode cc pc = .ok (.getfield 13, 3)) (kk : W p l e R s m args below meth c H locs cells slots Q (F0 m (pc + 3) ls (.ref (q 2) :: rest))) : W p l e R s m args below meth c H locs cells slots Q (F0 m (pc) ls (.ref (q 0) :: rest)) := y_get S J 1 (by decide) q245 rfl rfl hdg kk
theorem y_l1 (S : CallFix p m c cc nL s args lw_all RX1) (J : y_J D q cI cZ A σ s H locs) (n : Nat) (hn : n < 20) {v : Int32} (hv : σ.2 1 n = v) (hdg : decode cc pc = .ok (.iaload, 1)) (kk : W p l e R s m args below meth c H locs cells slots Q (F0 m (pc + 1) ls (.int v :: rest))) : W p l e R s m args below meth c H locs cells slots Q (F0 m (pc) ls (.int (nI n) :: .ref (q 2) :: rest)) := y_iald S J 2 rfl n hn (by decide) hv hdg kk
theorem y_s1 (S : CallFix p m c cc nL s args lw_all RX1) (J : y_J D q cI cZ A σ s H locs) (n : Nat) (hn : n < 20) {x : Int32} (hdg : decode cc pc = .ok (.iastore, 1)) (kk : ∀ (H1 : Heap) (locs1 : List Loc), y_J D q cI cZ A (wdA σ 1 n x) s H1 locs1 → W p l e R s m args below meth c H1 locs1 cells slots Q (F0 m (pc + 1) ls (rest))) : W p l e R s m args below meth c H locs cells slots Q (F0 m (pc) ls (.int x :: .int (nI n) :: .ref (q 2) :: rest)) := y_iast S J 2 1 rfl n rfl hn (by decide) hdg kk
/-- bs -/
theorem y_r2 (S : CallFix p m c cc nL s args lw_all RX1) (J : y_J D q cI cZ A σ s H locs) (hdg : decode cc pc = .ok (.getfield 16, 3)) (kk : W p l e R s m args below meth c H locs cells slots Q (F0 m (pc + 3) ls (.ref (q 3) :: rest))) : W p l e R s m args below meth c H locs cells slots Q (F0 m (pc) ls (.ref (q 0) :: rest)) := y_get S J 2 (by decide) q246 rfl rfl hdg kk
theorem y_l2 (S : CallFix p m c cc nL s args lw_all RX1) (J : y_J D q cI cZ A σ s H locs) (n : Nat) (hn : n < 20) {v : Int32} (hv : σ.2 2 n = v) (hdg : decode cc pc = .ok (.iaload, 1)) (kk : W p l e R s m args below meth c H locs cells slots Q (F0 m (pc + 1) ls (.int v :: rest))) : W p l e R s m args below meth c H locs cells slots Q (F0 m (pc) ls (.int (nI n) :: .ref (q 3) :: rest)) := y_iald S J 3 rfl n hn (by decide) hv hdg kk
theorem y_s2 (S : CallFix p m c cc nL s args lw_all RX1) (J : y_J D q cI cZ A σ s H locs) (n : Nat) (hn : n < 20) {x : Int32} (hdg : decode cc pc = .ok (.iastore, 1)) (kk : ∀ (H1 : Heap) (locs1 : List Loc), y_J D q cI cZ A (wdA σ 2 n x) s H1 locs1 → W p l e R s m args below meth c H1 locs1 cells slots Q (F0 m (pc + 1) ls (rest))) : W p l e R s m args below meth c H locs cells slots Q (F0 m (pc) ls (.int x :: .int (nI n) :: .ref (q 3) :: rest)) := y_iast S J 3 2 rfl n rfl hn (by decide) hdg kk
/-- size -/
theorem y_g3 (S : CallFix p m c cc nL s args lw_all RX1) (J : y_J D q cI cZ A σ s H locs) {v : Int32} (hv : σ.1 3 = v) (hdg : decode cc pc = .ok (.getfield 34, 3)) (kk : W p l e R s m args below meth c H locs cells slots Q (F0 m (pc + 3) ls (.int v :: rest))) : W p l e R s m args below meth c H locs cells slots Q (F0 m (pc) ls (.ref (q 0) :: rest)) := y_get S J 3 (by decide) q247 rfl (congrArg (fun z => some (Value.int z)) hv) hdg kk
theorem y_p3 (S : CallFix p m c cc nL s args lw_all RX1) (J : y_J D q cI cZ A σ s H locs) {v : Int32} (hdg : decode cc pc = .ok (.putfield 34, 3)) (kk : ∀ (H1 : Heap) (locs1 : List Loc), y_J D q cI cZ A (wdS σ 3 v) s H1 locs1 → W p l e R s m args below meth c H1 locs1 cells slots Q (F0 m (pc + 3) ls (rest))) : W p l e R s m args below meth c H locs cells slots Q (F0 m (pc) ls (.int v :: .ref (q 0) :: rest)) := y_put S J 3 (by decide) q247 rfl rfl (ty := .int) (by decide +kernel) rfl rfl rfl hdg kk
/-- skips -/
theorem y_r4 (S : CallFix p m c cc nL s args lw_all RX1) (J : y_J D q cI cZ A σ s H locs) (hdg : decode cc pc = .ok (.getfield 19, 3)) (kk : W p l e R s m args below meth c H locs cells slots Q (F0 m (pc + 3) ls (.ref (q 5) :: rest))) : W p l e R s m args below meth c H locs cells slots Q (F0 m (pc) ls (.ref (q 0) :: rest)) := y_get S J 4 (by decide) q248 rfl rfl hdg kk
theorem y_l4 (S : CallFix p m c cc nL s args lw_all RX1) (J : y_J D q cI cZ A σ s H locs) (n : Nat) (hn : n < 20) {v : Int32} (hv : σ.2 4 n = v) (hdg : decode cc pc = .ok (.iaload, 1)) (kk : W p l e R s m args below meth c H locs cells slots Q (F0 m (pc + 1) ls (.int v :: rest))) : W p l e R s m args below meth c H locs cells slots Q (F0 m (pc) ls (.int (nI n) :: .ref (q 5) :: rest)) := y_iald S J 4 rfl n hn (by decide) hv hdg kk
theorem y_s4 (S : CallFix p m c cc nL s args lw_all RX1) (J : y_J D q cI cZ A σ s H locs) (n : Nat) (hn : n < 20) {x : Int32} (hdg : decode cc pc = .ok (.iastore, 1)) (kk : ∀ (H1 : Heap) (locs1 : List Loc), y_J D q cI cZ A (wdA σ 4 n x) s H1 locs1 → W p l e R s m args below meth c H1 locs1 cells slots Q (F0 m (pc + 1) ls (rest))) : W p l e R s m args below meth c H locs cells slots Q (F0 m (pc) ls (.int x :: .int (nI n) :: .ref (q 5) :: rest)) := y_iast S J 4 4 rfl n rfl hn (by decide) hdg kk
/-- state -/
theorem y_g5 (S : CallFix p m c cc nL s args lw_all RX1) (J : y_J D q cI cZ A σ s H locs) {v : Int32} (hv : σ.1 5 = v) (hdg : decode cc pc = .ok (.getfield 38, 3)) (kk : W p l e R s m args below meth c H locs cells slots Q (F0 m (pc + 3) ls (.int v :: rest))) : W p l e R s m args below meth c H locs cells slots Q (F0 m (pc) ls (.ref (q 0) :: rest)) := y_get S J 5 (by decide) q249 rfl (congrArg (fun z => some (Value.int z)) hv) hdg kk
theorem y_p5 (S : CallFix p m c cc nL s args lw_all RX1) (J : y_J D q cI cZ A σ s H locs) {v : Int32} (hdg : decode cc pc = .ok (.putfield 38, 3)) (kk : ∀ (H1 : Heap) (locs1 : List Loc), y_J D q cI cZ A (wdS σ 5 v) s H1 locs1 → W p l e R s m args below meth c H1 locs1 cells slots Q (F0 m (pc + 3) ls (rest))) : W p l e R s m args below meth c H locs cells slots Q (F0 m (pc) ls (.int v :: .ref (q 0) :: rest)) := y_put S J 5 (by decide) q249 rfl rfl (ty := .int) (by decide +kernel) rfl rfl rfl hdg kk
/-- depth -/
theorem y_g6 (S : CallFix p m c cc nL s args lw_all RX1) (J : y_J D q cI cZ A σ s H locs) {v : Int32} (hv : σ.1 6 = v) (hdg : decode cc pc = .ok (.getfield 45, 3)) (kk : W p l e R s m args below meth c H locs cells slots Q (F0 m (pc + 3) ls (.int v :: rest))) : W p l e R s m args below meth c H locs cells slots Q (F0 m (pc) ls (.ref (q 0) :: rest)) := y_get S J 6 (by decide) q250 rfl (congrArg (fun z => some (Value.int z)) hv) hdg kk
theorem y_p6 (S : CallFix p m c cc nL s args lw_all RX1) (J : y_J D q cI cZ A σ s H locs) {v : Int32} (hdg : decode cc pc = .ok (.putfield 45, 3)) (kk : ∀ (H1 : Heap) (locs1 : List Loc), y_J D q cI cZ A (wdS σ 6 v) s H1 locs1 → W p l e R s m args below meth c H1 locs1 cells slots Q (F0 m (pc + 3) ls (rest))) : W p l e R s m args below meth c H locs cells slots Q (F0 m (pc) ls (.int v :: .ref (q 0) :: rest)) := y_put S J 6 (by decide) q250 rfl rfl (ty := .int) (by decide +kernel) rfl rfl rfl hdg kk
/-- locals -/
theorem y_r7 (S : CallFix p m c cc nL s args lw_all RX1) (J : y_J D q cI cZ A σ s H locs) (hdg : decode cc pc = .ok (.getfield 22, 3)) (kk : W p l e R s m args below meth c H locs cells slots Q (F0 m (pc + 3) ls (.ref (q 8) :: rest))) : W p l e R s m args below meth c H locs cells slots Q (F0 m (pc) ls (.ref (q 0) :: rest)) := y_get S J 7 (by decide) q251 rfl rfl hdg kk
theorem y_l7 (S : CallFix p m c cc nL s args lw_all RX1) (J : y_J D q cI cZ A σ s H locs) (n : Nat) (hn : n < 24) {v : Int32} (hv : σ.2 7 n = v) (hdg : decode cc pc = .ok (.iaload, 1)) (kk : W p l e R s m args below meth c H locs cells slots Q (F0 m (pc + 1) ls (.int v :: rest))) : W p l e R s m args below meth c H locs cells slots Q (F0 m (pc) ls (.int (nI n) :: .ref (q 8) :: rest)) := y_iald S J 5 rfl n hn (by decide) hv hdg kk
theorem y_s7 (S : CallFix p m c cc nL s args lw_all RX1) (J : y_J D q cI cZ A σ s H locs) (n : Nat) (hn : n < 24) {x : Int32} (hdg : decode cc pc = .ok (.iastore, 1)) (kk : ∀ (H1 : Heap) (locs1 : List Loc), y_J D q cI cZ A (wdA σ 7 n x) s H1 locs1 → W p l e R s m args below meth c H1 locs1 cells slots Q (F0 m (pc + 1) ls (rest))) : W p l e R s m args below meth c H locs cells slots Q (F0 m (pc) ls (.int x :: .int (nI n) :: .ref (q 8) :: rest)) := y_iast S J 5 7 rfl n rfl hn (by decide) hdg kk
/-- goesOn -/
theorem y_r8 (S : CallFix p m c cc nL s args lw_all RX1) (J : y_J D q cI cZ A σ s H locs) (hdg : decode cc pc = .ok (.getfield 25, 3)) (kk : W p l e R s m args below meth c H locs cells slots Q (F0 m (pc + 3) ls (.ref (q 9) :: rest))) : W p l e R s m args below meth c H locs cells slots Q (F0 m (pc) ls (.ref (q 0) :: rest)) := y_get S J 8 (by decide) q252 rfl rfl hdg kk
theorem y_l8 (S : CallFix p m c cc nL s args lw_all RX1) (J : y_J D q cI cZ A σ s H locs) (n : Nat) (hn : n < 6) {v : Int32} (hv : σ.2 8 n = v) (hdg : decode cc pc = .ok (.iaload, 1)) (kk : W p l e R s m args below meth c H locs cells slots Q (F0 m (pc + 1) ls (.int v :: rest))) : W p l e R s m args below meth c H locs cells slots Q (F0 m (pc) ls (.int (nI n) :: .ref (q 9) :: rest)) := y_iald S J 6 rfl n hn (by decide) hv hdg kk
theorem y_s8 (S : CallFix p m c cc nL s args lw_all RX1) (J : y_J D q cI cZ A σ s H locs) (n : Nat) (hn : n < 6) {x : Int32} (hdg : decode cc pc = .ok (.iastore, 1)) (kk : ∀ (H1 : Heap) (locs1 : List Loc), y_J D q cI cZ A (wdA σ 8 n x) s H1 locs1 → W p l e R s m args below meth c H1 locs1 cells slots Q (F0 m (pc + 1) ls (rest))) : W p l e R s m args below meth c H locs cells slots Q (F0 m (pc) ls (.int x :: .int (nI n) :: .ref (q 9) :: rest)) := y_iast S J 6 8 rfl n rfl hn (by decide) hdg kk
/-- gets -/
theorem y_r9 (S : CallFix p m c cc nL s args lw_all RX1) (J : y_J D q cI cZ A σ s H locs) (hdg : decode cc pc = .ok (.getfield 28, 3)) (kk : W p l e R s m args below meth c H locs cells slots Q (F0 m (pc + 3) ls (.ref (q 10) :: rest))) : W p l e R s m args below meth c H locs cells slots Q (F0 m (pc) ls (.ref (q 0) :: rest)) := y_get S J 9 (by decide) q253 rfl rfl hdg kk
theorem y_l9 (S : CallFix p m c cc nL s args lw_all RX1) (J : y_J D q cI cZ A σ s H locs) (n : Nat) (hn : n < 6) {v : Int32} (hv : σ.2 9 n = v) (hdg : decode cc pc = .ok (.iaload, 1)) (kk : W p l e R s m args below meth c H locs cells slots Q (F0 m (pc + 1) ls (.int v :: rest))) : W p l e R s m args below meth c H locs cells slots Q (F0 m (pc) ls (.int (nI n) :: .ref (q 10) :: rest)) := y_iald S J 7 rfl n hn (by decide) hv hdg kk
theorem y_s9 (S : CallFix p m c cc nL s args lw_all RX1) (J : y_J D q cI cZ A σ s H locs) (n : Nat) (hn : n < 6) {x : Int32} (hdg : decode cc pc = .ok (.iastore, 1)) (kk : ∀ (H1 : Heap) (locs1 : List Loc), y_J D q cI cZ A (wdA σ 9 n x) s H1 locs1 → W p l e R s m args below meth c H1 locs1 cells slots Q (F0 m (pc + 1) ls (rest))) : W p l e R s m args below meth c H locs cells slots Q (F0 m (pc) ls (.int x :: .int (nI n) :: .ref (q 10) :: rest)) := y_iast S J 7 9 rfl n rfl hn (by decide) hdg kk
/-- counter -/
theorem y_g10 (S : CallFix p m c cc nL s args lw_all RX1) (J : y_J D q cI cZ A σ s H locs) {v : Int32} (hv : σ.1 10 = v) (hdg : decode cc pc = .ok (.getfield 48, 3)) (kk : W p l e R s m args below meth c H locs cells slots Q (F0 m (pc + 3) ls (.int v :: rest))) : W p l e R s m args below meth c H locs cells slots Q (F0 m (pc) ls (.ref (q 0) :: rest)) := y_get S J 10 (by decide) q254 rfl (congrArg (fun z => some (Value.int z)) hv) hdg kk
theorem y_p10 (S : CallFix p m c cc nL s args lw_all RX1) (J : y_J D q cI cZ A σ s H locs) {v : Int32} (hdg : decode cc pc = .ok (.putfield 48, 3)) (kk : ∀ (H1 : Heap) (locs1 : List Loc), y_J D q cI cZ A (wdS σ 10 v) s H1 locs1 → W p l e R s m args below meth c H1 locs1 cells slots Q (F0 m (pc + 3) ls (rest))) : W p l e R s m args below meth c H locs cells slots Q (F0 m (pc) ls (.int v :: .ref (q 0) :: rest)) := y_put S J 10 (by decide) q254 rfl rfl (ty := .int) (by decide +kernel) rfl rfl rfl hdg kk
/-- outputs -/
theorem y_g11 (S : CallFix p m c cc nL s args lw_all RX1) (J : y_J D q cI cZ A σ s H locs) {v : Int32} (hv : σ.1 11 = v) (hdg : decode cc pc = .ok (.getfield 51, 3)) (kk : W p l e R s m args below meth c H locs cells slots Q (F0 m (pc + 3) ls (.int v :: rest))) : W p l e R s m args below meth c H locs cells slots Q (F0 m (pc) ls (.ref (q 0) :: rest)) := y_get S J 11 (by decide) q255 rfl (congrArg (fun z => some (Value.int z)) hv) hdg kk
theorem y_p11 (S : CallFix p m c cc nL s args lw_all RX1) (J : y_J D q cI cZ A σ s H locs) {v : Int32} (hdg : decode cc pc = .ok (.putfield 51, 3)) (kk : ∀ (H1 : Heap) (locs1 : List Loc), y_J D q cI cZ A (wdS σ 11 v) s H1 locs1 → W p l e R s m args below meth c H1 locs1 cells slots Q (F0 m (pc + 3) ls (rest))) : W p l e R s m args below meth c H locs cells slots Q (F0 m (pc) ls (.int v :: .ref (q 0) :: rest)) := y_put S J 11 (by decide) q255 rfl rfl (ty := .int) (by decide +kernel) rfl rfl rfl hdg kk
/-- last -/
theorem y_r12 (S : CallFix p m c cc nL s args lw_all RX1) (J : y_J D q cI cZ A σ s H locs) (hdg : decode cc pc = .ok (.getfield 31, 3)) (kk : W p l e R s m args below meth c H locs cells slots Q (F0 m (pc + 3) ls (.ref (q 13) :: rest))) : W p l e R s m args below meth c H locs cells slots Q (F0 m (pc) ls (.ref (q 0) :: rest)) := y_get S J 12 (by decide) q256 rfl rfl hdg kk
theorem y_l12 (S : CallFix p m c cc nL s args lw_all RX1) (J : y_J D q cI cZ A σ s H locs) (n : Nat) (hn : n < 8) {v : Int32} (hv : σ.2 12 n = v) (hdg : decode cc pc = .ok (.iaload, 1)) (kk : W p l e R s m args below meth c H locs cells slots Q (F0 m (pc + 1) ls (.int v :: rest))) : W p l e R s m args below meth c H locs cells slots Q (F0 m (pc) ls (.int (nI n) :: .ref (q 13) :: rest)) := y_iald S J 8 rfl n hn (by decide) hv hdg kk
theorem y_s12 (S : CallFix p m c cc nL s args lw_all RX1) (J : y_J D q cI cZ A σ s H locs) (n : Nat) (hn : n < 8) {x : Int32} (hdg : decode cc pc = .ok (.iastore, 1)) (kk : ∀ (H1 : Heap) (locs1 : List Loc), y_J D q cI cZ A (wdA σ 12 n x) s H1 locs1 → W p l e R s m args below meth c H1 locs1 cells slots Q (F0 m (pc + 1) ls (rest))) : W p l e R s m args below meth c H locs cells slots Q (F0 m (pc) ls (.int x :: .int (nI n) :: .ref (q 13) :: rest)) := y_iast S J 8 12 rfl n rfl hn (by decide) hdg kk
theorem y_vret {sz : Nat} (S : CallFix p m c cc nL s args lw_all RX1) (hr : meth.sig.returnType = none) (hlk : meth.locks = false) (J : y_J D q cI cZ (y_A q sz) σ s H locs) {post : wdSt → Prop} (hp : post σ) (hdg : decode cc pc = .ok (.return_, 1)) : W p l e R s m args below meth c H locs 0 0 (MQ below (va_Qv post (y_B D q cI cZ) (y_A q sz)) args s 0 0 (y_A q sz)) (F0 m pc ls []) :=
  W.vret S.1 S.2.1 hr (fun t ht hW => ⟨⟨σ, rfl, hp, by rw [ht]; exact J.2.2.1, va_K.moved hW.alike J.1⟩, J.2.2.2.2.F ht⟩) J.2.2.2.2.2.2 hdg hlk
theorem y_iret {sz : Nat} (S : CallFix p m c cc nL s args lw_all RX1) (hr : meth.sig.returnType = some .int) (hlk : meth.locks = false) (J : y_J D q cI cZ (y_A q sz) σ s H locs) {post : Int32 → wdSt → Prop} {v : Int32} (hp : post v σ) (hdg : decode cc pc = .ok (.ireturn, 1)) : W p l e R s m args below meth c H locs 0 0 (MQ below (va_Qi post (y_B D q cI cZ) (y_A q sz)) args s 0 0 (y_A q sz)) (F0 m pc ls [.int v]) :=
  W.iret S.1 S.2.1 hr (fun t ht hW => ⟨⟨v, σ, rfl, hp, by rw [ht]; exact J.2.2.1, va_K.moved hW.alike J.1⟩, J.2.2.2.2.F ht⟩) J.2.2.2.2.2.2 hdg hlk
theorem y_zret {sz : Nat} (S : CallFix p m c cc nL s args lw_all RX1) (hr : meth.sig.returnType = some .boolean) (hlk : meth.locks = false) (J : y_J D q cI cZ (y_A q sz) σ s H locs) {post : Int32 → wdSt → Prop} {v : Int32} (hn : narrow .boolean (.int v) = .int v) (hp : post v σ) (hdg : decode cc pc = .ok (.ireturn, 1)) : W p l e R s m args below meth c H locs 0 0 (MQ below (va_Qi post (y_B D q cI cZ) (y_A q sz)) args s 0 0 (y_A q sz)) (F0 m pc ls [.int v]) :=
  W.zret S.1 S.2.1 hr hn (fun t ht hW => ⟨⟨v, σ, rfl, hp, by rw [ht]; exact J.2.2.1, va_K.moved hW.alike J.1⟩, J.2.2.2.2.F ht⟩) J.2.2.2.2.2.2 hdg hlk
theorem y_preV (J : y_J D q cI cZ A σ s H locs) (As : List Value) : PreV s H RX1 (q 0) (y_Pc D q cI cZ H.size σ As) As := by
  refine ⟨fun a U g mk z => ?_, va_recv J.1 J.2.2.1 (ci := 1) (q0 := 0) rfl rfl, fun U hU hW => ⟨rfl, by rw [hU], by rw [hU]; exact J.2.2.1, va_K.moved hW.alike J.1, J.2.2.2.1.weaken (fun _ _ _ _ => trivial)⟩⟩
  obtain ⟨z0, z1, zP, zK, zD⟩ := z
  exact ⟨z0, z1, zP, va_K.moved (u := U) (U := U.calling g mk a) (Vm.Alike.refl U.vm) zK, zD⟩
theorem y_sub (J : y_J D q cI cZ A σ s H locs) : ∀ a : Nat, y_A q H.size a → A a := by
  intro a h
  rcases h with h | h
  · exact y_Dm J.2.2.2.1 h
  · exact J.2.1 a (Nat.le_trans J.2.2.2.2.1 h)
theorem y_ci {own : String} {idx : Nat} {y : MethodName} {bytes : ByteArray} {maxL : Nat} {ret : Option FieldType} {ws : List Cond} {rm : Room} {post : Int32 → wdSt → Prop} {As st0 : List Value} (S : CallFix p m c cc nL s args lw_all own) (J : y_J D q cI cZ A σ s H locs) (hM : Met l y ws rm (y_Pc D q cI cZ H.size σ As) (va_Qi post (y_B D q cI cZ) (y_A q H.size)) 0 0 (y_A q H.size)) {na : Nat} (cw : CallW R s args own RX1 idx y bytes maxL ret ws rm 0 0 na) (hna : As.length = na) (hsz : ls.size = nL) (hst : st0 = As.reverse ++ .ref (q 0) :: rest) (hW : (rest.map fun v => v.category).sum ≤ 8) (hdg : decode cc pc = .ok (.invokevirtual idx, 3)) (hcs : cells ≤ R.cells ∧ slots ≤ R.slots)
    (kk : ∀ (r : Int32) (σ1 : wdSt) (H1 : Heap) (locs1 : List Loc), post r σ1 → y_J D q cI cZ A σ1 s H1 locs1 → W p l e R s m args below meth c H1 locs1 cells slots Q (F0 m (pc + 3) ls (.int r :: rest))) : W p l e R s m args below meth c H locs cells slots Q (F0 m (pc) ls (st0)) :=
  va_calli (va_runV (As := As) (rest := rest) S hM cw (y_preV J As) rfl hna hsz hst (lv_room hW) hdg hcs) J.2.2.2.2 (fun a _ h => y_sub J a h) (y_sub J) (fun r u t H1 locs1 ht hvm hw hB hz hk hS => kk r u H1 locs1 hw ⟨J.1, J.2.1, by rw [← ht]; exact hB.1, y_Dc _ J.2.2.2.1, hS⟩)
theorem y_cv {own : String} {idx : Nat} {y : MethodName} {bytes : ByteArray} {maxL : Nat} {ret : Option FieldType} {ws : List Cond} {rm : Room} {post : wdSt → Prop} {As st0 : List Value} (S : CallFix p m c cc nL s args lw_all own) (J : y_J D q cI cZ A σ s H locs) (hM : Met l y ws rm (y_Pc D q cI cZ H.size σ As) (va_Qv post (y_B D q cI cZ) (y_A q H.size)) 0 0 (y_A q H.size)) {na : Nat} (cw : CallW R s args own RX1 idx y bytes maxL ret ws rm 0 0 na) (hna : As.length = na) (hsz : ls.size = nL) (hst : st0 = As.reverse ++ .ref (q 0) :: rest) (hW : (rest.map fun v => v.category).sum ≤ 8) (hdg : decode cc pc = .ok (.invokevirtual idx, 3)) (hcs : cells ≤ R.cells ∧ slots ≤ R.slots)
    (kk : ∀ (σ1 : wdSt) (H1 : Heap) (locs1 : List Loc), post σ1 → y_J D q cI cZ A σ1 s H1 locs1 → W p l e R s m args below meth c H1 locs1 cells slots Q (F0 m (pc + 3) ls (rest))) : W p l e R s m args below meth c H locs cells slots Q (F0 m (pc) ls (st0)) :=
  va_callv (va_runV (As := As) (rest := rest) S hM cw (y_preV J As) rfl hna hsz hst (lv_room hW) hdg hcs) J.2.2.2.2 (fun a _ h => y_sub J a h) (y_sub J) (fun u t H1 locs1 ht hvm hw hB hz hk hS => kk u H1 locs1 hw ⟨J.1, J.2.1, by rw [← ht]; exact hB.1, y_Dc _ J.2.2.2.1, hS⟩)
end YB
def x_PcS (D : va_G) (q : Nat → Nat) (cI cZ : ClassId) (sz : Nat) (σ : wdSt) (As : List Value) : Array Value → State → Prop := va_Pc As (fun U => U.heap.size = sz ∧ va_P D vwCl (x_w q cI cZ σ) U.heap ∧ va_K D vwCl (wdTy cI cZ) U ∧ va_D (fun _ => True) (x_w q cI cZ σ))
theorem x_openS {l : Launch} {y : MethodName} {cc : ByteArray} {nL f n : Nat} {ret : Option FieldType} {D : va_G} {q : Nat → Nat} {cI cZ : ClassId} {sz : Nat} {σ : wdSt} {As : List Value} {Qc : Array Value → State → Outcome → State → Prop} (hy : plainName y.cls = true) (hyc : y.cls = RX0) (hlen : (lg_sl As).length ≤ nL)
    (body : ∀ (p : Program) (e : Env) (s : State) (m : MethodId) (below : List Frame) (meth : Method) (c : Code), CallFix p m c cc nL s As.toArray lw_all RX0 → meth.sig.returnType = ret → meth.locks = false → x_J D q cI cZ (x_A q sz) σ s s.heap [] → ∀ ls : Array Slot, lv_has ls nL (lv_args 0 As) → W p l e (wdRm f n) s m As.toArray below meth c s.heap [] 0 0 (MQ below Qc As.toArray s 0 0 (x_A q sz)) (F0 m 0 ls [])) : Met l y (ws_ y cc nL ret) (wdRm f n) (x_PcS D q cI cZ sz σ As) Qc 0 0 (x_A q sz) := by
  refine Met.ofW (cc := cc) (maxL := nL) (ret := ret) hy rfl ?_
  intro p e s m args below meth c s₁ B hml hv
  obtain ⟨rfl, hsz, hP, hK, hD0⟩ := hv
  have hts := atoms_spec (ws := ws_ y cc nL ret) B.pre
  have hts : ∀ w ∈ lw_all, w.before _ s = true := fun w h => hts w (List.mem_cons_of_mem _ h)
  have hown : s.vm.findClass y.cls = some m.cls := findClass_of_methodNamed B.named
  rw [hyc] at hown
  have hl := lv_entry As (n := nL) hlen
  rw [lg_entry_eq]
  refine body p e s m below meth c ⟨B.exec, B.bytes, hml, hown, hts⟩ B.returns B.notSynchronized ⟨hK, fun a h => Or.inr (by rw [← hsz]; exact h), hP, ?_, va_S.rf⟩ _ hl
  exact ⟨hD0.1, fun k x hx => Or.inl (show x.1 ∈ List.map (fun q => q.1) (x_w q cI cZ σ) from List.mem_map.mpr ⟨x, List.mem_of_getElem? hx, rfl⟩)⟩
section XS
variable {p : Program} {l : Launch} {e : Env} {R : Room} {s : State} {m : MethodId} {args : Array Value} {below : List Frame} {meth : Method} {c : Code} {H : Heap} {locs : List Loc} {cells slots : Nat} {Q : State → Prop}
variable {cc : ByteArray} {pc nL : Nat} {ls : Array Slot} {rest : List Value} {D : va_G} {q : Nat → Nat} {cI cZ : ClassId} {A : Nat → Prop} {σ : wdSt}
theorem x_csi {own : String} {idx : Nat} {y : MethodName} {bytes : ByteArray} {maxL : Nat} {ret : Option FieldType} {ws : List Cond} {rm : Room} {post : Int32 → wdSt → Prop} {As st0 : List Value} (S : CallFix p m c cc nL s args lw_all own) (J : x_J D q cI cZ A σ s H locs) (hM : Met l y ws rm (x_PcS D q cI cZ H.size σ As) (va_Qi post (x_B D q cI cZ) (x_A q H.size)) 0 0 (x_A q H.size)) {na : Nat} (cw : CallB R s args own idx y bytes maxL ret ws rm 0 0 na ∧ (Cond.static y).before args s = true) (hna : As.length = na) (hsz : ls.size = nL) (hst : st0 = As.reverse ++ rest) (hW : (rest.map fun v => v.category).sum ≤ 8) (hdg : decode cc pc = .ok (.invokestatic idx, 3)) (hcs : cells ≤ R.cells ∧ slots ≤ R.slots)
    (kk : ∀ (r : Int32) (σ1 : wdSt) (H1 : Heap) (locs1 : List Loc), post r σ1 → x_J D q cI cZ A σ1 s H1 locs1 → W p l e R s m args below meth c H1 locs1 cells slots Q (F0 m (pc + 3) ls (.int r :: rest))) : W p l e R s m args below meth c H locs cells slots Q (F0 m (pc) ls (st0)) := by
  have hpre : PreS s H (x_PcS D q cI cZ H.size σ As) As := by
    refine ⟨fun a U g mk z => ?_, fun U hU hW => ⟨rfl, by rw [hU], by rw [hU]; exact J.2.2.1, va_K.moved hW.alike J.1, J.2.2.2.1.weaken (fun _ _ _ _ => trivial)⟩⟩
    obtain ⟨z0, z1, zP, zK, zD⟩ := z
    exact ⟨z0, z1, zP, va_K.moved (u := U) (U := U.calling g mk a) (Vm.Alike.refl U.vm) zK, zD⟩
  exact va_calli (va_runS (As := As) (rest := rest) S hM cw hpre rfl hna hsz hst (lv_room hW) hdg hcs) J.2.2.2.2 (fun a _ h => x_sub J a h) (x_sub J) (fun r u t H1 locs1 ht hvm hw hB hz hk hS => kk r u H1 locs1 hw ⟨J.1, J.2.1, by rw [← ht]; exact hB.1, x_Dc _ J.2.2.2.1, hS⟩)
end XS
end
section
/-! plain words and laws for the leaves -/
/-- the answer r of noInstruction(p) in a program of L instructions -/
def wdNI (L : Nat) (p r : Int32) : Prop := (r = 0 ∧ ∃ j, j < L ∧ p = nI j) ∨ (r = 1 ∧ ∀ j, j < L → p ≠ nI j)
theorem wdNI_a {L : Nat} {p : Int32} (hL : L ≤ 20) (h : p < 0) : wdNI L p 1 := by
  refine Or.inr ⟨rfl, fun j hj e => ?_⟩
  rw [e] at h
  exact nI_pos (by omega) h
theorem wdNI_b {L : Nat} {p : Int32} (hL : L ≤ 20) (h : ¬ p < 0) (h2 : p < nI L) : wdNI L p 0 := by
  obtain ⟨j, hj, rfl⟩ := nI_of h
  exact Or.inl ⟨rfl, j, (nI_ltI hj (by omega)).mp h2, rfl⟩
theorem wdNI_c {L : Nat} {p : Int32} (hL : L ≤ 20) (h2 : ¬ p < nI L) : wdNI L p 1 := by
  refine Or.inr ⟨rfl, fun j hj e => ?_⟩
  rw [e] at h2
  exact h2 (nI_lt hj (by omega))
theorem wdNI_0 {L : Nat} {p : Int32} (h : wdNI L p 0) : ∃ j, j < L ∧ p = nI j := by
  rcases h with h | h
  · exact h.2
  · exact absurd h.1 (by decide)
theorem wdNI_1 {L : Nat} {p r : Int32} (h : wdNI L p r) (hr : ¬ r = 0) : r = 1 ∧ ∀ j, j < L → p ≠ nI j := by
  rcases h with h | h
  · exact absurd h.1 hr
  · exact h
theorem wdNI_z {L : Nat} {p r : Int32} (h : wdNI L p r) (hr : r = 0) : ∃ j, j < L ∧ p = nI j := wdNI_0 (hr ▸ h)
theorem wd_pred {d : Nat} (h : 1 ≤ d) : nI d - 1 = nI (d - 1) := pk_sub (a := d) (b := 1) h
theorem wd_mul4 (a : Nat) : nI a * 4 = nI (a * 4) := pk_mul a 4
theorem wd_add (a b : Nat) : nI a + nI b = nI (a + b) := nI_add a b
theorem wd_addL (a : Nat) {x : Int32} (b : Nat) (h : x = nI b) : nI a + x = nI (a + b) := by rw [h]; exact nI_add a b
theorem wd_and3 (x : Int32) : x &&& 3 = nI (x.toBitVec.toNat % 4) := pk_and x 2 (by decide)
theorem wd_and7 (x : Int32) : x &&& 7 = nI (x.toBitVec.toNat % 8) := pk_and x 3 (by decide)
theorem wd_lt (d k : Nat) (x : Int32) (hd : d < 2 ^ 31) (hk : k < 2 ^ 31) (hx : nI k = x) : nI d < x ↔ d < k := by rw [← hx]; exact nI_ltI hd hk
theorem wd_le (d k : Nat) (x : Int32) (hd : d < 2 ^ 31) (hk : k < 2 ^ 31) (hx : nI k = x) : nI d ≤ x ↔ d ≤ k := by rw [← hx]; exact nI_leI hd hk
theorem wd_gt (d k : Nat) (x : Int32) (hd : d < 2 ^ 31) (hk : k < 2 ^ 31) (hx : nI k = x) : x < nI d ↔ k < d := by rw [← hx]; exact nI_ltI hk hd
theorem wd_ge (d k : Nat) (x : Int32) (hd : d < 2 ^ 31) (hk : k < 2 ^ 31) (hx : nI k = x) : x ≤ nI d ↔ k ≤ d := by rw [← hx]; exact nI_leI hk hd
theorem wd_eq (d k : Nat) (x : Int32) (hd : d < 2 ^ 31) (hk : k < 2 ^ 31) (hx : nI k = x) : nI d = x ↔ d = k := by rw [← hx]; exact nI_eq hd hk
/-- the low two bits, the low three -/
def wd3 (x : Int32) : Nat := x.toBitVec.toNat % 4
def wd7 (x : Int32) : Nat := x.toBitVec.toNat % 8
theorem wd3_lt (x : Int32) : wd3 x < 4 := Nat.mod_lt _ (by decide)
theorem wd7_lt (x : Int32) : wd7 x < 8 := Nat.mod_lt _ (by decide)
theorem wd3_e (x : Int32) : x &&& 3 = nI (wd3 x) := wd_and3 x
theorem wd7_e (x : Int32) : x &&& 7 = nI (wd7 x) := wd_and7 x
/-- the states in which nothing runs -/
def wdNR (z : Int32) : Prop := z = 0 ∨ z = 5 ∨ z = 6
def wdNRp (z r : Int32) : Prop := (r = 1 ∧ wdNR z) ∨ (r = 0 ∧ ¬ wdNR z)
/-- max, clamped -/
def wdCl (x : Int32) : Int32 := if 1 ≤ x then (if x ≤ 300 then x else 300) else 1
theorem wdCl_n (x : Int32) : ∃ n : Nat, 1 ≤ n ∧ n ≤ 300 ∧ wdCl x = nI n := by
  unfold wdCl
  split
  · split
    · rename_i h1 h2
      have e1 : (1 : Int32).toInt = 1 := by decide
      have e2 : (300 : Int32).toInt = 300 := by decide
      have a1 := Int32.le_iff_toInt_le.mp h1
      have a2 := Int32.le_iff_toInt_le.mp h2
      have e0 : (0 : Int32).toInt = 0 := by decide
      have h0 : ¬ x < 0 := by
        rw [Int32.lt_iff_toInt_lt]
        omega
      obtain ⟨j, hj, rfl⟩ := nI_of2 (M := 300) (n := 300) (by decide) h0 h2
      rw [nI_toInt (by omega)] at a1
      exact ⟨j, by omega, hj, rfl⟩
    · exact ⟨300, by decide, by decide, rfl⟩
  · exact ⟨1, by decide, by decide, rfl⟩
/-- what compute(o, x, y, b) puts -/
def wdCo (o : Nat) (b u v : Int32) : Int32 := match o with
  | 0 => b
  | 1 => v
  | 2 => u + v
  | 3 => u - v
  | _ => u * v
/-- jump(j) at place a -/
def wdJump (a j : Nat) (σ : wdSt) : wdSt := if σ.2 11 a < 0 then wdS (wdS (wdS σ 16 1) 17 (σ.2 3 j)) 14 6 else wdS σ 15 (σ.2 11 a)
/-- arrive() at place a of instruction g -/
def wdArr (a g : Nat) (σ : wdSt) : wdSt :=
  if σ.2 9 a = 12 then wdS (wdS (wdS σ 16 1) 17 (σ.1 0)) 14 6
  else if σ.2 9 a = 11 then
    (if ¬ σ.2 7 g = 0 ∧ ¬ σ.1 8 < σ.1 18 then wdS σ 14 2
     else if ¬ σ.2 5 g = 0 ∧ σ.2 6 g = 0 then wdS σ 14 3
     else if ¬ σ.2 5 g = 0 then wdS (wdA σ 6 g (σ.2 6 g - 1)) 15 (nI (a + 1)) else wdS σ 15 (nI (a + 1)))
  else σ
/-- the first part of call: the frame is set up -/
def wdCall0 (a j x d : Nat) (σ : wdSt) : wdSt :=
  wdA (wdA (wdA (wdA (wdA (wdS (wdA (wdA σ 20 d (nI (a + 1))) 21 d (nI (wd3 (σ.2 2 j)))) 18 (nI (d + 1))) 19 (d * 4 + 0) 0) 19 (d * 4 + 1) 0) 19 (d * 4 + 2) 0) 19 (d * 4 + 3) 0) 19 (d * 4) (σ.2 19 x)
def wdCall (a j x d : Nat) (σ : wdSt) : wdSt := if 6 ≤ d then wdS σ 14 6 else wdJump a j (wdCall0 a j x d σ)
/-- giveBack with d frames; t: the local that takes -/
def wdGive (d t : Nat) (σ : wdSt) : wdSt := if d = 1 then wdS σ 14 5 else wdS (wdA (wdS σ 18 (nI (d - 1))) 19 ((d - 1 - 1) * 4 + t) (σ.2 19 ((d - 1) * 4))) 15 (σ.2 20 (d - 1))
theorem upd_s (f : Nat → Int32) (k : Nat) (x : Int32) : upd f k x k = x := if_pos rfl
theorem upd_n (f : Nat → Int32) {k j : Nat} (x : Int32) (h : ¬ j = k) : upd f k x j = f j := if_neg h
end
section
/-! contracts of the leaves of WovenDebugger: written by gen/gen_leaf.py -/
theorem xk_noInstruction {R : Room} {s : State} {args : Array Value} (hts : ∀ w ∈ lw_all, w.before args s = true) (hR : 0 + 1 ≤ R.frames ∧ 8 + (2 + 11) + 0 ≤ R.locals) : CallW R s args RX0 RX0 63 yX0_noInstruction cX0_noInstruction 2 (some .boolean) (ws_ yX0_noInstruction cX0_noInstruction 2 (some .boolean)) (wdRm 0 0) 0 0 1 := cwV 1 hts (lw_V q115 q117 qs0 q22 q118) rfl rfl rfl (by decide +kernel) hR
theorem xk_weave {R : Room} {s : State} {args : Array Value} (hts : ∀ w ∈ lw_all, w.before args s = true) (hR : 1 + 1 ≤ R.frames ∧ 8 + (4 + 11) + 21 ≤ R.locals) : CallW R s args RX0 RX0 67 yX0_weave cX0_weave 4 none (ws_ yX0_weave cX0_weave 4 none) (wdRm 1 21) 0 0 0 := cwV 0 hts (lw_V q119 q121 qs1 q22 q122) rfl rfl rfl (by decide +kernel) hR
theorem xk_reweave {R : Room} {s : State} {args : Array Value} (hts : ∀ w ∈ lw_all, w.before args s = true) (hR : 2 + 1 ≤ R.frames ∧ 8 + (2 + 11) + 44 ≤ R.locals) : CallW R s args RX0 RX0 86 yX0_reweave cX0_reweave 2 none (ws_ yX0_reweave cX0_reweave 2 none) (wdRm 2 44) 0 0 0 := cwV 0 hts (lw_V q127 q129 qs2 q22 q130) rfl rfl rfl (by decide +kernel) hR
theorem xk_notRunning {R : Room} {s : State} {args : Array Value} (hts : ∀ w ∈ lw_all, w.before args s = true) (hR : 0 + 1 ≤ R.frames ∧ 8 + (1 + 11) + 0 ≤ R.locals) : CallW R s args RX0 RX0 130 yX0_notRunning cX0_notRunning 1 (some .boolean) (ws_ yX0_notRunning cX0_notRunning 1 (some .boolean)) (wdRm 0 0) 0 0 0 := cwV 0 hts (lw_V q139 q141 qs3 q22 q142) rfl rfl rfl (by decide +kernel) hR
theorem xk_clampMax {R : Room} {s : State} {args : Array Value} (hts : ∀ w ∈ lw_all, w.before args s = true) (hR : 0 + 1 ≤ R.frames ∧ 8 + (1 + 11) + 0 ≤ R.locals) : CallB R s args RX0 134 yX0_clampMax cX0_clampMax 1 (some .int) (ws_ yX0_clampMax cX0_clampMax 1 (some .int)) (wdRm 0 0) 0 0 1 ∧ (Cond.static yX0_clampMax).before args s = true := va_cwS 1 hts (lw_S q143 q144 q22 q145) rfl rfl rfl (by decide +kernel) hR
theorem xk_run {R : Room} {s : State} {args : Array Value} (hts : ∀ w ∈ lw_all, w.before args s = true) (hR : 3 + 1 ≤ R.frames ∧ 8 + (3 + 11) + 70 ≤ R.locals) : CallW R s args RX0 RX0 123 yX0_run cX0_run 3 (some .int) (ws_ yX0_run cX0_run 3 (some .int)) (wdRm 3 70) 0 0 1 := cwV 1 hts (lw_V q146 q148 qs4 q22 q149) rfl rfl rfl (by decide +kernel) hR
theorem xk_perform {R : Room} {s : State} {args : Array Value} (hts : ∀ w ∈ lw_all, w.before args s = true) (hR : 2 + 1 ≤ R.frames ∧ 8 + (6 + 11) + 45 ≤ R.locals) : CallW R s args RX0 RX0 111 yX0_perform cX0_perform 6 none (ws_ yX0_perform cX0_perform 6 none) (wdRm 2 45) 0 0 0 := cwV 0 hts (lw_V q150 q152 qs5 q22 q153) rfl rfl rfl (by decide +kernel) hR
theorem xk_base {R : Room} {s : State} {args : Array Value} (hts : ∀ w ∈ lw_all, w.before args s = true) (hR : 0 + 1 ≤ R.frames ∧ 8 + (1 + 11) + 0 ≤ R.locals) : CallW R s args RX0 RX0 89 yX0_base cX0_base 1 (some .int) (ws_ yX0_base cX0_base 1 (some .int)) (wdRm 0 0) 0 0 0 := cwV 0 hts (lw_V q154 q156 qs6 q22 q157) rfl rfl rfl (by decide +kernel) hR
theorem xk_compute {R : Room} {s : State} {args : Array Value} (hts : ∀ w ∈ lw_all, w.before args s = true) (hR : 0 + 1 ≤ R.frames ∧ 8 + (5 + 11) + 0 ≤ R.locals) : CallW R s args RX0 RX0 93 yX0_compute cX0_compute 5 none (ws_ yX0_compute cX0_compute 5 none) (wdRm 0 0) 0 0 4 := cwV 4 hts (lw_V q158 q160 qs7 q22 q161) rfl rfl rfl (by decide +kernel) hR
theorem xk_jump {R : Room} {s : State} {args : Array Value} (hts : ∀ w ∈ lw_all, w.before args s = true) (hR : 0 + 1 ≤ R.frames ∧ 8 + (2 + 11) + 0 ≤ R.locals) : CallW R s args RX0 RX0 97 yX0_jump cX0_jump 2 none (ws_ yX0_jump cX0_jump 2 none) (wdRm 0 0) 0 0 1 := cwV 1 hts (lw_V q162 q164 qs8 q22 q165) rfl rfl rfl (by decide +kernel) hR
theorem xk_call {R : Room} {s : State} {args : Array Value} (hts : ∀ w ∈ lw_all, w.before args s = true) (hR : 1 + 1 ≤ R.frames ∧ 8 + (5 + 11) + 21 ≤ R.locals) : CallW R s args RX0 RX0 101 yX0_call cX0_call 5 none (ws_ yX0_call cX0_call 5 none) (wdRm 1 21) 0 0 2 := cwV 2 hts (lw_V q166 q168 qs9 q22 q169) rfl rfl rfl (by decide +kernel) hR
theorem xk_giveBack {R : Room} {s : State} {args : Array Value} (hts : ∀ w ∈ lw_all, w.before args s = true) (hR : 1 + 1 ≤ R.frames ∧ 8 + (2 + 11) + 20 ≤ R.locals) : CallW R s args RX0 RX0 105 yX0_giveBack cX0_giveBack 2 none (ws_ yX0_giveBack cX0_giveBack 2 none) (wdRm 1 20) 0 0 0 := cwV 0 hts (lw_V q170 q172 qs10 q22 q173) rfl rfl rfl (by decide +kernel) hR
theorem xk_arrive {R : Room} {s : State} {args : Array Value} (hts : ∀ w ∈ lw_all, w.before args s = true) (hR : 0 + 1 ≤ R.frames ∧ 8 + (2 + 11) + 0 ≤ R.locals) : CallW R s args RX0 RX0 114 yX0_arrive cX0_arrive 2 none (ws_ yX0_arrive cX0_arrive 2 none) (wdRm 0 0) 0 0 0 := cwV 0 hts (lw_V q174 q176 qs11 q22 q177) rfl rfl rfl (by decide +kernel) hR
theorem xk_plantNext {R : Room} {s : State} {args : Array Value} (hts : ∀ w ∈ lw_all, w.before args s = true) (hR : 2 + 1 ≤ R.frames ∧ 8 + (4 + 11) + 43 ≤ R.locals) : CallW R s args RX0 RX0 137 yX0_plantNext cX0_plantNext 4 none (ws_ yX0_plantNext cX0_plantNext 4 none) (wdRm 2 43) 0 0 1 := cwV 1 hts (lw_V q182 q184 qs12 q22 q185) rfl rfl rfl (by decide +kernel) hR
theorem xk_plant {R : Room} {s : State} {args : Array Value} (hts : ∀ w ∈ lw_all, w.before args s = true) (hR : 1 + 1 ≤ R.frames ∧ 8 + (3 + 11) + 21 ≤ R.locals) : CallW R s args RX0 RX0 120 yX0_plant cX0_plant 3 none (ws_ yX0_plant cX0_plant 3 none) (wdRm 1 21) 0 0 1 := cwV 1 hts (lw_V q186 q188 qs13 q22 q189) rfl rfl rfl (by decide +kernel) hR
theorem xk_runPlanted {R : Room} {s : State} {args : Array Value} (hts : ∀ w ∈ lw_all, w.before args s = true) (hR : 4 + 1 ≤ R.frames ∧ 8 + (3 + 11) + 92 ≤ R.locals) : CallW R s args RX0 RX0 141 yX0_runPlanted cX0_runPlanted 3 (some .int) (ws_ yX0_runPlanted cX0_runPlanted 3 (some .int)) (wdRm 4 92) 0 0 1 := cwV 1 hts (lw_V q190 q192 qs14 q22 q193) rfl rfl rfl (by decide +kernel) hR
theorem xk_unplantAll {R : Room} {s : State} {args : Array Value} (hts : ∀ w ∈ lw_all, w.before args s = true) (hR : 0 + 1 ≤ R.frames ∧ 8 + (2 + 11) + 0 ≤ R.locals) : CallW R s args RX0 RX0 127 yX0_unplantAll cX0_unplantAll 2 none (ws_ yX0_unplantAll cX0_unplantAll 2 none) (wdRm 0 0) 0 0 0 := cwV 0 hts (lw_V q194 q196 qs15 q22 q197) rfl rfl rfl (by decide +kernel) hR
set_option maxHeartbeats 4000000 in
set_option maxRecDepth 100000 in
/-- noInstruction(p) -/
theorem xc_noInstruction (l : Launch) (D : va_G) (q : Nat → Nat) (cI cZ : ClassId) (sz : Nat) (σ : wdSt) (L : Nat) (hL : σ.1 0 = nI L) (hL2 : L ≤ 20) (p1 : Int32) : x_MI l yX0_noInstruction cX0_noInstruction 2 .boolean 0 0 D q cI cZ sz σ [.int p1] (fun r σ' => σ' = σ ∧ wdNI L p1 r) := by
  refine x_open (by decide) rfl (Nat.le_of_ble_eq_true rfl) ?_
  intro p e s m below meth c S hr hlk J ls hl
  have hx := S.1
  have hb := S.2.1
  have hl : lv_has ls 2 [(0, .ref (q 0)), (1, .int p1)] := hl
  generalize s.heap = H at J ⊢
  generalize ([] : List Loc) = locs at J ⊢
  refine lv_iload_n hx hb dX0_noInstruction_0 rfl (lv_at hl 1 rfl) ?_
  refine lv_if_lt (tgt := 12) hx hb dX0_noInstruction_1 (by decide) (fun c_1 => ?_) (fun c_1 => ?_)
  · refine lv_iconst (v := 1) hx hb dX0_noInstruction_12 ci_1 ?_
    refine lv_goto (tgt := 17) hx hb dX0_noInstruction_13 (by decide) ?_
    exact x_zret (v := 1) S hr hlk J rfl (⟨rfl, wdNI_a hL2 c_1⟩) dX0_noInstruction_17
  · refine lv_iload_n hx hb dX0_noInstruction_4 rfl (lv_at hl 1 rfl) ?_
    refine lv_aload_n hx hb dX0_noInstruction_5 rfl (lv_at hl 0 rfl) ?_
    refine x_g0 (v := nI L) S J hL dX0_noInstruction_6 ?_
    refine lv_icmp_lt (tgt := 16) hx hb dX0_noInstruction_9 (by decide) (fun c_9 => ?_) (fun c_9 => ?_)
    · refine lv_iconst (v := 0) hx hb dX0_noInstruction_16 ci_0 ?_
      exact x_zret (v := 0) S hr hlk J rfl (⟨rfl, wdNI_b hL2 c_1 c_9⟩) dX0_noInstruction_17
    · refine lv_iconst (v := 1) hx hb dX0_noInstruction_12 ci_1 ?_
      refine lv_goto (tgt := 17) hx hb dX0_noInstruction_13 (by decide) ?_
      exact x_zret (v := 1) S hr hlk J rfl (⟨rfl, wdNI_c hL2 c_9⟩) dX0_noInstruction_17
set_option maxHeartbeats 4000000 in
set_option maxRecDepth 100000 in
/-- base() -/
theorem xc_base (l : Launch) (D : va_G) (q : Nat → Nat) (cI cZ : ClassId) (sz : Nat) (σ : wdSt) (d : Nat) (hd : σ.1 18 = nI d) (hd1 : 1 ≤ d) : x_MI l yX0_base cX0_base 1 .int 0 0 D q cI cZ sz σ [] (fun r σ' => σ' = σ ∧ r = nI ((d - 1) * 4)) := by
  refine x_open (by decide) rfl (Nat.le_of_ble_eq_true rfl) ?_
  intro p e s m below meth c S hr hlk J ls hl
  have hx := S.1
  have hb := S.2.1
  have hl : lv_has ls 1 [(0, .ref (q 0))] := hl
  generalize s.heap = H at J ⊢
  generalize ([] : List Loc) = locs at J ⊢
  refine lv_aload_n hx hb dX0_base_0 rfl (lv_at hl 0 rfl) ?_
  refine x_g18 (v := nI d) S J hd dX0_base_1 ?_
  refine lv_iconst (v := 1) hx hb dX0_base_4 ci_1 ?_
  refine lv_isub hx hb dX0_base_5 ?_
  refine wd_top (nI (d - 1)) (wd_pred hd1) ?_
  refine lv_iconst (v := 4) hx hb dX0_base_6 ci_4 ?_
  refine lv_imul hx hb dX0_base_7 ?_
  refine wd_top (nI ((d - 1) * 4)) (wd_mul4 _) ?_
  exact x_iret (v := nI ((d - 1) * 4)) S hr hlk J (⟨rfl, rfl⟩) dX0_base_8
set_option maxHeartbeats 4000000 in
set_option maxRecDepth 100000 in
theorem xc_state (l : Launch) (D : va_G) (q : Nat → Nat) (cI cZ : ClassId) (sz : Nat) (σ : wdSt) : x_MI l yX0_state cX0_state 1 .int 0 0 D q cI cZ sz σ [] (fun r σ' => σ' = σ ∧ r = σ.1 14) := by
  refine x_open (by decide) rfl (Nat.le_of_ble_eq_true rfl) ?_
  intro p e s m below meth c S hr hlk J ls hl
  have hx := S.1
  have hb := S.2.1
  have hl : lv_has ls 1 [(0, .ref (q 0))] := hl
  generalize s.heap = H at J ⊢
  generalize ([] : List Loc) = locs at J ⊢
  refine lv_aload_n hx hb dX0_state_0 rfl (lv_at hl 0 rfl) ?_
  refine x_g14 (v := σ.1 14) S J rfl dX0_state_1 ?_
  exact x_iret (v := σ.1 14) S hr hlk J (⟨rfl, rfl⟩) dX0_state_4
set_option maxHeartbeats 4000000 in
set_option maxRecDepth 100000 in
theorem xc_depth (l : Launch) (D : va_G) (q : Nat → Nat) (cI cZ : ClassId) (sz : Nat) (σ : wdSt) : x_MI l yX0_depth cX0_depth 1 .int 0 0 D q cI cZ sz σ [] (fun r σ' => σ' = σ ∧ r = σ.1 18) := by
  refine x_open (by decide) rfl (Nat.le_of_ble_eq_true rfl) ?_
  intro p e s m below meth c S hr hlk J ls hl
  have hx := S.1
  have hb := S.2.1
  have hl : lv_has ls 1 [(0, .ref (q 0))] := hl
  generalize s.heap = H at J ⊢
  generalize ([] : List Loc) = locs at J ⊢
  refine lv_aload_n hx hb dX0_depth_0 rfl (lv_at hl 0 rfl) ?_
  refine x_g18 (v := σ.1 18) S J rfl dX0_depth_1 ?_
  exact x_iret (v := σ.1 18) S hr hlk J (⟨rfl, rfl⟩) dX0_depth_4
set_option maxHeartbeats 4000000 in
set_option maxRecDepth 100000 in
theorem xc_outputs (l : Launch) (D : va_G) (q : Nat → Nat) (cI cZ : ClassId) (sz : Nat) (σ : wdSt) : x_MI l yX0_outputs cX0_outputs 1 .int 0 0 D q cI cZ sz σ [] (fun r σ' => σ' = σ ∧ r = σ.1 22) := by
  refine x_open (by decide) rfl (Nat.le_of_ble_eq_true rfl) ?_
  intro p e s m below meth c S hr hlk J ls hl
  have hx := S.1
  have hb := S.2.1
  have hl : lv_has ls 1 [(0, .ref (q 0))] := hl
  generalize s.heap = H at J ⊢
  generalize ([] : List Loc) = locs at J ⊢
  refine lv_aload_n hx hb dX0_outputs_0 rfl (lv_at hl 0 rfl) ?_
  refine x_g22 (v := σ.1 22) S J rfl dX0_outputs_1 ?_
  exact x_iret (v := σ.1 22) S hr hlk J (⟨rfl, rfl⟩) dX0_outputs_4
set_option maxHeartbeats 4000000 in
set_option maxRecDepth 100000 in
theorem xc_notRunning (l : Launch) (D : va_G) (q : Nat → Nat) (cI cZ : ClassId) (sz : Nat) (σ : wdSt) : x_MI l yX0_notRunning cX0_notRunning 1 .boolean 0 0 D q cI cZ sz σ [] (fun r σ' => σ' = σ ∧ wdNRp (σ.1 14) r) := by
  refine x_open (by decide) rfl (Nat.le_of_ble_eq_true rfl) ?_
  intro p e s m below meth c S hr hlk J ls hl
  have hx := S.1
  have hb := S.2.1
  have hl : lv_has ls 1 [(0, .ref (q 0))] := hl
  generalize s.heap = H at J ⊢
  generalize ([] : List Loc) = locs at J ⊢
  refine lv_aload_n hx hb dX0_notRunning_0 rfl (lv_at hl 0 rfl) ?_
  refine x_g14 (v := σ.1 14) S J rfl dX0_notRunning_1 ?_
  refine lv_if_eq (tgt := 24) hx hb dX0_notRunning_4 (by decide) (fun c_4 => ?_) (fun c_4 => ?_)
  · refine lv_iconst (v := 1) hx hb dX0_notRunning_24 ci_1 ?_
    refine lv_goto (tgt := 29) hx hb dX0_notRunning_25 (by decide) ?_
    exact x_zret (v := 1) S hr hlk J rfl (⟨rfl, Or.inl ⟨rfl, Or.inl c_4⟩⟩) dX0_notRunning_29
  · refine lv_aload_n hx hb dX0_notRunning_7 rfl (lv_at hl 0 rfl) ?_
    refine x_g14 (v := σ.1 14) S J rfl dX0_notRunning_8 ?_
    refine lv_iconst (v := 5) hx hb dX0_notRunning_11 ci_5 ?_
    refine lv_icmp_eq (tgt := 24) hx hb dX0_notRunning_12 (by decide) (fun c_12 => ?_) (fun c_12 => ?_)
    · refine lv_iconst (v := 1) hx hb dX0_notRunning_24 ci_1 ?_
      refine lv_goto (tgt := 29) hx hb dX0_notRunning_25 (by decide) ?_
      exact x_zret (v := 1) S hr hlk J rfl (⟨rfl, Or.inl ⟨rfl, Or.inr (Or.inl c_12)⟩⟩) dX0_notRunning_29
    · refine lv_aload_n hx hb dX0_notRunning_15 rfl (lv_at hl 0 rfl) ?_
      refine x_g14 (v := σ.1 14) S J rfl dX0_notRunning_16 ?_
      refine lv_bipush (v := 6) hx hb dX0_notRunning_19 cb_6 ?_
      refine lv_icmp_ne (tgt := 28) hx hb dX0_notRunning_21 (by decide) (fun c_21 => ?_) (fun c_21 => ?_)
      · refine lv_iconst (v := 0) hx hb dX0_notRunning_28 ci_0 ?_
        exact x_zret (v := 0) S hr hlk J rfl (⟨rfl, Or.inr ⟨rfl, fun h => h.elim c_4 (fun h => h.elim c_12 c_21)⟩⟩) dX0_notRunning_29
      · refine lv_iconst (v := 1) hx hb dX0_notRunning_24 ci_1 ?_
        refine lv_goto (tgt := 29) hx hb dX0_notRunning_25 (by decide) ?_
        exact x_zret (v := 1) S hr hlk J rfl (⟨rfl, Or.inl ⟨rfl, Or.inr (Or.inr c_21)⟩⟩) dX0_notRunning_29
set_option maxHeartbeats 4000000 in
set_option maxRecDepth 100000 in
/-- clampMax(max): static, nothing changes -/
theorem xc_clampMax (l : Launch) (D : va_G) (q : Nat → Nat) (cI cZ : ClassId) (sz : Nat) (σ : wdSt) (p1 : Int32) : Met l yX0_clampMax (ws_ yX0_clampMax cX0_clampMax 1 (some .int)) (wdRm 0 0) (x_PcS D q cI cZ sz σ [.int p1]) (va_Qi (fun r σ' => σ' = σ ∧ r = wdCl p1) (x_B D q cI cZ) (x_A q sz)) 0 0 (x_A q sz) := by
  refine x_openS (by decide) rfl (Nat.le_of_ble_eq_true rfl) ?_
  intro p e s m below meth c S hr hlk J ls hl
  have hx := S.1
  have hb := S.2.1
  have hl : lv_has ls 1 [(0, .int p1)] := hl
  generalize s.heap = H at J ⊢
  generalize ([] : List Loc) = locs at J ⊢
  refine lv_iload_n hx hb dX0_clampMax_0 rfl (lv_at hl 0 rfl) ?_
  refine lv_iconst (v := 1) hx hb dX0_clampMax_1 ci_1 ?_
  refine lv_icmp_ge (tgt := 7) hx hb dX0_clampMax_2 (by decide) (fun c_2 => ?_) (fun c_2 => ?_)
  · refine lv_iload_n hx hb dX0_clampMax_7 rfl (lv_at hl 0 rfl) ?_
    refine lv_sipush (v := 300) hx hb dX0_clampMax_8 cs_300 ?_
    refine lv_icmp_le (tgt := 20) hx hb dX0_clampMax_11 (by decide) (fun c_11 => ?_) (fun c_11 => ?_)
    · refine lv_iload_n hx hb dX0_clampMax_20 rfl (lv_at hl 0 rfl) ?_
      exact x_iret (v := p1) S hr hlk J (⟨rfl, by rw [wdCl, if_pos c_2, if_pos c_11]⟩) dX0_clampMax_21
    · refine lv_sipush (v := 300) hx hb dX0_clampMax_14 cs_300 ?_
      refine lv_goto (tgt := 21) hx hb dX0_clampMax_17 (by decide) ?_
      exact x_iret (v := 300) S hr hlk J (⟨rfl, by rw [wdCl, if_pos c_2, if_neg c_11]⟩) dX0_clampMax_21
  · refine lv_iconst (v := 1) hx hb dX0_clampMax_5 ci_1 ?_
    exact x_iret (v := 1) S hr hlk J (⟨rfl, by rw [wdCl, if_neg c_2]⟩) dX0_clampMax_6
set_option maxHeartbeats 4000000 in
set_option maxRecDepth 100000 in
/-- plant(p) -/
theorem xc_plant (l : Launch) (D : va_G) (q : Nat → Nat) (cI cZ : ClassId) (sz : Nat) (σ : wdSt) (L : Nat) (hL : σ.1 0 = nI L) (hL2 : L ≤ 20) (p1 : Int32) : x_MV l yX0_plant cX0_plant 3 1 21 D q cI cZ sz σ [.int p1] (fun σ' => (∃ j, j < L ∧ p1 = nI j ∧ σ' = wdA σ 7 j 1) ∨ ((∀ j, j < L → p1 ≠ nI j) ∧ σ' = σ)) := by
  refine x_open (by decide) rfl (Nat.le_of_ble_eq_true rfl) ?_
  intro p e s m below meth c S hr hlk J ls hl
  have hx := S.1
  have hb := S.2.1
  have hl : lv_has ls 3 [(0, .ref (q 0)), (1, .int p1)] := hl
  generalize s.heap = H at J ⊢
  generalize ([] : List Loc) = locs at J ⊢
  refine lv_aload_n hx hb dX0_plant_0 rfl (lv_at hl 0 rfl) ?_
  refine lv_iload_n hx hb dX0_plant_1 rfl (lv_at hl 1 rfl) ?_
  refine x_ci S J (xc_noInstruction l D q cI cZ _ _ L hL hL2 p1) (xk_noInstruction S.2.2.2.2 ⟨Nat.le_of_ble_eq_true rfl, Nat.le_of_ble_eq_true rfl⟩) rfl hl.1 rfl (Nat.le_of_ble_eq_true rfl) dX0_plant_2 ⟨Nat.zero_le _, Nat.zero_le _⟩ (fun r_s1 s1 H locs w_s1 J => ?_)
  obtain ⟨e_s1, w_s1⟩ := w_s1
  rw [e_s1] at J
  refine lv_istore_n (lv' := [(2, .int r_s1), (0, .ref (q 0)), (1, .int p1)]) hx hb dX0_plant_5 rfl hl (by decide) rfl (fun ls hl => ?_)
  refine lv_iload_n hx hb dX0_plant_6 rfl (lv_at hl 0 rfl) ?_
  refine lv_if_ne (tgt := 17) hx hb dX0_plant_7 (by decide) (fun c_7 => ?_) (fun c_7 => ?_)
  · exact x_vret S hr hlk J (Or.inr ⟨(wdNI_1 w_s1 c_7).2, rfl⟩) dX0_plant_17
  · obtain ⟨j, hj, rfl⟩ := wdNI_z w_s1 (by simpa using c_7)
    refine lv_aload_n hx hb dX0_plant_10 rfl (lv_at hl 1 rfl) ?_
    refine x_r7 S J dX0_plant_11 ?_
    refine lv_iload_n hx hb dX0_plant_14 rfl (lv_at hl 2 rfl) ?_
    refine lv_iconst (v := 1) hx hb dX0_plant_15 ci_1 ?_
    refine x_s7 S J j (by omega) rfl dX0_plant_16 (fun H locs J => ?_)
    exact x_vret S hr hlk J (Or.inl ⟨j, hj, rfl, rfl⟩) dX0_plant_17
set_option maxHeartbeats 4000000 in
set_option maxRecDepth 100000 in
/-- compute(o, x, y, b) -/
theorem xc_compute (l : Launch) (D : va_G) (q : Nat → Nat) (cI cZ : ClassId) (sz : Nat) (σ : wdSt) (k x y : Nat) (p1 p2 p3 p4 : Int32) (e1 : p1 = nI k) (e2 : p2 = nI x) (e3 : p3 = nI y) (hk : k ≤ 4) (hx24 : x < 24) (hy24 : y < 24) : x_MV l yX0_compute cX0_compute 5 0 0 D q cI cZ sz σ [.int p1, .int p2, .int p3, .int p4] (fun σ' => σ' = wdA σ 19 x (wdCo k p4 (σ.2 19 x) (σ.2 19 y))) := by
  subst e1; subst e2; subst e3
  refine x_open (by decide) rfl (Nat.le_of_ble_eq_true rfl) ?_
  intro p e s m below meth c S hr hlk J ls hl
  have hx := S.1
  have hb := S.2.1
  have hl : lv_has ls 5 [(0, .ref (q 0)), (1, .int (nI k)), (2, .int (nI x)), (3, .int (nI y)), (4, .int p4)] := hl
  generalize s.heap = H at J ⊢
  generalize ([] : List Loc) = locs at J ⊢
  rcases (show k = 0 ∨ k = 1 ∨ k = 2 ∨ k = 3 ∨ k = 4 by omega) with rfl | rfl | rfl | rfl | rfl
  · refine lv_iload_n hx hb dX0_compute_0 rfl (lv_at hl 1 rfl) ?_
    refine lv_tableIn (off := 31) (tgt := 32) hx hb dX0_compute_1 (by decide) (by decide) (by decide) (by decide) ?_
    refine lv_aload_n hx hb dX0_compute_32 rfl (lv_at hl 0 rfl) ?_
    refine x_r19 S J dX0_compute_33 ?_
    refine lv_iload_n hx hb dX0_compute_36 rfl (lv_at hl 2 rfl) ?_
    refine lv_iload hx hb dX0_compute_37 (lv_at hl 4 rfl) ?_
    refine x_s19 S J x hx24 dX0_compute_39 (fun H locs J => ?_)
    refine lv_goto (tgt := 121) hx hb dX0_compute_40 (by decide) ?_
    exact x_vret S hr hlk J rfl dX0_compute_121
  · refine lv_iload_n hx hb dX0_compute_0 rfl (lv_at hl 1 rfl) ?_
    refine lv_tableIn (off := 42) (tgt := 43) hx hb dX0_compute_1 (by decide) (by decide) (by decide) (by decide) ?_
    refine lv_aload_n hx hb dX0_compute_43 rfl (lv_at hl 0 rfl) ?_
    refine x_r19 S J dX0_compute_44 ?_
    refine lv_iload_n hx hb dX0_compute_47 rfl (lv_at hl 2 rfl) ?_
    refine lv_aload_n hx hb dX0_compute_48 rfl (lv_at hl 0 rfl) ?_
    refine x_r19 S J dX0_compute_49 ?_
    refine lv_iload_n hx hb dX0_compute_52 rfl (lv_at hl 3 rfl) ?_
    refine x_l19 (v := σ.2 19 y) S J y hy24 rfl dX0_compute_53 ?_
    refine x_s19 S J x hx24 dX0_compute_54 (fun H locs J => ?_)
    refine lv_goto (tgt := 121) hx hb dX0_compute_55 (by decide) ?_
    exact x_vret S hr hlk J rfl dX0_compute_121
  · refine lv_iload_n hx hb dX0_compute_0 rfl (lv_at hl 1 rfl) ?_
    refine lv_tableIn (off := 57) (tgt := 58) hx hb dX0_compute_1 (by decide) (by decide) (by decide) (by decide) ?_
    refine lv_aload_n hx hb dX0_compute_58 rfl (lv_at hl 0 rfl) ?_
    refine x_r19 S J dX0_compute_59 ?_
    refine lv_iload_n hx hb dX0_compute_62 rfl (lv_at hl 2 rfl) ?_
    refine lv_aload_n hx hb dX0_compute_63 rfl (lv_at hl 0 rfl) ?_
    refine x_r19 S J dX0_compute_64 ?_
    refine lv_iload_n hx hb dX0_compute_67 rfl (lv_at hl 2 rfl) ?_
    refine x_l19 (v := σ.2 19 x) S J x hx24 rfl dX0_compute_68 ?_
    refine lv_aload_n hx hb dX0_compute_69 rfl (lv_at hl 0 rfl) ?_
    refine x_r19 S J dX0_compute_70 ?_
    refine lv_iload_n hx hb dX0_compute_73 rfl (lv_at hl 3 rfl) ?_
    refine x_l19 (v := σ.2 19 y) S J y hy24 rfl dX0_compute_74 ?_
    refine lv_iadd hx hb dX0_compute_75 ?_
    refine x_s19 S J x hx24 dX0_compute_76 (fun H locs J => ?_)
    refine lv_goto (tgt := 121) hx hb dX0_compute_77 (by decide) ?_
    exact x_vret S hr hlk J rfl dX0_compute_121
  · refine lv_iload_n hx hb dX0_compute_0 rfl (lv_at hl 1 rfl) ?_
    refine lv_tableIn (off := 79) (tgt := 80) hx hb dX0_compute_1 (by decide) (by decide) (by decide) (by decide) ?_
    refine lv_aload_n hx hb dX0_compute_80 rfl (lv_at hl 0 rfl) ?_
    refine x_r19 S J dX0_compute_81 ?_
    refine lv_iload_n hx hb dX0_compute_84 rfl (lv_at hl 2 rfl) ?_
    refine lv_aload_n hx hb dX0_compute_85 rfl (lv_at hl 0 rfl) ?_
    refine x_r19 S J dX0_compute_86 ?_
    refine lv_iload_n hx hb dX0_compute_89 rfl (lv_at hl 2 rfl) ?_
    refine x_l19 (v := σ.2 19 x) S J x hx24 rfl dX0_compute_90 ?_
    refine lv_aload_n hx hb dX0_compute_91 rfl (lv_at hl 0 rfl) ?_
    refine x_r19 S J dX0_compute_92 ?_
    refine lv_iload_n hx hb dX0_compute_95 rfl (lv_at hl 3 rfl) ?_
    refine x_l19 (v := σ.2 19 y) S J y hy24 rfl dX0_compute_96 ?_
    refine lv_isub hx hb dX0_compute_97 ?_
    refine x_s19 S J x hx24 dX0_compute_98 (fun H locs J => ?_)
    refine lv_goto (tgt := 121) hx hb dX0_compute_99 (by decide) ?_
    exact x_vret S hr hlk J rfl dX0_compute_121
  · refine lv_iload_n hx hb dX0_compute_0 rfl (lv_at hl 1 rfl) ?_
    refine lv_tableOut (tgt := 102) hx hb dX0_compute_1 (by decide) (by decide) ?_
    refine lv_aload_n hx hb dX0_compute_102 rfl (lv_at hl 0 rfl) ?_
    refine x_r19 S J dX0_compute_103 ?_
    refine lv_iload_n hx hb dX0_compute_106 rfl (lv_at hl 2 rfl) ?_
    refine lv_aload_n hx hb dX0_compute_107 rfl (lv_at hl 0 rfl) ?_
    refine x_r19 S J dX0_compute_108 ?_
    refine lv_iload_n hx hb dX0_compute_111 rfl (lv_at hl 2 rfl) ?_
    refine x_l19 (v := σ.2 19 x) S J x hx24 rfl dX0_compute_112 ?_
    refine lv_aload_n hx hb dX0_compute_113 rfl (lv_at hl 0 rfl) ?_
    refine x_r19 S J dX0_compute_114 ?_
    refine lv_iload_n hx hb dX0_compute_117 rfl (lv_at hl 3 rfl) ?_
    refine x_l19 (v := σ.2 19 y) S J y hy24 rfl dX0_compute_118 ?_
    refine lv_imul hx hb dX0_compute_119 ?_
    refine x_s19 S J x hx24 dX0_compute_120 (fun H locs J => ?_)
    exact x_vret S hr hlk J rfl dX0_compute_121
set_option maxHeartbeats 4000000 in
set_option maxRecDepth 100000 in
/-- jump(i) -/
theorem xc_jump (l : Launch) (D : va_G) (q : Nat → Nat) (cI cZ : ClassId) (sz : Nat) (σ : wdSt) (a j : Nat) (ha : σ.1 15 = nI a) (ha2 : a < 48) (hj : j < 20) : x_MV l yX0_jump cX0_jump 2 0 0 D q cI cZ sz σ [.int (nI j)] (fun σ' => σ' = wdJump a j σ) := by
  refine x_open (by decide) rfl (Nat.le_of_ble_eq_true rfl) ?_
  intro p e s m below meth c S hr hlk J ls hl
  have hx := S.1
  have hb := S.2.1
  have hl : lv_has ls 2 [(0, .ref (q 0)), (1, .int (nI j))] := hl
  generalize s.heap = H at J ⊢
  generalize ([] : List Loc) = locs at J ⊢
  refine lv_aload_n hx hb dX0_jump_0 rfl (lv_at hl 0 rfl) ?_
  refine x_r11 S J dX0_jump_1 ?_
  refine lv_aload_n hx hb dX0_jump_4 rfl (lv_at hl 0 rfl) ?_
  refine x_g15 (v := nI a) S J ha dX0_jump_5 ?_
  refine x_l11 (v := σ.2 11 a) S J a ha2 rfl dX0_jump_8 ?_
  refine lv_if_lt (tgt := 26) hx hb dX0_jump_9 (by decide) (fun c_9 => ?_) (fun c_9 => ?_)
  · refine lv_aload_n hx hb dX0_jump_26 rfl (lv_at hl 0 rfl) ?_
    refine lv_iconst (v := 1) hx hb dX0_jump_27 ci_1 ?_
    refine x_p16 S J rfl rfl dX0_jump_28 (fun H locs J => ?_)
    refine lv_aload_n hx hb dX0_jump_31 rfl (lv_at hl 0 rfl) ?_
    refine lv_aload_n hx hb dX0_jump_32 rfl (lv_at hl 0 rfl) ?_
    refine x_r3 S J dX0_jump_33 ?_
    refine lv_iload_n hx hb dX0_jump_36 rfl (lv_at hl 1 rfl) ?_
    refine x_l3 (v := σ.2 3 j) S J j hj rfl dX0_jump_37 ?_
    refine x_p17 S J dX0_jump_38 (fun H locs J => ?_)
    refine lv_aload_n hx hb dX0_jump_41 rfl (lv_at hl 0 rfl) ?_
    refine lv_bipush (v := 6) hx hb dX0_jump_42 cb_6 ?_
    refine x_p14 S J dX0_jump_44 (fun H locs J => ?_)
    exact x_vret S hr hlk J ((if_pos c_9).symm) dX0_jump_47
  · refine lv_aload_n hx hb dX0_jump_12 rfl (lv_at hl 0 rfl) ?_
    refine lv_aload_n hx hb dX0_jump_13 rfl (lv_at hl 0 rfl) ?_
    refine x_r11 S J dX0_jump_14 ?_
    refine lv_aload_n hx hb dX0_jump_17 rfl (lv_at hl 0 rfl) ?_
    refine x_g15 (v := nI a) S J ha dX0_jump_18 ?_
    refine x_l11 (v := σ.2 11 a) S J a ha2 rfl dX0_jump_21 ?_
    refine x_p15 S J dX0_jump_22 (fun H locs J => ?_)
    exact x_vret S hr hlk J ((if_neg c_9).symm) dX0_jump_25
set_option maxHeartbeats 4000000 in
set_option maxRecDepth 100000 in
/-- arrive() at place a; g: the instruction of a probe there -/
theorem xc_arrive (l : Launch) (D : va_G) (q : Nat → Nat) (cI cZ : ClassId) (sz : Nat) (σ : wdSt) (a g : Nat) (ha : σ.1 15 = nI a) (ha2 : a < 48) (hg : σ.2 9 a = 11 → σ.2 10 a = nI g) (hg2 : σ.2 9 a = 11 → g < 20) : x_MV l yX0_arrive cX0_arrive 2 0 0 D q cI cZ sz σ [] (fun σ' => σ' = wdArr a g σ) := by
  refine x_open (by decide) rfl (Nat.le_of_ble_eq_true rfl) ?_
  intro p e s m below meth c S hr hlk J ls hl
  have hx := S.1
  have hb := S.2.1
  have hl : lv_has ls 2 [(0, .ref (q 0))] := hl
  generalize s.heap = H at J ⊢
  generalize ([] : List Loc) = locs at J ⊢
  refine lv_aload_n hx hb dX0_arrive_0 rfl (lv_at hl 0 rfl) ?_
  refine x_r9 S J dX0_arrive_1 ?_
  refine lv_aload_n hx hb dX0_arrive_4 rfl (lv_at hl 0 rfl) ?_
  refine x_g15 (v := nI a) S J ha dX0_arrive_5 ?_
  refine x_l9 (v := σ.2 9 a) S J a ha2 rfl dX0_arrive_8 ?_
  refine lv_bipush (v := 12) hx hb dX0_arrive_9 cb_12 ?_
  refine lv_icmp_ne (tgt := 34) hx hb dX0_arrive_11 (by decide) (fun c_11 => ?_) (fun c_11 => ?_)
  · refine lv_aload_n hx hb dX0_arrive_34 rfl (lv_at hl 0 rfl) ?_
    refine x_r9 S J dX0_arrive_35 ?_
    refine lv_aload_n hx hb dX0_arrive_38 rfl (lv_at hl 0 rfl) ?_
    refine x_g15 (v := nI a) S J ha dX0_arrive_39 ?_
    refine x_l9 (v := σ.2 9 a) S J a ha2 rfl dX0_arrive_42 ?_
    refine lv_bipush (v := 11) hx hb dX0_arrive_43 cb_11 ?_
    refine lv_icmp_eq (tgt := 49) hx hb dX0_arrive_45 (by decide) (fun c_45 => ?_) (fun c_45 => ?_)
    · refine lv_aload_n hx hb dX0_arrive_49 rfl (lv_at hl 0 rfl) ?_
      refine x_r10 S J dX0_arrive_50 ?_
      refine lv_aload_n hx hb dX0_arrive_53 rfl (lv_at hl 0 rfl) ?_
      refine x_g15 (v := nI a) S J ha dX0_arrive_54 ?_
      refine x_l10 (v := nI g) S J a ha2 (hg c_45) dX0_arrive_57 ?_
      refine lv_istore_n (lv' := [(1, .int (nI g)), (0, .ref (q 0))]) hx hb dX0_arrive_58 rfl hl (by decide) rfl (fun ls hl => ?_)
      refine lv_aload_n hx hb dX0_arrive_59 rfl (lv_at hl 1 rfl) ?_
      refine x_r7 S J dX0_arrive_60 ?_
      refine lv_iload_n hx hb dX0_arrive_63 rfl (lv_at hl 0 rfl) ?_
      refine x_l7 (v := σ.2 7 g) S J g (hg2 c_45) rfl dX0_arrive_64 ?_
      refine lv_if_eq (tgt := 87) hx hb dX0_arrive_65 (by decide) (fun c_65 => ?_) (fun c_65 => ?_)
      · refine lv_aload_n hx hb dX0_arrive_87 rfl (lv_at hl 1 rfl) ?_
        refine x_r5 S J dX0_arrive_88 ?_
        refine lv_iload_n hx hb dX0_arrive_91 rfl (lv_at hl 0 rfl) ?_
        refine x_l5 (v := σ.2 5 g) S J g (hg2 c_45) rfl dX0_arrive_92 ?_
        refine lv_if_eq (tgt := 113) hx hb dX0_arrive_93 (by decide) (fun c_93 => ?_) (fun c_93 => ?_)
        · refine lv_aload_n hx hb dX0_arrive_113 rfl (lv_at hl 1 rfl) ?_
          refine x_r5 S J dX0_arrive_114 ?_
          refine lv_iload_n hx hb dX0_arrive_117 rfl (lv_at hl 0 rfl) ?_
          refine x_l5 (v := σ.2 5 g) S J g (hg2 c_45) rfl dX0_arrive_118 ?_
          refine lv_if_eq (tgt := 132) hx hb dX0_arrive_119 (by decide) (fun c_119 => ?_) (fun c_119 => absurd c_93 c_119)
          refine lv_aload_n hx hb dX0_arrive_132 rfl (lv_at hl 1 rfl) ?_
          refine lv_dup hx hb dX0_arrive_133 rfl ?_
          refine x_g15 (v := nI a) S J ha dX0_arrive_134 ?_
          refine lv_iconst (v := 1) hx hb dX0_arrive_137 ci_1 ?_
          refine lv_iadd hx hb dX0_arrive_138 ?_
          refine wd_top (nI (a + 1)) (nI_1 _) ?_
          refine x_p15 S J dX0_arrive_139 (fun H locs J => ?_)
          exact x_vret S hr hlk J (by rw [wdArr, if_neg c_11, if_pos c_45, if_neg (fun h => h.1 c_65), if_neg (fun h => h.1 c_93), if_neg (fun h => h c_119)]) dX0_arrive_142
        · refine lv_aload_n hx hb dX0_arrive_96 rfl (lv_at hl 1 rfl) ?_
          refine x_r6 S J dX0_arrive_97 ?_
          refine lv_iload_n hx hb dX0_arrive_100 rfl (lv_at hl 0 rfl) ?_
          refine x_l6 (v := σ.2 6 g) S J g (hg2 c_45) rfl dX0_arrive_101 ?_
          refine lv_if_ne (tgt := 113) hx hb dX0_arrive_102 (by decide) (fun c_102 => ?_) (fun c_102 => ?_)
          · refine lv_aload_n hx hb dX0_arrive_113 rfl (lv_at hl 1 rfl) ?_
            refine x_r5 S J dX0_arrive_114 ?_
            refine lv_iload_n hx hb dX0_arrive_117 rfl (lv_at hl 0 rfl) ?_
            refine x_l5 (v := σ.2 5 g) S J g (hg2 c_45) rfl dX0_arrive_118 ?_
            refine lv_if_eq (tgt := 132) hx hb dX0_arrive_119 (by decide) (fun c_119 => ?_) (fun c_119 => ?_)
            · exact absurd c_119 c_93
            refine lv_aload_n hx hb dX0_arrive_122 rfl (lv_at hl 1 rfl) ?_
            refine x_r6 S J dX0_arrive_123 ?_
            refine lv_iload_n hx hb dX0_arrive_126 rfl (lv_at hl 0 rfl) ?_
            refine lv_dup2_11 hx hb dX0_arrive_127 rfl rfl ?_
            refine x_l6 (v := σ.2 6 g) S J g (hg2 c_45) rfl dX0_arrive_128 ?_
            refine lv_iconst (v := 1) hx hb dX0_arrive_129 ci_1 ?_
            refine lv_isub hx hb dX0_arrive_130 ?_
            refine x_s6 S J g (hg2 c_45) dX0_arrive_131 (fun H locs J => ?_)
            refine lv_aload_n hx hb dX0_arrive_132 rfl (lv_at hl 1 rfl) ?_
            refine lv_dup hx hb dX0_arrive_133 rfl ?_
            refine x_g15 (v := nI a) S J ha dX0_arrive_134 ?_
            refine lv_iconst (v := 1) hx hb dX0_arrive_137 ci_1 ?_
            refine lv_iadd hx hb dX0_arrive_138 ?_
            refine wd_top (nI (a + 1)) (nI_1 _) ?_
            refine x_p15 S J dX0_arrive_139 (fun H locs J => ?_)
            exact x_vret S hr hlk J (by rw [wdArr, if_neg c_11, if_pos c_45, if_neg (fun h => h.1 c_65), if_neg (fun h => c_102 h.2), if_pos c_119]) dX0_arrive_142
          · refine lv_aload_n hx hb dX0_arrive_105 rfl (lv_at hl 1 rfl) ?_
            refine lv_iconst (v := 3) hx hb dX0_arrive_106 ci_3 ?_
            refine x_p14 S J dX0_arrive_107 (fun H locs J => ?_)
            refine lv_goto (tgt := 142) hx hb dX0_arrive_110 (by decide) ?_
            exact x_vret S hr hlk J (by rw [wdArr, if_neg c_11, if_pos c_45, if_neg (fun h => h.1 c_65), if_pos ⟨c_93, c_102⟩]) dX0_arrive_142
      · refine lv_aload_n hx hb dX0_arrive_68 rfl (lv_at hl 1 rfl) ?_
        refine x_g18 (v := σ.1 18) S J rfl dX0_arrive_69 ?_
        refine lv_aload_n hx hb dX0_arrive_72 rfl (lv_at hl 1 rfl) ?_
        refine x_g8 (v := σ.1 8) S J rfl dX0_arrive_73 ?_
        refine lv_icmp_gt (tgt := 87) hx hb dX0_arrive_76 (by decide) (fun c_76 => ?_) (fun c_76 => ?_)
        · refine lv_aload_n hx hb dX0_arrive_87 rfl (lv_at hl 1 rfl) ?_
          refine x_r5 S J dX0_arrive_88 ?_
          refine lv_iload_n hx hb dX0_arrive_91 rfl (lv_at hl 0 rfl) ?_
          refine x_l5 (v := σ.2 5 g) S J g (hg2 c_45) rfl dX0_arrive_92 ?_
          refine lv_if_eq (tgt := 113) hx hb dX0_arrive_93 (by decide) (fun c_93 => ?_) (fun c_93 => ?_)
          · refine lv_aload_n hx hb dX0_arrive_113 rfl (lv_at hl 1 rfl) ?_
            refine x_r5 S J dX0_arrive_114 ?_
            refine lv_iload_n hx hb dX0_arrive_117 rfl (lv_at hl 0 rfl) ?_
            refine x_l5 (v := σ.2 5 g) S J g (hg2 c_45) rfl dX0_arrive_118 ?_
            refine lv_if_eq (tgt := 132) hx hb dX0_arrive_119 (by decide) (fun c_119 => ?_) (fun c_119 => absurd c_93 c_119)
            refine lv_aload_n hx hb dX0_arrive_132 rfl (lv_at hl 1 rfl) ?_
            refine lv_dup hx hb dX0_arrive_133 rfl ?_
            refine x_g15 (v := nI a) S J ha dX0_arrive_134 ?_
            refine lv_iconst (v := 1) hx hb dX0_arrive_137 ci_1 ?_
            refine lv_iadd hx hb dX0_arrive_138 ?_
            refine wd_top (nI (a + 1)) (nI_1 _) ?_
            refine x_p15 S J dX0_arrive_139 (fun H locs J => ?_)
            exact x_vret S hr hlk J (by rw [wdArr, if_neg c_11, if_pos c_45, if_neg (fun h => h.2 c_76), if_neg (fun h => h.1 c_93), if_neg (fun h => h c_119)]) dX0_arrive_142
          · refine lv_aload_n hx hb dX0_arrive_96 rfl (lv_at hl 1 rfl) ?_
            refine x_r6 S J dX0_arrive_97 ?_
            refine lv_iload_n hx hb dX0_arrive_100 rfl (lv_at hl 0 rfl) ?_
            refine x_l6 (v := σ.2 6 g) S J g (hg2 c_45) rfl dX0_arrive_101 ?_
            refine lv_if_ne (tgt := 113) hx hb dX0_arrive_102 (by decide) (fun c_102 => ?_) (fun c_102 => ?_)
            · refine lv_aload_n hx hb dX0_arrive_113 rfl (lv_at hl 1 rfl) ?_
              refine x_r5 S J dX0_arrive_114 ?_
              refine lv_iload_n hx hb dX0_arrive_117 rfl (lv_at hl 0 rfl) ?_
              refine x_l5 (v := σ.2 5 g) S J g (hg2 c_45) rfl dX0_arrive_118 ?_
              refine lv_if_eq (tgt := 132) hx hb dX0_arrive_119 (by decide) (fun c_119 => ?_) (fun c_119 => ?_)
              · exact absurd c_119 c_93
              refine lv_aload_n hx hb dX0_arrive_122 rfl (lv_at hl 1 rfl) ?_
              refine x_r6 S J dX0_arrive_123 ?_
              refine lv_iload_n hx hb dX0_arrive_126 rfl (lv_at hl 0 rfl) ?_
              refine lv_dup2_11 hx hb dX0_arrive_127 rfl rfl ?_
              refine x_l6 (v := σ.2 6 g) S J g (hg2 c_45) rfl dX0_arrive_128 ?_
              refine lv_iconst (v := 1) hx hb dX0_arrive_129 ci_1 ?_
              refine lv_isub hx hb dX0_arrive_130 ?_
              refine x_s6 S J g (hg2 c_45) dX0_arrive_131 (fun H locs J => ?_)
              refine lv_aload_n hx hb dX0_arrive_132 rfl (lv_at hl 1 rfl) ?_
              refine lv_dup hx hb dX0_arrive_133 rfl ?_
              refine x_g15 (v := nI a) S J ha dX0_arrive_134 ?_
              refine lv_iconst (v := 1) hx hb dX0_arrive_137 ci_1 ?_
              refine lv_iadd hx hb dX0_arrive_138 ?_
              refine wd_top (nI (a + 1)) (nI_1 _) ?_
              refine x_p15 S J dX0_arrive_139 (fun H locs J => ?_)
              exact x_vret S hr hlk J (by rw [wdArr, if_neg c_11, if_pos c_45, if_neg (fun h => h.2 c_76), if_neg (fun h => c_102 h.2), if_pos c_119]) dX0_arrive_142
            · refine lv_aload_n hx hb dX0_arrive_105 rfl (lv_at hl 1 rfl) ?_
              refine lv_iconst (v := 3) hx hb dX0_arrive_106 ci_3 ?_
              refine x_p14 S J dX0_arrive_107 (fun H locs J => ?_)
              refine lv_goto (tgt := 142) hx hb dX0_arrive_110 (by decide) ?_
              exact x_vret S hr hlk J (by rw [wdArr, if_neg c_11, if_pos c_45, if_neg (fun h => h.2 c_76), if_pos ⟨c_93, c_102⟩]) dX0_arrive_142
        · refine lv_aload_n hx hb dX0_arrive_79 rfl (lv_at hl 1 rfl) ?_
          refine lv_iconst (v := 2) hx hb dX0_arrive_80 ci_2 ?_
          refine x_p14 S J dX0_arrive_81 (fun H locs J => ?_)
          refine lv_goto (tgt := 142) hx hb dX0_arrive_84 (by decide) ?_
          exact x_vret S hr hlk J (by rw [wdArr, if_neg c_11, if_pos c_45, if_pos ⟨c_65, c_76⟩]) dX0_arrive_142
    · exact x_vret S hr hlk J (by rw [wdArr, if_neg c_11, if_neg c_45]) dX0_arrive_48
  · refine lv_aload_n hx hb dX0_arrive_14 rfl (lv_at hl 0 rfl) ?_
    refine lv_iconst (v := 1) hx hb dX0_arrive_15 ci_1 ?_
    refine x_p16 S J rfl rfl dX0_arrive_16 (fun H locs J => ?_)
    refine lv_aload_n hx hb dX0_arrive_19 rfl (lv_at hl 0 rfl) ?_
    refine lv_aload_n hx hb dX0_arrive_20 rfl (lv_at hl 0 rfl) ?_
    refine x_g0 (v := σ.1 0) S J rfl dX0_arrive_21 ?_
    refine x_p17 S J dX0_arrive_24 (fun H locs J => ?_)
    refine lv_aload_n hx hb dX0_arrive_27 rfl (lv_at hl 0 rfl) ?_
    refine lv_bipush (v := 6) hx hb dX0_arrive_28 cb_6 ?_
    refine x_p14 S J dX0_arrive_30 (fun H locs J => ?_)
    exact x_vret S hr hlk J (by rw [wdArr, if_pos c_11]) dX0_arrive_33
set_option maxHeartbeats 4000000 in
set_option maxRecDepth 100000 in
/-- call(i, x) with d frames at place a -/
theorem xc_call (l : Launch) (D : va_G) (q : Nat → Nat) (cI cZ : ClassId) (sz : Nat) (σ : wdSt) (a j x d : Nat) (ha : σ.1 15 = nI a) (ha2 : a < 48) (hj : j < 20) (hx24 : x < 24) (hd : σ.1 18 = nI d) (hd1 : 1 ≤ d) (hd6 : d ≤ 6) : x_MV l yX0_call cX0_call 5 1 21 D q cI cZ sz σ [.int (nI j), .int (nI x)] (fun σ' => σ' = wdCall a j x d σ) := by
  refine x_open (by decide) rfl (Nat.le_of_ble_eq_true rfl) ?_
  intro p e s m below meth c S hr hlk J ls hl
  have hx := S.1
  have hb := S.2.1
  have hl : lv_has ls 5 [(0, .ref (q 0)), (1, .int (nI j)), (2, .int (nI x))] := hl
  generalize s.heap = H at J ⊢
  generalize ([] : List Loc) = locs at J ⊢
  refine lv_aload_n hx hb dX0_call_0 rfl (lv_at hl 0 rfl) ?_
  refine x_g18 (v := nI d) S J hd dX0_call_1 ?_
  refine lv_bipush (v := 6) hx hb dX0_call_4 cb_6 ?_
  refine lv_icmp_lt (tgt := 16) hx hb dX0_call_6 (by decide) (fun c_6 => ?_) (fun c_6 => ?_)
  · have hd6 : d < 6 := (wd_lt d 6 6 (by omega) (by decide) rfl).mp c_6
    refine lv_aload_n hx hb dX0_call_16 rfl (lv_at hl 0 rfl) ?_
    refine x_r19 S J dX0_call_17 ?_
    refine lv_iload_n hx hb dX0_call_20 rfl (lv_at hl 2 rfl) ?_
    refine x_l19 (v := σ.2 19 x) S J x hx24 rfl dX0_call_21 ?_
    refine lv_istore_n (lv' := [(3, .int (σ.2 19 x)), (0, .ref (q 0)), (1, .int (nI j)), (2, .int (nI x))]) hx hb dX0_call_22 rfl hl (by decide) rfl (fun ls hl => ?_)
    refine lv_aload_n hx hb dX0_call_23 rfl (lv_at hl 1 rfl) ?_
    refine x_r20 S J dX0_call_24 ?_
    refine lv_aload_n hx hb dX0_call_27 rfl (lv_at hl 1 rfl) ?_
    refine x_g18 (v := nI d) S J hd dX0_call_28 ?_
    refine lv_aload_n hx hb dX0_call_31 rfl (lv_at hl 1 rfl) ?_
    refine x_g15 (v := nI a) S J ha dX0_call_32 ?_
    refine lv_iconst (v := 1) hx hb dX0_call_35 ci_1 ?_
    refine lv_iadd hx hb dX0_call_36 ?_
    refine wd_top (nI (a + 1)) (nI_1 _) ?_
    refine x_s20 S J d (by omega) dX0_call_37 (fun H locs J => ?_)
    refine lv_aload_n hx hb dX0_call_38 rfl (lv_at hl 1 rfl) ?_
    refine x_r21 S J dX0_call_39 ?_
    refine lv_aload_n hx hb dX0_call_42 rfl (lv_at hl 1 rfl) ?_
    refine x_g18 (v := nI d) S J hd dX0_call_43 ?_
    refine lv_aload_n hx hb dX0_call_46 rfl (lv_at hl 1 rfl) ?_
    refine x_r2 S J dX0_call_47 ?_
    refine lv_iload_n hx hb dX0_call_50 rfl (lv_at hl 2 rfl) ?_
    refine x_l2 (v := σ.2 2 j) S J j hj rfl dX0_call_51 ?_
    refine lv_iconst (v := 3) hx hb dX0_call_52 ci_3 ?_
    refine lv_iand hx hb dX0_call_53 ?_
    refine wd_top (nI (wd3 (σ.2 2 j))) (wd3_e _) ?_
    refine x_s21 S J d (by omega) dX0_call_54 (fun H locs J => ?_)
    refine lv_aload_n hx hb dX0_call_55 rfl (lv_at hl 1 rfl) ?_
    refine lv_dup hx hb dX0_call_56 rfl ?_
    refine x_g18 (v := nI d) S J hd dX0_call_57 ?_
    refine lv_iconst (v := 1) hx hb dX0_call_60 ci_1 ?_
    refine lv_iadd hx hb dX0_call_61 ?_
    refine wd_top (nI (d + 1)) (nI_1 _) ?_
    refine x_p18 S J dX0_call_62 (fun H locs J => ?_)
    refine lv_iconst (v := 0) hx hb dX0_call_65 ci_0 ?_
    refine lv_istore (lv' := [(4, .int 0), (3, .int (σ.2 19 x)), (0, .ref (q 0)), (1, .int (nI j)), (2, .int (nI x))]) hx hb dX0_call_66 hl (by decide) rfl (fun ls hl => ?_)
    refine lv_iload hx hb dX0_call_68 (lv_at hl 0 rfl) ?_
    refine lv_iconst (v := 4) hx hb dX0_call_70 ci_4 ?_
    refine lv_icmp_ge (tgt := 93) hx hb dX0_call_71 (by decide) (fun c_71 => ?_) (fun c_71 => ?_)
    · exact absurd c_71 (by decide)
    refine lv_aload_n hx hb dX0_call_74 rfl (lv_at hl 2 rfl) ?_
    refine x_r19 S J dX0_call_75 ?_
    refine lv_aload_n hx hb dX0_call_78 rfl (lv_at hl 2 rfl) ?_
    refine x_ci S J (xc_base l D q cI cZ _ _ (d + 1) rfl (by omega)) (xk_base S.2.2.2.2 ⟨Nat.le_of_ble_eq_true rfl, Nat.le_of_ble_eq_true rfl⟩) rfl hl.1 rfl (Nat.le_of_ble_eq_true rfl) dX0_call_79 ⟨Nat.zero_le _, Nat.zero_le _⟩ (fun r_b1 b1 H locs w_b1 J => ?_)
    obtain ⟨e_b1, w_b1⟩ := w_b1
    rw [e_b1] at J
    rw [Nat.add_sub_cancel] at w_b1
    refine wd_top (nI (d * 4)) w_b1 ?_
    refine lv_iload hx hb dX0_call_82 (lv_at hl 0 rfl) ?_
    refine lv_iadd hx hb dX0_call_84 ?_
    refine wd_top (nI (d * 4 + 0)) (nI_add (d * 4) 0) ?_
    refine lv_iconst (v := 0) hx hb dX0_call_85 ci_0 ?_
    refine x_s19 S J (d * 4 + 0) (by omega) dX0_call_86 (fun H locs J => ?_)
    refine lv_iinc (v := 1) (lv' := [(4, .int 1), (3, .int (σ.2 19 x)), (0, .ref (q 0)), (1, .int (nI j)), (2, .int (nI x))]) hx hb dX0_call_87 hl (k := 0) rfl (by decide) (by decide) rfl (fun ls hl => ?_)
    refine lv_goto (tgt := 68) hx hb dX0_call_90 (by decide) ?_
    refine lv_iload hx hb dX0_call_68 (lv_at hl 0 rfl) ?_
    refine lv_iconst (v := 4) hx hb dX0_call_70 ci_4 ?_
    refine lv_icmp_ge (tgt := 93) hx hb dX0_call_71 (by decide) (fun c_71 => ?_) (fun c_71 => ?_)
    · exact absurd c_71 (by decide)
    refine lv_aload_n hx hb dX0_call_74 rfl (lv_at hl 2 rfl) ?_
    refine x_r19 S J dX0_call_75 ?_
    refine lv_aload_n hx hb dX0_call_78 rfl (lv_at hl 2 rfl) ?_
    refine x_ci S J (xc_base l D q cI cZ _ _ (d + 1) rfl (by omega)) (xk_base S.2.2.2.2 ⟨Nat.le_of_ble_eq_true rfl, Nat.le_of_ble_eq_true rfl⟩) rfl hl.1 rfl (Nat.le_of_ble_eq_true rfl) dX0_call_79 ⟨Nat.zero_le _, Nat.zero_le _⟩ (fun r_b2 b2 H locs w_b2 J => ?_)
    obtain ⟨e_b2, w_b2⟩ := w_b2
    rw [e_b2] at J
    rw [Nat.add_sub_cancel] at w_b2
    refine wd_top (nI (d * 4)) w_b2 ?_
    refine lv_iload hx hb dX0_call_82 (lv_at hl 0 rfl) ?_
    refine lv_iadd hx hb dX0_call_84 ?_
    refine wd_top (nI (d * 4 + 1)) (nI_add (d * 4) 1) ?_
    refine lv_iconst (v := 0) hx hb dX0_call_85 ci_0 ?_
    refine x_s19 S J (d * 4 + 1) (by omega) dX0_call_86 (fun H locs J => ?_)
    refine lv_iinc (v := 2) (lv' := [(4, .int 2), (3, .int (σ.2 19 x)), (0, .ref (q 0)), (1, .int (nI j)), (2, .int (nI x))]) hx hb dX0_call_87 hl (k := 0) rfl (by decide) (by decide) rfl (fun ls hl => ?_)
    refine lv_goto (tgt := 68) hx hb dX0_call_90 (by decide) ?_
    refine lv_iload hx hb dX0_call_68 (lv_at hl 0 rfl) ?_
    refine lv_iconst (v := 4) hx hb dX0_call_70 ci_4 ?_
    refine lv_icmp_ge (tgt := 93) hx hb dX0_call_71 (by decide) (fun c_71 => ?_) (fun c_71 => ?_)
    · exact absurd c_71 (by decide)
    refine lv_aload_n hx hb dX0_call_74 rfl (lv_at hl 2 rfl) ?_
    refine x_r19 S J dX0_call_75 ?_
    refine lv_aload_n hx hb dX0_call_78 rfl (lv_at hl 2 rfl) ?_
    refine x_ci S J (xc_base l D q cI cZ _ _ (d + 1) rfl (by omega)) (xk_base S.2.2.2.2 ⟨Nat.le_of_ble_eq_true rfl, Nat.le_of_ble_eq_true rfl⟩) rfl hl.1 rfl (Nat.le_of_ble_eq_true rfl) dX0_call_79 ⟨Nat.zero_le _, Nat.zero_le _⟩ (fun r_b3 b3 H locs w_b3 J => ?_)
    obtain ⟨e_b3, w_b3⟩ := w_b3
    rw [e_b3] at J
    rw [Nat.add_sub_cancel] at w_b3
    refine wd_top (nI (d * 4)) w_b3 ?_
    refine lv_iload hx hb dX0_call_82 (lv_at hl 0 rfl) ?_
    refine lv_iadd hx hb dX0_call_84 ?_
    refine wd_top (nI (d * 4 + 2)) (nI_add (d * 4) 2) ?_
    refine lv_iconst (v := 0) hx hb dX0_call_85 ci_0 ?_
    refine x_s19 S J (d * 4 + 2) (by omega) dX0_call_86 (fun H locs J => ?_)
    refine lv_iinc (v := 3) (lv' := [(4, .int 3), (3, .int (σ.2 19 x)), (0, .ref (q 0)), (1, .int (nI j)), (2, .int (nI x))]) hx hb dX0_call_87 hl (k := 0) rfl (by decide) (by decide) rfl (fun ls hl => ?_)
    refine lv_goto (tgt := 68) hx hb dX0_call_90 (by decide) ?_
    refine lv_iload hx hb dX0_call_68 (lv_at hl 0 rfl) ?_
    refine lv_iconst (v := 4) hx hb dX0_call_70 ci_4 ?_
    refine lv_icmp_ge (tgt := 93) hx hb dX0_call_71 (by decide) (fun c_71 => ?_) (fun c_71 => ?_)
    · exact absurd c_71 (by decide)
    refine lv_aload_n hx hb dX0_call_74 rfl (lv_at hl 2 rfl) ?_
    refine x_r19 S J dX0_call_75 ?_
    refine lv_aload_n hx hb dX0_call_78 rfl (lv_at hl 2 rfl) ?_
    refine x_ci S J (xc_base l D q cI cZ _ _ (d + 1) rfl (by omega)) (xk_base S.2.2.2.2 ⟨Nat.le_of_ble_eq_true rfl, Nat.le_of_ble_eq_true rfl⟩) rfl hl.1 rfl (Nat.le_of_ble_eq_true rfl) dX0_call_79 ⟨Nat.zero_le _, Nat.zero_le _⟩ (fun r_b4 b4 H locs w_b4 J => ?_)
    obtain ⟨e_b4, w_b4⟩ := w_b4
    rw [e_b4] at J
    rw [Nat.add_sub_cancel] at w_b4
    refine wd_top (nI (d * 4)) w_b4 ?_
    refine lv_iload hx hb dX0_call_82 (lv_at hl 0 rfl) ?_
    refine lv_iadd hx hb dX0_call_84 ?_
    refine wd_top (nI (d * 4 + 3)) (nI_add (d * 4) 3) ?_
    refine lv_iconst (v := 0) hx hb dX0_call_85 ci_0 ?_
    refine x_s19 S J (d * 4 + 3) (by omega) dX0_call_86 (fun H locs J => ?_)
    refine lv_iinc (v := 4) (lv' := [(4, .int 4), (3, .int (σ.2 19 x)), (0, .ref (q 0)), (1, .int (nI j)), (2, .int (nI x))]) hx hb dX0_call_87 hl (k := 0) rfl (by decide) (by decide) rfl (fun ls hl => ?_)
    refine lv_goto (tgt := 68) hx hb dX0_call_90 (by decide) ?_
    refine lv_iload hx hb dX0_call_68 (lv_at hl 0 rfl) ?_
    refine lv_iconst (v := 4) hx hb dX0_call_70 ci_4 ?_
    refine lv_icmp_ge (tgt := 93) hx hb dX0_call_71 (by decide) (fun c_71 => ?_) (fun c_71 => absurd (by decide) c_71)
    refine lv_aload_n hx hb dX0_call_93 rfl (lv_at hl 2 rfl) ?_
    refine x_r19 S J dX0_call_94 ?_
    refine lv_aload_n hx hb dX0_call_97 rfl (lv_at hl 2 rfl) ?_
    refine x_ci S J (xc_base l D q cI cZ _ _ (d + 1) rfl (by omega)) (xk_base S.2.2.2.2 ⟨Nat.le_of_ble_eq_true rfl, Nat.le_of_ble_eq_true rfl⟩) rfl hl.1 rfl (Nat.le_of_ble_eq_true rfl) dX0_call_98 ⟨Nat.zero_le _, Nat.zero_le _⟩ (fun r_b5 b5 H locs w_b5 J => ?_)
    obtain ⟨e_b5, w_b5⟩ := w_b5
    rw [e_b5] at J
    rw [Nat.add_sub_cancel] at w_b5
    refine wd_top (nI (d * 4)) w_b5 ?_
    refine lv_iload_n hx hb dX0_call_101 rfl (lv_at hl 1 rfl) ?_
    refine x_s19 S J (d * 4) (by omega) dX0_call_102 (fun H locs J => ?_)
    refine lv_aload_n hx hb dX0_call_103 rfl (lv_at hl 2 rfl) ?_
    refine lv_iload_n hx hb dX0_call_104 rfl (lv_at hl 3 rfl) ?_
    refine x_cv S J (xc_jump l D q cI cZ _ _ a j ha ha2 hj) (xk_jump S.2.2.2.2 ⟨Nat.le_of_ble_eq_true rfl, Nat.le_of_ble_eq_true rfl⟩) rfl hl.1 rfl (Nat.le_of_ble_eq_true rfl) dX0_call_105 ⟨Nat.zero_le _, Nat.zero_le _⟩ (fun s9 H locs w_s9 J => ?_)
    exact x_vret S hr hlk J (by rw [wdCall, if_neg (show ¬ 6 ≤ d by omega)]; exact w_s9) dX0_call_108
  · refine lv_aload_n hx hb dX0_call_9 rfl (lv_at hl 0 rfl) ?_
    refine lv_bipush (v := 6) hx hb dX0_call_10 cb_6 ?_
    refine x_p14 S J dX0_call_12 (fun H locs J => ?_)
    exact x_vret S hr hlk J (by rw [wdCall, if_pos (Nat.not_lt.mp (fun h => c_6 ((wd_lt d 6 6 (by omega) (by decide) rfl).mpr h)))]) dX0_call_15
set_option maxHeartbeats 4000000 in
set_option maxRecDepth 100000 in
/-- giveBack() with d frames -/
theorem xc_giveBack (l : Launch) (D : va_G) (q : Nat → Nat) (cI cZ : ClassId) (sz : Nat) (σ : wdSt) (d t : Nat) (hd : σ.1 18 = nI d) (hd1 : 1 ≤ d) (hd6 : d ≤ 6) (ht : 2 ≤ d → σ.2 21 (d - 1) = nI t) (ht4 : t < 4) : x_MV l yX0_giveBack cX0_giveBack 2 1 20 D q cI cZ sz σ [] (fun σ' => σ' = wdGive d t σ) := by
  refine x_open (by decide) rfl (Nat.le_of_ble_eq_true rfl) ?_
  intro p e s m below meth c S hr hlk J ls hl
  have hx := S.1
  have hb := S.2.1
  have hl : lv_has ls 2 [(0, .ref (q 0))] := hl
  generalize s.heap = H at J ⊢
  generalize ([] : List Loc) = locs at J ⊢
  refine lv_aload_n hx hb dX0_giveBack_0 rfl (lv_at hl 0 rfl) ?_
  refine x_g18 (v := nI d) S J hd dX0_giveBack_1 ?_
  refine lv_iconst (v := 1) hx hb dX0_giveBack_4 ci_1 ?_
  refine lv_icmp_ne (tgt := 14) hx hb dX0_giveBack_5 (by decide) (fun c_5 => ?_) (fun c_5 => ?_)
  · have hd2 : 2 ≤ d := by
      rcases Nat.lt_or_ge d 2 with h | h
      · exact absurd (show nI d = 1 by rw [show d = 1 by omega]; rfl) c_5
      · exact h
    refine lv_aload_n hx hb dX0_giveBack_14 rfl (lv_at hl 0 rfl) ?_
    refine x_r19 S J dX0_giveBack_15 ?_
    refine lv_aload_n hx hb dX0_giveBack_18 rfl (lv_at hl 0 rfl) ?_
    refine x_ci S J (xc_base l D q cI cZ _ _ d hd hd1) (xk_base S.2.2.2.2 ⟨Nat.le_of_ble_eq_true rfl, Nat.le_of_ble_eq_true rfl⟩) rfl hl.1 rfl (Nat.le_of_ble_eq_true rfl) dX0_giveBack_19 ⟨Nat.zero_le _, Nat.zero_le _⟩ (fun r_b1 b1 H locs w_b1 J => ?_)
    obtain ⟨e_b1, w_b1⟩ := w_b1
    rw [e_b1] at J
    refine wd_top (nI ((d - 1) * 4)) w_b1 ?_
    refine x_l19 (v := σ.2 19 ((d - 1) * 4)) S J ((d - 1) * 4) (by omega) rfl dX0_giveBack_22 ?_
    refine lv_istore_n (lv' := [(1, .int (σ.2 19 ((d - 1) * 4))), (0, .ref (q 0))]) hx hb dX0_giveBack_23 rfl hl (by decide) rfl (fun ls hl => ?_)
    refine lv_aload_n hx hb dX0_giveBack_24 rfl (lv_at hl 1 rfl) ?_
    refine lv_dup hx hb dX0_giveBack_25 rfl ?_
    refine x_g18 (v := nI d) S J hd dX0_giveBack_26 ?_
    refine lv_iconst (v := 1) hx hb dX0_giveBack_29 ci_1 ?_
    refine lv_isub hx hb dX0_giveBack_30 ?_
    refine wd_top (nI (d - 1)) (wd_pred hd1) ?_
    refine x_p18 S J dX0_giveBack_31 (fun H locs J => ?_)
    refine lv_aload_n hx hb dX0_giveBack_34 rfl (lv_at hl 1 rfl) ?_
    refine x_r19 S J dX0_giveBack_35 ?_
    refine lv_aload_n hx hb dX0_giveBack_38 rfl (lv_at hl 1 rfl) ?_
    refine x_ci S J (xc_base l D q cI cZ _ _ (d - 1) rfl (by omega)) (xk_base S.2.2.2.2 ⟨Nat.le_of_ble_eq_true rfl, Nat.le_of_ble_eq_true rfl⟩) rfl hl.1 rfl (Nat.le_of_ble_eq_true rfl) dX0_giveBack_39 ⟨Nat.zero_le _, Nat.zero_le _⟩ (fun r_b2 b2 H locs w_b2 J => ?_)
    obtain ⟨e_b2, w_b2⟩ := w_b2
    rw [e_b2] at J
    refine wd_top (nI ((d - 1 - 1) * 4)) w_b2 ?_
    refine lv_aload_n hx hb dX0_giveBack_42 rfl (lv_at hl 1 rfl) ?_
    refine x_r21 S J dX0_giveBack_43 ?_
    refine lv_aload_n hx hb dX0_giveBack_46 rfl (lv_at hl 1 rfl) ?_
    refine x_g18 (v := nI (d - 1)) S J rfl dX0_giveBack_47 ?_
    refine x_l21 (v := nI t) S J (d - 1) (by omega) (ht hd2) dX0_giveBack_50 ?_
    refine lv_iadd hx hb dX0_giveBack_51 ?_
    refine wd_top (nI ((d - 1 - 1) * 4 + t)) (nI_add _ _) ?_
    refine lv_iload_n hx hb dX0_giveBack_52 rfl (lv_at hl 0 rfl) ?_
    refine x_s19 S J ((d - 1 - 1) * 4 + t) (by omega) dX0_giveBack_53 (fun H locs J => ?_)
    refine lv_aload_n hx hb dX0_giveBack_54 rfl (lv_at hl 1 rfl) ?_
    refine lv_aload_n hx hb dX0_giveBack_55 rfl (lv_at hl 1 rfl) ?_
    refine x_r20 S J dX0_giveBack_56 ?_
    refine lv_aload_n hx hb dX0_giveBack_59 rfl (lv_at hl 1 rfl) ?_
    refine x_g18 (v := nI (d - 1)) S J rfl dX0_giveBack_60 ?_
    refine x_l20 (v := σ.2 20 (d - 1)) S J (d - 1) (by omega) rfl dX0_giveBack_63 ?_
    refine x_p15 S J dX0_giveBack_64 (fun H locs J => ?_)
    exact x_vret S hr hlk J (by rw [wdGive, if_neg (by omega)]) dX0_giveBack_67
  · refine lv_aload_n hx hb dX0_giveBack_8 rfl (lv_at hl 0 rfl) ?_
    refine lv_iconst (v := 5) hx hb dX0_giveBack_9 ci_5 ?_
    refine x_p14 S J dX0_giveBack_10 (fun H locs J => ?_)
    exact x_vret S hr hlk J ((if_pos ((wd_eq d 1 1 (by omega) (by decide) rfl).mp c_5)).symm) dX0_giveBack_13
end
section
/-! what WovenDebuggerModel computes, plainly -/
def wdCnt (P : Nat → Bool) : Nat → Nat
  | 0 => 0
  | n + 1 => wdCnt P n + (if P n then 1 else 0)
theorem wdCnt_le (P : Nat → Bool) : ∀ n, wdCnt P n ≤ n
  | 0 => Nat.le_refl _
  | n + 1 => by
    have := wdCnt_le P n
    unfold wdCnt
    split <;> omega
/-- p names no instruction -/
def wdBad (L : Nat) (v : Int32) : Prop := v < 0 ∨ ¬ v < nI L
theorem wdBad_dec (L : Nat) (v : Int32) : wdBad L v ∨ ¬ wdBad L v := Classical.em _
theorem wdBad_0 {L : Nat} {v r : Int32} (h : wdNI L v r) (hL : L ≤ 20) (hr : r = 0) : ¬ (v < 0 ∨ ¬ v < nI L) := by
  obtain ⟨j, hj, rfl⟩ := wdNI_z h hr
  intro h
  rcases h with h | h
  · exact nI_pos (by omega) h
  · exact h (nI_lt hj (by omega))
theorem wdBad_1 {L : Nat} {v r : Int32} (h : wdNI L v r) (hL : L ≤ 20) (hr : ¬ r = 0) : v < 0 ∨ ¬ v < nI L := by
  obtain ⟨-, h⟩ := wdNI_1 h hr
  by_cases h0 : v < 0
  · exact Or.inl h0
  · refine Or.inr (fun h2 => ?_)
    obtain ⟨j, hj, rfl⟩ := nI_of h0
    exact h j ((nI_ltI hj (by omega)).mp h2) rfl
theorem wdBad_in {L j : Nat} (hL : L ≤ 20) (hj : j < L) : ¬ (nI j < 0 ∨ ¬ nI j < nI L) := by
  intro h
  rcases h with h | h
  · exact nI_pos (by omega) h
  · exact h (nI_lt hj (by omega))
theorem wdBad_ex {L : Nat} {v : Int32} (hL : L ≤ 20) (h : ¬ (v < 0 ∨ ¬ v < nI L)) : ∃ j, j < L ∧ v = nI j := by
  have h0 : ¬ v < 0 := fun q => h (Or.inl q)
  obtain ⟨j, hj, rfl⟩ := nI_of h0
  exact ⟨j, (nI_ltI hj (by omega)).mp (Classical.not_not.mp (fun q => h (Or.inr q))), rfl⟩
theorem wdBad_no {L : Nat} {v : Int32} (hL : L ≤ 20) (h : v < 0 ∨ ¬ v < nI L) : ∀ j, j < L → v ≠ nI j := by
  intro j hj e
  rw [e] at h
  exact wdBad_in hL hj h
def yEmit (L : Nat) (o a b : Int32) (τ : wdSt) : Int32 × wdSt :=
  if o < 0 ∨ ¬ o ≤ 10 then (-1, τ) else if nI L = 20 then (-2, τ) else if τ.1 5 = 0 then (nI L, wdS (wdA (wdA (wdA τ 0 L o) 1 L a) 2 L b) 3 (nI (L + 1))) else (-3, τ)
def yStart (L : Nat) (v : Int32) (τ : wdSt) : Int32 × wdSt :=
  if v < 0 ∨ ¬ v < nI L then (-3, τ) else (0, wdS (wdS (wdS (wdA (wdA (wdA (wdA (wdS τ 6 1) 7 0 0) 7 1 0) 7 2 0) 7 3 0) 10 v) 11 0) 5 1)
/-- the number of breakpoints -/
def yBr (f : Nat → Int32) : Nat → Nat := wdCnt (fun i => decide (0 ≤ f i))
def ySet (L : Nat) (v k : Int32) (τ : wdSt) : Int32 × wdSt :=
  if v < 0 ∨ ¬ v < nI L then (-3, τ) else if k < 0 ∨ ¬ k ≤ 100 then (-1, τ) else (nI (yBr (upd (τ.2 4) v.toNatClampNeg k) 20), wdA τ 4 v.toNatClampNeg k)
def yClear (L : Nat) (v : Int32) (τ : wdSt) : Int32 × wdSt :=
  if v < 0 ∨ ¬ v < nI L then (-3, τ) else if 0 ≤ τ.2 4 v.toNatClampNeg then (nI (yBr (upd (τ.2 4) v.toNatClampNeg (-1)) 20), wdA τ 4 v.toNatClampNeg (-1)) else (-3, τ)
def yNext (L : Nat) (v : Int32) (τ : wdSt) : wdSt := if v < 0 ∨ ¬ v < nI L then wdS (wdS τ 10 v) 5 6 else wdS τ 10 v
def yOut (v : Int32) (τ : wdSt) : wdSt :=
  wdS (wdA (wdA (wdA (wdA (wdA (wdA (wdA (wdA τ 12 7 (τ.2 12 6)) 12 6 (τ.2 12 5)) 12 5 (τ.2 12 4)) 12 4 (τ.2 12 3)) 12 3 (τ.2 12 2)) 12 2 (τ.2 12 1)) 12 1 (τ.2 12 0)) 12 0 v) 11 (τ.1 11 + 1)
def yCall (c d x : Nat) (τ : wdSt) : wdSt :=
  wdS (wdA (wdA (wdA (wdA (wdA (wdA τ 8 (d - 1) (nI (c + 1))) 9 (d - 1) (nI (wd3 (τ.2 1 c)))) 7 ((d - 1) * 4 + 4) (τ.2 7 x)) 7 ((d - 1) * 4 + 5) 0) 7 ((d - 1) * 4 + 6) 0) 7 ((d - 1) * 4 + 7) 0) 6 (nI (d + 1))
def yRet (d t : Nat) (τ : wdSt) : wdSt := wdA (wdS τ 6 (nI (d - 1))) 7 ((d - 1) * 4 - 4 + t) (τ.2 7 ((d - 1) * 4))
/-- carryOut at the counter c with d frames in a program of L instructions -/
def yCarry (L c d : Nat) (τ : wdSt) : wdSt :=
  if τ.2 0 c = 0 then yNext L (nI (c + 1)) (wdA τ 7 ((d - 1) * 4 + wd3 (τ.2 1 c)) (τ.2 2 c))
  else if τ.2 0 c = 1 then yNext L (nI (c + 1)) (wdA τ 7 ((d - 1) * 4 + wd3 (τ.2 1 c)) (τ.2 7 ((d - 1) * 4 + wd3 (τ.2 2 c))))
  else if τ.2 0 c = 2 then yNext L (nI (c + 1)) (wdA τ 7 ((d - 1) * 4 + wd3 (τ.2 1 c)) (τ.2 7 ((d - 1) * 4 + wd3 (τ.2 1 c)) + τ.2 7 ((d - 1) * 4 + wd3 (τ.2 2 c))))
  else if τ.2 0 c = 3 then yNext L (nI (c + 1)) (wdA τ 7 ((d - 1) * 4 + wd3 (τ.2 1 c)) (τ.2 7 ((d - 1) * 4 + wd3 (τ.2 1 c)) - τ.2 7 ((d - 1) * 4 + wd3 (τ.2 2 c))))
  else if τ.2 0 c = 4 then yNext L (nI (c + 1)) (wdA τ 7 ((d - 1) * 4 + wd3 (τ.2 1 c)) (τ.2 7 ((d - 1) * 4 + wd3 (τ.2 1 c)) * τ.2 7 ((d - 1) * 4 + wd3 (τ.2 2 c))))
  else if τ.2 0 c = 5 then yNext L (τ.2 2 c) τ
  else if τ.2 0 c = 6 then yNext L (if τ.2 7 ((d - 1) * 4 + wd3 (τ.2 1 c >>> ((2 : Int32) &&& 31))) ≤ τ.2 7 ((d - 1) * 4 + wd3 (τ.2 1 c)) then nI (c + 1) else τ.2 2 c) τ
  else if τ.2 0 c = 7 then yNext L (if τ.2 7 ((d - 1) * 4 + wd3 (τ.2 1 c)) = 0 then τ.2 2 c else nI (c + 1)) τ
  else if τ.2 0 c = 8 then (if d = 6 then wdS τ 5 6 else yNext L (τ.2 2 c) (yCall c d ((d - 1) * 4 + wd3 (τ.2 1 c)) τ))
  else if τ.2 0 c = 9 then (if d = 1 then wdS τ 5 5 else yNext L (τ.2 8 (d - 1 - 1)) (yRet d (τ.2 9 (d - 1 - 1)).toNatClampNeg τ))
  else yNext L (nI (c + 1)) (yOut (τ.2 7 ((d - 1) * 4 + wd3 (τ.2 1 c))) τ)
/-- what run does behind carryOut, at the n-th instruction: does it stop, and how it stands -/
def yAft (goal most : Int32) (n : Nat) (τ : wdSt) : Bool × wdSt :=
  if τ.1 5 = 5 ∨ τ.1 5 = 6 then (true, τ)
  else if ¬ goal < τ.1 6 then (true, wdS τ 5 2)
  else if τ.2 4 (τ.1 10).toNatClampNeg = 0 then (true, wdS τ 5 3)
  else if τ.2 4 (τ.1 10).toNatClampNeg ≤ 0 then (if nI n = most then (true, wdS τ 5 4) else (false, τ))
  else (if nI n = most then (true, wdS (wdA τ 4 (τ.1 10).toNatClampNeg (τ.2 4 (τ.1 10).toNatClampNeg - 1)) 5 4) else (false, wdA τ 4 (τ.1 10).toNatClampNeg (τ.2 4 (τ.1 10).toNatClampNeg - 1)))
def yC (L : Nat) (τ : wdSt) : wdSt := yCarry L (τ.1 10).toNatClampNeg (τ.1 6).toNatClampNeg τ
theorem yC_e {L c d : Nat} {τ : wdSt} (hc : τ.1 10 = nI c) (hc2 : c < 2 ^ 31) (hd : τ.1 6 = nI d) (hd2 : d < 2 ^ 31) : yC L τ = yCarry L c d τ := by
  rw [yC, hc, hd, nI_clamp hc2, nI_clamp hd2]
def yLoop (L : Nat) (goal most : Int32) : Nat → Nat → wdSt → Int32 × wdSt
  | 0, _, τ => (300, τ)
  | k + 1, n, τ => if (yAft goal most n (yC L τ)).1 = true then (nI n, (yAft goal most n (yC L τ)).2) else yLoop L goal most k (n + 1) (yAft goal most n (yC L τ)).2
def yRun (L : Nat) (v goal : Int32) (τ : wdSt) : Int32 × wdSt := if τ.1 5 = 0 ∨ τ.1 5 = 5 ∨ τ.1 5 = 6 then (-4, τ) else yLoop L goal (wdCl v) 300 1 τ
/-- a running model: what its walk rests on -/
def yI (L : Nat) (τ : wdSt) : Prop := τ.1 3 = nI L ∧ L ≤ 20 ∧ (∃ d, 1 ≤ d ∧ d ≤ 6 ∧ τ.1 6 = nI d) ∧ (∃ c, c < L ∧ τ.1 10 = nI c) ∧ ∀ f, f < 6 → ∃ g, g < 4 ∧ τ.2 9 f = nI g
theorem wd1_s (σ : wdSt) (k : Nat) (v : Int32) : (wdS σ k v).1 k = v := if_pos rfl
theorem wd1_n (σ : wdSt) {k j : Nat} (v : Int32) (h : ¬ j = k) : (wdS σ k v).1 j = σ.1 j := if_neg h
theorem wd1_a (σ : wdSt) (k i : Nat) (v : Int32) : (wdA σ k i v).1 = σ.1 := rfl
theorem wd2_s (σ : wdSt) (k : Nat) (v : Int32) : (wdS σ k v).2 = σ.2 := rfl
theorem wd2_a (σ : wdSt) (k i : Nat) (v : Int32) : (wdA σ k i v).2 k = upd (σ.2 k) i v := if_pos rfl
theorem wd2_n (σ : wdSt) {k j : Nat} (i : Nat) (v : Int32) (h : ¬ j = k) : (wdA σ k i v).2 j = σ.2 j := if_neg h
end
section
/-! contracts of WovenDebuggerModel: written by gen/gen_y.py -/
theorem yk_noInstruction {R : Room} {s : State} {args : Array Value} (hts : ∀ w ∈ lw_all, w.before args s = true) (hR : 0 + 1 ≤ R.frames ∧ 8 + (2 + 11) + 0 ≤ R.locals) : CallW R s args RX1 RX1 41 yX1_noInstruction cX1_noInstruction 2 (some .boolean) (ws_ yX1_noInstruction cX1_noInstruction 2 (some .boolean)) (wdRm 0 0) 0 0 1 := cwV 1 hts (lw_V q292 q294 qs16 q23 q295) rfl rfl rfl (by decide +kernel) hR
theorem yk_breaks {R : Room} {s : State} {args : Array Value} (hts : ∀ w ∈ lw_all, w.before args s = true) (hR : 0 + 1 ≤ R.frames ∧ 8 + (3 + 11) + 0 ≤ R.locals) : CallW R s args RX1 RX1 54 yX1_breaks cX1_breaks 3 (some .int) (ws_ yX1_breaks cX1_breaks 3 (some .int)) (wdRm 0 0) 0 0 0 := cwV 0 hts (lw_V q300 q302 qs17 q23 q303) rfl rfl rfl (by decide +kernel) hR
theorem yk_run {R : Room} {s : State} {args : Array Value} (hts : ∀ w ∈ lw_all, w.before args s = true) (hR : 2 + 1 ≤ R.frames ∧ 8 + (5 + 11) + 49 ≤ R.locals) : CallW R s args RX1 RX1 65 yX1_run cX1_run 5 (some .int) (ws_ yX1_run cX1_run 5 (some .int)) (wdRm 2 49) 0 0 2 := cwV 2 hts (lw_V q312 q314 qs18 q23 q315) rfl rfl rfl (by decide +kernel) hR
theorem yk_carryOut {R : Room} {s : State} {args : Array Value} (hts : ∀ w ∈ lw_all, w.before args s = true) (hR : 1 + 1 ≤ R.frames ∧ 8 + (8 + 11) + 22 ≤ R.locals) : CallW R s args RX1 RX1 62 yX1_carryOut cX1_carryOut 8 none (ws_ yX1_carryOut cX1_carryOut 8 none) (wdRm 1 22) 0 0 0 := cwV 0 hts (lw_V q316 q318 qs19 q23 q319) rfl rfl rfl (by decide +kernel) hR
theorem yk_out {R : Room} {s : State} {args : Array Value} (hts : ∀ w ∈ lw_all, w.before args s = true) (hR : 0 + 1 ≤ R.frames ∧ 8 + (3 + 11) + 0 ≤ R.locals) : CallW R s args RX1 RX1 58 yX1_out cX1_out 3 none (ws_ yX1_out cX1_out 3 none) (wdRm 0 0) 0 0 1 := cwV 1 hts (lw_V q320 q322 qs20 q23 q323) rfl rfl rfl (by decide +kernel) hR
set_option maxHeartbeats 4000000 in
set_option maxRecDepth 100000 in
theorem yc_noInstruction (l : Launch) (D : va_G) (q : Nat → Nat) (cI cZ : ClassId) (sz : Nat) (σ : wdSt) (L : Nat) (hL : σ.1 3 = nI L) (hL2 : L ≤ 20) (p1 : Int32) : y_MI l yX1_noInstruction cX1_noInstruction 2 .boolean 0 0 D q cI cZ sz σ [.int p1] (fun r σ' => σ' = σ ∧ wdNI L p1 r) := by
  refine y_open (by decide) rfl (Nat.le_of_ble_eq_true rfl) ?_
  intro p e s m below meth c S hr hlk J ls hl
  have hx := S.1
  have hb := S.2.1
  have hl : lv_has ls 2 [(0, .ref (q 0)), (1, .int p1)] := hl
  generalize s.heap = H at J ⊢
  generalize ([] : List Loc) = locs at J ⊢
  refine lv_iload_n hx hb dX1_noInstruction_0 rfl (lv_at hl 1 rfl) ?_
  refine lv_if_lt (tgt := 12) hx hb dX1_noInstruction_1 (by decide) (fun c_1 => ?_) (fun c_1 => ?_)
  · refine lv_iconst (v := 1) hx hb dX1_noInstruction_12 ci_1 ?_
    refine lv_goto (tgt := 17) hx hb dX1_noInstruction_13 (by decide) ?_
    exact y_zret (v := 1) S hr hlk J rfl (⟨rfl, wdNI_a hL2 c_1⟩) dX1_noInstruction_17
  · refine lv_iload_n hx hb dX1_noInstruction_4 rfl (lv_at hl 1 rfl) ?_
    refine lv_aload_n hx hb dX1_noInstruction_5 rfl (lv_at hl 0 rfl) ?_
    refine y_g3 (v := nI L) S J hL dX1_noInstruction_6 ?_
    refine lv_icmp_lt (tgt := 16) hx hb dX1_noInstruction_9 (by decide) (fun c_9 => ?_) (fun c_9 => ?_)
    · refine lv_iconst (v := 0) hx hb dX1_noInstruction_16 ci_0 ?_
      exact y_zret (v := 0) S hr hlk J rfl (⟨rfl, wdNI_b hL2 c_1 c_9⟩) dX1_noInstruction_17
    · refine lv_iconst (v := 1) hx hb dX1_noInstruction_12 ci_1 ?_
      refine lv_goto (tgt := 17) hx hb dX1_noInstruction_13 (by decide) ?_
      exact y_zret (v := 1) S hr hlk J rfl (⟨rfl, wdNI_c hL2 c_9⟩) dX1_noInstruction_17
set_option maxHeartbeats 4000000 in
set_option maxRecDepth 100000 in
theorem yc_state (l : Launch) (D : va_G) (q : Nat → Nat) (cI cZ : ClassId) (sz : Nat) (σ : wdSt) : y_MI l yX1_state cX1_state 1 .int 0 0 D q cI cZ sz σ [] (fun r σ' => σ' = σ ∧ r = σ.1 5) := by
  refine y_open (by decide) rfl (Nat.le_of_ble_eq_true rfl) ?_
  intro p e s m below meth c S hr hlk J ls hl
  have hx := S.1
  have hb := S.2.1
  have hl : lv_has ls 1 [(0, .ref (q 0))] := hl
  generalize s.heap = H at J ⊢
  generalize ([] : List Loc) = locs at J ⊢
  refine lv_aload_n hx hb dX1_state_0 rfl (lv_at hl 0 rfl) ?_
  refine y_g5 (v := σ.1 5) S J rfl dX1_state_1 ?_
  exact y_iret (v := σ.1 5) S hr hlk J (⟨rfl, rfl⟩) dX1_state_4
set_option maxHeartbeats 4000000 in
set_option maxRecDepth 100000 in
theorem yc_depth (l : Launch) (D : va_G) (q : Nat → Nat) (cI cZ : ClassId) (sz : Nat) (σ : wdSt) : y_MI l yX1_depth cX1_depth 1 .int 0 0 D q cI cZ sz σ [] (fun r σ' => σ' = σ ∧ r = σ.1 6) := by
  refine y_open (by decide) rfl (Nat.le_of_ble_eq_true rfl) ?_
  intro p e s m below meth c S hr hlk J ls hl
  have hx := S.1
  have hb := S.2.1
  have hl : lv_has ls 1 [(0, .ref (q 0))] := hl
  generalize s.heap = H at J ⊢
  generalize ([] : List Loc) = locs at J ⊢
  refine lv_aload_n hx hb dX1_depth_0 rfl (lv_at hl 0 rfl) ?_
  refine y_g6 (v := σ.1 6) S J rfl dX1_depth_1 ?_
  exact y_iret (v := σ.1 6) S hr hlk J (⟨rfl, rfl⟩) dX1_depth_4
set_option maxHeartbeats 4000000 in
set_option maxRecDepth 100000 in
theorem yc_outputs (l : Launch) (D : va_G) (q : Nat → Nat) (cI cZ : ClassId) (sz : Nat) (σ : wdSt) : y_MI l yX1_outputs cX1_outputs 1 .int 0 0 D q cI cZ sz σ [] (fun r σ' => σ' = σ ∧ r = σ.1 11) := by
  refine y_open (by decide) rfl (Nat.le_of_ble_eq_true rfl) ?_
  intro p e s m below meth c S hr hlk J ls hl
  have hx := S.1
  have hb := S.2.1
  have hl : lv_has ls 1 [(0, .ref (q 0))] := hl
  generalize s.heap = H at J ⊢
  generalize ([] : List Loc) = locs at J ⊢
  refine lv_aload_n hx hb dX1_outputs_0 rfl (lv_at hl 0 rfl) ?_
  refine y_g11 (v := σ.1 11) S J rfl dX1_outputs_1 ?_
  exact y_iret (v := σ.1 11) S hr hlk J (⟨rfl, rfl⟩) dX1_outputs_4
set_option maxHeartbeats 4000000 in
set_option maxRecDepth 100000 in
theorem yc_emit (l : Launch) (D : va_G) (q : Nat → Nat) (cI cZ : ClassId) (sz : Nat) (σ : wdSt) (L : Nat) (hL : σ.1 3 = nI L) (hL2 : L ≤ 20) (p1 p2 p3 : Int32) : y_MI l yX1_emit cX1_emit 4 .int 0 0 D q cI cZ sz σ [.int p1, .int p2, .int p3] (fun r σ' => (r, σ') = yEmit L p1 p2 p3 σ) := by
  refine y_open (by decide) rfl (Nat.le_of_ble_eq_true rfl) ?_
  intro p e s m below meth c S hr hlk J ls hl
  have hx := S.1
  have hb := S.2.1
  have hl : lv_has ls 4 [(0, .ref (q 0)), (1, .int p1), (2, .int p2), (3, .int p3)] := hl
  generalize s.heap = H at J ⊢
  generalize ([] : List Loc) = locs at J ⊢
  refine lv_iload_n hx hb dX1_emit_0 rfl (lv_at hl 1 rfl) ?_
  refine lv_if_lt (tgt := 10) hx hb dX1_emit_1 (by decide) (fun c_1 => ?_) (fun c_1 => ?_)
  · refine lv_iconst (v := -1) hx hb dX1_emit_10 ci_m1 ?_
    exact y_iret (v := (-1)) S hr hlk J (by rw [yEmit, if_pos (Or.inl c_1)]) dX1_emit_11
  · refine lv_iload_n hx hb dX1_emit_4 rfl (lv_at hl 1 rfl) ?_
    refine lv_bipush (v := 10) hx hb dX1_emit_5 cb_10 ?_
    refine lv_icmp_le (tgt := 12) hx hb dX1_emit_7 (by decide) (fun c_7 => ?_) (fun c_7 => ?_)
    · refine lv_aload_n hx hb dX1_emit_12 rfl (lv_at hl 0 rfl) ?_
      refine y_g3 (v := nI L) S J hL dX1_emit_13 ?_
      refine lv_bipush (v := 20) hx hb dX1_emit_16 cb_20 ?_
      refine lv_icmp_ne (tgt := 24) hx hb dX1_emit_18 (by decide) (fun c_18 => ?_) (fun c_18 => ?_)
      · refine lv_aload_n hx hb dX1_emit_24 rfl (lv_at hl 0 rfl) ?_
        refine y_g5 (v := σ.1 5) S J rfl dX1_emit_25 ?_
        refine lv_if_eq (tgt := 34) hx hb dX1_emit_28 (by decide) (fun c_28 => ?_) (fun c_28 => ?_)
        · have hL19 : L < 20 := Nat.lt_of_le_of_ne hL2 (fun h => c_18 (by rw [h]; rfl))
          refine lv_aload_n hx hb dX1_emit_34 rfl (lv_at hl 0 rfl) ?_
          refine y_r0 S J dX1_emit_35 ?_
          refine lv_aload_n hx hb dX1_emit_38 rfl (lv_at hl 0 rfl) ?_
          refine y_g3 (v := nI L) S J hL dX1_emit_39 ?_
          refine lv_iload_n hx hb dX1_emit_42 rfl (lv_at hl 1 rfl) ?_
          refine y_s0 S J L (by omega) dX1_emit_43 (fun H locs J => ?_)
          refine lv_aload_n hx hb dX1_emit_44 rfl (lv_at hl 0 rfl) ?_
          refine y_r1 S J dX1_emit_45 ?_
          refine lv_aload_n hx hb dX1_emit_48 rfl (lv_at hl 0 rfl) ?_
          refine y_g3 (v := nI L) S J hL dX1_emit_49 ?_
          refine lv_iload_n hx hb dX1_emit_52 rfl (lv_at hl 2 rfl) ?_
          refine y_s1 S J L (by omega) dX1_emit_53 (fun H locs J => ?_)
          refine lv_aload_n hx hb dX1_emit_54 rfl (lv_at hl 0 rfl) ?_
          refine y_r2 S J dX1_emit_55 ?_
          refine lv_aload_n hx hb dX1_emit_58 rfl (lv_at hl 0 rfl) ?_
          refine y_g3 (v := nI L) S J hL dX1_emit_59 ?_
          refine lv_iload_n hx hb dX1_emit_62 rfl (lv_at hl 3 rfl) ?_
          refine y_s2 S J L (by omega) dX1_emit_63 (fun H locs J => ?_)
          refine lv_aload_n hx hb dX1_emit_64 rfl (lv_at hl 0 rfl) ?_
          refine lv_aload_n hx hb dX1_emit_65 rfl (lv_at hl 0 rfl) ?_
          refine y_g3 (v := nI L) S J hL dX1_emit_66 ?_
          refine lv_iconst (v := 1) hx hb dX1_emit_69 ci_1 ?_
          refine lv_iadd hx hb dX1_emit_70 ?_
          refine wd_top (nI (L + 1)) (nI_1 _) ?_
          refine y_p3 S J dX1_emit_71 (fun H locs J => ?_)
          refine lv_aload_n hx hb dX1_emit_74 rfl (lv_at hl 0 rfl) ?_
          refine y_g3 (v := nI (L + 1)) S J rfl dX1_emit_75 ?_
          refine lv_iconst (v := 1) hx hb dX1_emit_78 ci_1 ?_
          refine lv_isub hx hb dX1_emit_79 ?_
          refine wd_top (nI L) (wd_pred (by omega)) ?_
          exact y_iret (v := nI L) S hr hlk J (by rw [yEmit, if_neg (fun h => h.elim c_1 (fun h => h c_7)), if_neg c_18, if_pos c_28]) dX1_emit_80
        · refine lv_bipush (v := -3) hx hb dX1_emit_31 cb_m3 ?_
          exact y_iret (v := (-3)) S hr hlk J (by rw [yEmit, if_neg (fun h => h.elim c_1 (fun h => h c_7)), if_neg c_18, if_neg c_28]) dX1_emit_33
      · refine lv_bipush (v := -2) hx hb dX1_emit_21 cb_m2 ?_
        exact y_iret (v := (-2)) S hr hlk J (by rw [yEmit, if_neg (fun h => h.elim c_1 (fun h => h c_7)), if_pos c_18]) dX1_emit_23
    · refine lv_iconst (v := -1) hx hb dX1_emit_10 ci_m1 ?_
      exact y_iret (v := (-1)) S hr hlk J (by rw [yEmit, if_pos (Or.inr c_7)]) dX1_emit_11
set_option maxHeartbeats 4000000 in
set_option maxRecDepth 100000 in
theorem yc_start (l : Launch) (D : va_G) (q : Nat → Nat) (cI cZ : ClassId) (sz : Nat) (σ : wdSt) (L : Nat) (hL : σ.1 3 = nI L) (hL2 : L ≤ 20) (p1 : Int32) : y_MI l yX1_start cX1_start 3 .int 1 21 D q cI cZ sz σ [.int p1] (fun r σ' => (r, σ') = yStart L p1 σ) := by
  refine y_open (by decide) rfl (Nat.le_of_ble_eq_true rfl) ?_
  intro p e s m below meth c S hr hlk J ls hl
  have hx := S.1
  have hb := S.2.1
  have hl : lv_has ls 3 [(0, .ref (q 0)), (1, .int p1)] := hl
  generalize s.heap = H at J ⊢
  generalize ([] : List Loc) = locs at J ⊢
  refine lv_aload_n hx hb dX1_start_0 rfl (lv_at hl 0 rfl) ?_
  refine lv_iload_n hx hb dX1_start_1 rfl (lv_at hl 1 rfl) ?_
  refine y_ci S J (yc_noInstruction l D q cI cZ _ _ L hL hL2 p1) (yk_noInstruction S.2.2.2.2 ⟨Nat.le_of_ble_eq_true rfl, Nat.le_of_ble_eq_true rfl⟩) rfl hl.1 rfl (Nat.le_of_ble_eq_true rfl) dX1_start_2 ⟨Nat.zero_le _, Nat.zero_le _⟩ (fun r_s1 s1 H locs w_s1 J => ?_)
  obtain ⟨e_s1, w_s1⟩ := w_s1
  rw [e_s1] at J
  refine lv_if_eq (tgt := 11) hx hb dX1_start_5 (by decide) (fun c_5 => ?_) (fun c_5 => ?_)
  · refine lv_aload_n hx hb dX1_start_11 rfl (lv_at hl 0 rfl) ?_
    refine lv_iconst (v := 1) hx hb dX1_start_12 ci_1 ?_
    refine y_p6 S J dX1_start_13 (fun H locs J => ?_)
    refine lv_iconst (v := 0) hx hb dX1_start_16 ci_0 ?_
    refine lv_istore_n (lv' := [(2, .int 0), (0, .ref (q 0)), (1, .int p1)]) hx hb dX1_start_17 rfl hl (by decide) rfl (fun ls hl => ?_)
    refine lv_iload_n hx hb dX1_start_18 rfl (lv_at hl 0 rfl) ?_
    refine lv_iconst (v := 4) hx hb dX1_start_19 ci_4 ?_
    refine lv_icmp_ge (tgt := 36) hx hb dX1_start_20 (by decide) (fun c_20 => ?_) (fun c_20 => ?_)
    · exact absurd c_20 (by decide)
    refine lv_aload_n hx hb dX1_start_23 rfl (lv_at hl 1 rfl) ?_
    refine y_r7 S J dX1_start_24 ?_
    refine lv_iload_n hx hb dX1_start_27 rfl (lv_at hl 0 rfl) ?_
    refine lv_iconst (v := 0) hx hb dX1_start_28 ci_0 ?_
    refine y_s7 S J 0 (by decide) dX1_start_29 (fun H locs J => ?_)
    refine lv_iinc (v := 1) (lv' := [(2, .int 1), (0, .ref (q 0)), (1, .int p1)]) hx hb dX1_start_30 hl (k := 0) rfl (by decide) (by decide) rfl (fun ls hl => ?_)
    refine lv_goto (tgt := 18) hx hb dX1_start_33 (by decide) ?_
    refine lv_iload_n hx hb dX1_start_18 rfl (lv_at hl 0 rfl) ?_
    refine lv_iconst (v := 4) hx hb dX1_start_19 ci_4 ?_
    refine lv_icmp_ge (tgt := 36) hx hb dX1_start_20 (by decide) (fun c_20 => ?_) (fun c_20 => ?_)
    · exact absurd c_20 (by decide)
    refine lv_aload_n hx hb dX1_start_23 rfl (lv_at hl 1 rfl) ?_
    refine y_r7 S J dX1_start_24 ?_
    refine lv_iload_n hx hb dX1_start_27 rfl (lv_at hl 0 rfl) ?_
    refine lv_iconst (v := 0) hx hb dX1_start_28 ci_0 ?_
    refine y_s7 S J 1 (by decide) dX1_start_29 (fun H locs J => ?_)
    refine lv_iinc (v := 2) (lv' := [(2, .int 2), (0, .ref (q 0)), (1, .int p1)]) hx hb dX1_start_30 hl (k := 0) rfl (by decide) (by decide) rfl (fun ls hl => ?_)
    refine lv_goto (tgt := 18) hx hb dX1_start_33 (by decide) ?_
    refine lv_iload_n hx hb dX1_start_18 rfl (lv_at hl 0 rfl) ?_
    refine lv_iconst (v := 4) hx hb dX1_start_19 ci_4 ?_
    refine lv_icmp_ge (tgt := 36) hx hb dX1_start_20 (by decide) (fun c_20 => ?_) (fun c_20 => ?_)
    · exact absurd c_20 (by decide)
    refine lv_aload_n hx hb dX1_start_23 rfl (lv_at hl 1 rfl) ?_
    refine y_r7 S J dX1_start_24 ?_
    refine lv_iload_n hx hb dX1_start_27 rfl (lv_at hl 0 rfl) ?_
    refine lv_iconst (v := 0) hx hb dX1_start_28 ci_0 ?_
    refine y_s7 S J 2 (by decide) dX1_start_29 (fun H locs J => ?_)
    refine lv_iinc (v := 3) (lv' := [(2, .int 3), (0, .ref (q 0)), (1, .int p1)]) hx hb dX1_start_30 hl (k := 0) rfl (by decide) (by decide) rfl (fun ls hl => ?_)
    refine lv_goto (tgt := 18) hx hb dX1_start_33 (by decide) ?_
    refine lv_iload_n hx hb dX1_start_18 rfl (lv_at hl 0 rfl) ?_
    refine lv_iconst (v := 4) hx hb dX1_start_19 ci_4 ?_
    refine lv_icmp_ge (tgt := 36) hx hb dX1_start_20 (by decide) (fun c_20 => ?_) (fun c_20 => ?_)
    · exact absurd c_20 (by decide)
    refine lv_aload_n hx hb dX1_start_23 rfl (lv_at hl 1 rfl) ?_
    refine y_r7 S J dX1_start_24 ?_
    refine lv_iload_n hx hb dX1_start_27 rfl (lv_at hl 0 rfl) ?_
    refine lv_iconst (v := 0) hx hb dX1_start_28 ci_0 ?_
    refine y_s7 S J 3 (by decide) dX1_start_29 (fun H locs J => ?_)
    refine lv_iinc (v := 4) (lv' := [(2, .int 4), (0, .ref (q 0)), (1, .int p1)]) hx hb dX1_start_30 hl (k := 0) rfl (by decide) (by decide) rfl (fun ls hl => ?_)
    refine lv_goto (tgt := 18) hx hb dX1_start_33 (by decide) ?_
    refine lv_iload_n hx hb dX1_start_18 rfl (lv_at hl 0 rfl) ?_
    refine lv_iconst (v := 4) hx hb dX1_start_19 ci_4 ?_
    refine lv_icmp_ge (tgt := 36) hx hb dX1_start_20 (by decide) (fun c_20 => ?_) (fun c_20 => absurd (by decide) c_20)
    refine lv_aload_n hx hb dX1_start_36 rfl (lv_at hl 1 rfl) ?_
    refine lv_iload_n hx hb dX1_start_37 rfl (lv_at hl 2 rfl) ?_
    refine y_p10 S J dX1_start_38 (fun H locs J => ?_)
    refine lv_aload_n hx hb dX1_start_41 rfl (lv_at hl 1 rfl) ?_
    refine lv_iconst (v := 0) hx hb dX1_start_42 ci_0 ?_
    refine y_p11 S J dX1_start_43 (fun H locs J => ?_)
    refine lv_aload_n hx hb dX1_start_46 rfl (lv_at hl 1 rfl) ?_
    refine lv_iconst (v := 1) hx hb dX1_start_47 ci_1 ?_
    refine y_p5 S J dX1_start_48 (fun H locs J => ?_)
    refine lv_iconst (v := 0) hx hb dX1_start_51 ci_0 ?_
    exact y_iret (v := 0) S hr hlk J (by rw [yStart, if_neg (wdBad_0 w_s1 hL2 c_5)]) dX1_start_52
  · refine lv_bipush (v := -3) hx hb dX1_start_8 cb_m3 ?_
    exact y_iret (v := (-3)) S hr hlk J (by rw [yStart, if_pos (wdBad_1 w_s1 hL2 c_5)]) dX1_start_10
theorem yB_0 {f : Nat → Int32} {i : Nat} (h : f i < 0) : yBr f (i + 1) = yBr f i := by
  have h2 : ¬ 0 ≤ f i := fun q => absurd h (Int32.not_lt.mpr q)
  simp [yBr, wdCnt, h2]
theorem yB_1 {f : Nat → Int32} {i : Nat} (h : ¬ f i < 0) : yBr f (i + 1) = yBr f i + 1 := by
  have h2 : 0 ≤ f i := Int32.not_lt.mp h
  simp [yBr, wdCnt, h2]
set_option maxHeartbeats 4000000 in
set_option maxRecDepth 100000 in
theorem yl_breaks {p : Program} {l : Launch} {e : Env} {R : Room} {s : State} {m : MethodId} {args : Array Value} {below : List Frame} {meth : Method} {c : Code} {cells slots : Nat} {Q : State → Prop} {D : va_G} {q : Nat → Nat} {cI cZ : ClassId} {A : Nat → Prop} {σ : wdSt} (S : CallFix p m c cX1_breaks 3 s args lw_all RX1)
    (kk : ∀ (H : Heap) (locs : List Loc) (ls : Array Slot), y_J D q cI cZ A σ s H locs → lv_has ls 3 [(0, .ref (q 0)), (1, .int (nI (yBr (σ.2 4) 20))), (2, .int (nI 20))] → W p l e R s m args below meth c H locs cells slots Q (F0 m 28 ls [])) : ∀ (n i : Nat), i + n = 20 → ∀ (H : Heap) (locs : List Loc) (ls : Array Slot), y_J D q cI cZ A σ s H locs → lv_has ls 3 [(0, .ref (q 0)), (1, .int (nI (yBr (σ.2 4) i))), (2, .int (nI i))] → W p l e R s m args below meth c H locs cells slots Q (F0 m 4 ls []) := by
  have hx := S.1
  have hb := S.2.1
  intro n
  induction n with
  | zero =>
    intro i hi H locs ls J hl
    obtain rfl : i = 20 := by omega
    refine lv_iload_n hx hb dX1_breaks_4 rfl (lv_at hl 2 rfl) ?_
    refine lv_bipush (v := 20) hx hb dX1_breaks_5 cb_20 ?_
    refine lv_icmp_ge (tgt := 28) hx hb dX1_breaks_7 (by decide) (fun c_7 => ?_) (fun c_7 => absurd (by decide) c_7)
    exact kk H locs ls J hl
  | succ n ih =>
    intro i hi H locs ls J hl
    refine lv_iload_n hx hb dX1_breaks_4 rfl (lv_at hl 2 rfl) ?_
    refine lv_bipush (v := 20) hx hb dX1_breaks_5 cb_20 ?_
    refine lv_icmp_ge (tgt := 28) hx hb dX1_breaks_7 (by decide) (fun c_7 => ?_) (fun c_7 => ?_)
    · exact absurd c_7 (fun h => nI_ge (show i < 20 by omega) (by decide) h)
    refine lv_aload_n hx hb dX1_breaks_10 rfl (lv_at hl 0 rfl) ?_
    refine y_r4 S J dX1_breaks_11 ?_
    refine lv_iload_n hx hb dX1_breaks_14 rfl (lv_at hl 2 rfl) ?_
    refine y_l4 (v := σ.2 4 i) S J i (by omega) rfl dX1_breaks_15 ?_
    refine lv_if_lt (tgt := 22) hx hb dX1_breaks_16 (by decide) (fun c_16 => ?_) (fun c_16 => ?_)
    · refine lv_iinc (v := nI (i + 1)) (lv' := [(2, .int (nI (i + 1))), (0, .ref (q 0)), (1, .int (nI (yBr (σ.2 4) i)))]) hx hb dX1_breaks_22 hl (k := 2) rfl (wd_inc _) (by decide) rfl (fun ls hl => ?_)
      refine lv_goto (tgt := 4) hx hb dX1_breaks_25 (by decide) ?_
      exact ih (i + 1) (by omega) H locs ls J (lv_sub hl [1, 2, 0] (by rw [yB_0 c_16]; rfl))
    · refine lv_iinc (v := nI (yBr (σ.2 4) i + 1)) (lv' := [(1, .int (nI (yBr (σ.2 4) i + 1))), (0, .ref (q 0)), (2, .int (nI i))]) hx hb dX1_breaks_19 hl (k := 1) rfl (wd_inc _) (by decide) rfl (fun ls hl => ?_)
      refine lv_iinc (v := nI (i + 1)) (lv' := [(2, .int (nI (i + 1))), (1, .int (nI (yBr (σ.2 4) i + 1))), (0, .ref (q 0))]) hx hb dX1_breaks_22 hl (k := 2) rfl (wd_inc _) (by decide) rfl (fun ls hl => ?_)
      refine lv_goto (tgt := 4) hx hb dX1_breaks_25 (by decide) ?_
      exact ih (i + 1) (by omega) H locs ls J (lv_sub hl [2, 1, 0] (by rw [yB_1 c_16]; rfl))
set_option maxHeartbeats 4000000 in
set_option maxRecDepth 100000 in
theorem yc_breaks (l : Launch) (D : va_G) (q : Nat → Nat) (cI cZ : ClassId) (sz : Nat) (σ : wdSt) : y_MI l yX1_breaks cX1_breaks 3 .int 0 0 D q cI cZ sz σ [] (fun r σ' => σ' = σ ∧ r = nI (yBr (σ.2 4) 20)) := by
  refine y_open (by decide) rfl (Nat.le_of_ble_eq_true rfl) ?_
  intro p e s m below meth c S hr hlk J ls hl
  have hx := S.1
  have hb := S.2.1
  have hl : lv_has ls 3 [(0, .ref (q 0))] := hl
  generalize s.heap = H at J ⊢
  generalize ([] : List Loc) = locs at J ⊢
  refine lv_iconst (v := 0) hx hb dX1_breaks_0 ci_0 ?_
  refine lv_istore_n (lv' := [(1, .int 0), (0, .ref (q 0))]) hx hb dX1_breaks_1 rfl hl (by decide) rfl (fun ls hl => ?_)
  refine lv_iconst (v := 0) hx hb dX1_breaks_2 ci_0 ?_
  refine lv_istore_n (lv' := [(2, .int 0), (1, .int 0), (0, .ref (q 0))]) hx hb dX1_breaks_3 rfl hl (by decide) rfl (fun ls hl => ?_)
  refine yl_breaks S (fun H locs ls J hl => ?_) 20 0 rfl H locs ls J (lv_sub hl [2, 1, 0] rfl)
  refine lv_iload_n hx hb dX1_breaks_28 rfl (lv_at hl 1 rfl) ?_
  exact y_iret (v := nI (yBr (σ.2 4) 20)) S hr hlk J (⟨rfl, rfl⟩) dX1_breaks_29
set_option maxHeartbeats 4000000 in
set_option maxRecDepth 100000 in
theorem yc_setBreak (l : Launch) (D : va_G) (q : Nat → Nat) (cI cZ : ClassId) (sz : Nat) (σ : wdSt) (L : Nat) (hL : σ.1 3 = nI L) (hL2 : L ≤ 20) (p1 p2 : Int32) : y_MI l yX1_setBreak cX1_setBreak 3 .int 1 22 D q cI cZ sz σ [.int p1, .int p2] (fun r σ' => (r, σ') = ySet L p1 p2 σ) := by
  refine y_open (by decide) rfl (Nat.le_of_ble_eq_true rfl) ?_
  intro p e s m below meth c S hr hlk J ls hl
  have hx := S.1
  have hb := S.2.1
  have hl : lv_has ls 3 [(0, .ref (q 0)), (1, .int p1), (2, .int p2)] := hl
  generalize s.heap = H at J ⊢
  generalize ([] : List Loc) = locs at J ⊢
  refine lv_aload_n hx hb dX1_setBreak_0 rfl (lv_at hl 0 rfl) ?_
  refine lv_iload_n hx hb dX1_setBreak_1 rfl (lv_at hl 1 rfl) ?_
  refine y_ci S J (yc_noInstruction l D q cI cZ _ _ L hL hL2 p1) (yk_noInstruction S.2.2.2.2 ⟨Nat.le_of_ble_eq_true rfl, Nat.le_of_ble_eq_true rfl⟩) rfl hl.1 rfl (Nat.le_of_ble_eq_true rfl) dX1_setBreak_2 ⟨Nat.zero_le _, Nat.zero_le _⟩ (fun r_s1 s1 H locs w_s1 J => ?_)
  obtain ⟨e_s1, w_s1⟩ := w_s1
  rw [e_s1] at J
  refine lv_if_eq (tgt := 11) hx hb dX1_setBreak_5 (by decide) (fun c_5 => ?_) (fun c_5 => ?_)
  · obtain ⟨j, hj, ej⟩ := wdNI_z w_s1 c_5
    subst ej
    refine lv_iload_n hx hb dX1_setBreak_11 rfl (lv_at hl 2 rfl) ?_
    refine lv_if_lt (tgt := 21) hx hb dX1_setBreak_12 (by decide) (fun c_12 => ?_) (fun c_12 => ?_)
    · refine lv_iconst (v := -1) hx hb dX1_setBreak_21 ci_m1 ?_
      exact y_iret (v := (-1)) S hr hlk J (by rw [ySet, if_neg (wdBad_in hL2 hj), if_pos (Or.inl c_12)]) dX1_setBreak_22
    · refine lv_iload_n hx hb dX1_setBreak_15 rfl (lv_at hl 2 rfl) ?_
      refine lv_bipush (v := 100) hx hb dX1_setBreak_16 cb_100 ?_
      refine lv_icmp_le (tgt := 23) hx hb dX1_setBreak_18 (by decide) (fun c_18 => ?_) (fun c_18 => ?_)
      · refine lv_aload_n hx hb dX1_setBreak_23 rfl (lv_at hl 0 rfl) ?_
        refine y_r4 S J dX1_setBreak_24 ?_
        refine lv_iload_n hx hb dX1_setBreak_27 rfl (lv_at hl 1 rfl) ?_
        refine lv_iload_n hx hb dX1_setBreak_28 rfl (lv_at hl 2 rfl) ?_
        refine y_s4 S J j (by omega) dX1_setBreak_29 (fun H locs J => ?_)
        refine lv_aload_n hx hb dX1_setBreak_30 rfl (lv_at hl 0 rfl) ?_
        refine y_ci S J (yc_breaks l D q cI cZ _ _) (yk_breaks S.2.2.2.2 ⟨Nat.le_of_ble_eq_true rfl, Nat.le_of_ble_eq_true rfl⟩) rfl hl.1 rfl (Nat.le_of_ble_eq_true rfl) dX1_setBreak_31 ⟨Nat.zero_le _, Nat.zero_le _⟩ (fun r_s2 s2 H locs w_s2 J => ?_)
        obtain ⟨e_s2, w_s2⟩ := w_s2
        rw [e_s2] at J
        exact y_iret (v := r_s2) S hr hlk J (by rw [ySet, if_neg (wdBad_in hL2 hj), if_neg (fun h => h.elim c_12 (fun h => h c_18)), nI_clamp (by omega), w_s2]; rfl) dX1_setBreak_34
      · refine lv_iconst (v := -1) hx hb dX1_setBreak_21 ci_m1 ?_
        exact y_iret (v := (-1)) S hr hlk J (by rw [ySet, if_neg (wdBad_in hL2 hj), if_pos (Or.inr c_18)]) dX1_setBreak_22
  · refine lv_bipush (v := -3) hx hb dX1_setBreak_8 cb_m3 ?_
    exact y_iret (v := (-3)) S hr hlk J (by rw [ySet, if_pos (wdBad_1 w_s1 hL2 c_5)]) dX1_setBreak_10
set_option maxHeartbeats 4000000 in
set_option maxRecDepth 100000 in
theorem yc_clearBreak (l : Launch) (D : va_G) (q : Nat → Nat) (cI cZ : ClassId) (sz : Nat) (σ : wdSt) (L : Nat) (hL : σ.1 3 = nI L) (hL2 : L ≤ 20) (p1 : Int32) : y_MI l yX1_clearBreak cX1_clearBreak 2 .int 1 22 D q cI cZ sz σ [.int p1] (fun r σ' => (r, σ') = yClear L p1 σ) := by
  refine y_open (by decide) rfl (Nat.le_of_ble_eq_true rfl) ?_
  intro p e s m below meth c S hr hlk J ls hl
  have hx := S.1
  have hb := S.2.1
  have hl : lv_has ls 2 [(0, .ref (q 0)), (1, .int p1)] := hl
  generalize s.heap = H at J ⊢
  generalize ([] : List Loc) = locs at J ⊢
  refine lv_aload_n hx hb dX1_clearBreak_0 rfl (lv_at hl 0 rfl) ?_
  refine lv_iload_n hx hb dX1_clearBreak_1 rfl (lv_at hl 1 rfl) ?_
  refine y_ci S J (yc_noInstruction l D q cI cZ _ _ L hL hL2 p1) (yk_noInstruction S.2.2.2.2 ⟨Nat.le_of_ble_eq_true rfl, Nat.le_of_ble_eq_true rfl⟩) rfl hl.1 rfl (Nat.le_of_ble_eq_true rfl) dX1_clearBreak_2 ⟨Nat.zero_le _, Nat.zero_le _⟩ (fun r_s1 s1 H locs w_s1 J => ?_)
  obtain ⟨e_s1, w_s1⟩ := w_s1
  rw [e_s1] at J
  refine lv_if_ne (tgt := 17) hx hb dX1_clearBreak_5 (by decide) (fun c_5 => ?_) (fun c_5 => ?_)
  · refine lv_bipush (v := -3) hx hb dX1_clearBreak_17 cb_m3 ?_
    exact y_iret (v := (-3)) S hr hlk J (by rw [yClear, if_pos (wdBad_1 w_s1 hL2 c_5)]) dX1_clearBreak_19
  · obtain ⟨j, hj, ej⟩ := wdNI_z w_s1 c_5
    subst ej
    refine lv_aload_n hx hb dX1_clearBreak_8 rfl (lv_at hl 0 rfl) ?_
    refine y_r4 S J dX1_clearBreak_9 ?_
    refine lv_iload_n hx hb dX1_clearBreak_12 rfl (lv_at hl 1 rfl) ?_
    refine y_l4 (v := σ.2 4 j) S J j (by omega) rfl dX1_clearBreak_13 ?_
    refine lv_if_ge (tgt := 20) hx hb dX1_clearBreak_14 (by decide) (fun c_14 => ?_) (fun c_14 => ?_)
    · refine lv_aload_n hx hb dX1_clearBreak_20 rfl (lv_at hl 0 rfl) ?_
      refine y_r4 S J dX1_clearBreak_21 ?_
      refine lv_iload_n hx hb dX1_clearBreak_24 rfl (lv_at hl 1 rfl) ?_
      refine lv_iconst (v := -1) hx hb dX1_clearBreak_25 ci_m1 ?_
      refine y_s4 S J j (by omega) dX1_clearBreak_26 (fun H locs J => ?_)
      refine lv_aload_n hx hb dX1_clearBreak_27 rfl (lv_at hl 0 rfl) ?_
      refine y_ci S J (yc_breaks l D q cI cZ _ _) (yk_breaks S.2.2.2.2 ⟨Nat.le_of_ble_eq_true rfl, Nat.le_of_ble_eq_true rfl⟩) rfl hl.1 rfl (Nat.le_of_ble_eq_true rfl) dX1_clearBreak_28 ⟨Nat.zero_le _, Nat.zero_le _⟩ (fun r_s2 s2 H locs w_s2 J => ?_)
      obtain ⟨e_s2, w_s2⟩ := w_s2
      rw [e_s2] at J
      exact y_iret (v := r_s2) S hr hlk J (by rw [yClear, if_neg (wdBad_in hL2 hj), nI_clamp (by omega), if_pos c_14, w_s2]; rfl) dX1_clearBreak_31
    · refine lv_bipush (v := -3) hx hb dX1_clearBreak_17 cb_m3 ?_
      exact y_iret (v := (-3)) S hr hlk J (by rw [yClear, if_neg (wdBad_in hL2 hj), nI_clamp (by omega), if_neg c_14]) dX1_clearBreak_19
set_option maxHeartbeats 4000000 in
set_option maxRecDepth 100000 in
theorem yc_out (l : Launch) (D : va_G) (q : Nat → Nat) (cI cZ : ClassId) (sz : Nat) (σ : wdSt) (p1 : Int32) : y_MV l yX1_out cX1_out 3 0 0 D q cI cZ sz σ [.int p1] (fun σ' => σ' = yOut p1 σ) := by
  refine y_open (by decide) rfl (Nat.le_of_ble_eq_true rfl) ?_
  intro p e s m below meth c S hr hlk J ls hl
  have hx := S.1
  have hb := S.2.1
  have hl : lv_has ls 3 [(0, .ref (q 0)), (1, .int p1)] := hl
  generalize s.heap = H at J ⊢
  generalize ([] : List Loc) = locs at J ⊢
  refine lv_bipush (v := 7) hx hb dX1_out_0 cb_7 ?_
  refine lv_istore_n (lv' := [(2, .int 7), (0, .ref (q 0)), (1, .int p1)]) hx hb dX1_out_2 rfl hl (by decide) rfl (fun ls hl => ?_)
  refine lv_iload_n hx hb dX1_out_3 rfl (lv_at hl 0 rfl) ?_
  refine lv_if_le (tgt := 27) hx hb dX1_out_4 (by decide) (fun c_4 => ?_) (fun c_4 => ?_)
  · exact absurd c_4 (by decide)
  refine lv_aload_n hx hb dX1_out_7 rfl (lv_at hl 1 rfl) ?_
  refine y_r12 S J dX1_out_8 ?_
  refine lv_iload_n hx hb dX1_out_11 rfl (lv_at hl 0 rfl) ?_
  refine lv_aload_n hx hb dX1_out_12 rfl (lv_at hl 1 rfl) ?_
  refine y_r12 S J dX1_out_13 ?_
  refine lv_iload_n hx hb dX1_out_16 rfl (lv_at hl 0 rfl) ?_
  refine lv_iconst (v := 1) hx hb dX1_out_17 ci_1 ?_
  refine lv_isub hx hb dX1_out_18 ?_
  refine wd_top (6) (by decide) ?_
  refine y_l12 (v := σ.2 12 6) S J 6 (by decide) rfl dX1_out_19 ?_
  refine y_s12 S J 7 (by decide) dX1_out_20 (fun H locs J => ?_)
  refine lv_iinc (v := 6) (lv' := [(2, .int 6), (0, .ref (q 0)), (1, .int p1)]) hx hb dX1_out_21 hl (k := 0) rfl (by decide) (by decide) rfl (fun ls hl => ?_)
  refine lv_goto (tgt := 3) hx hb dX1_out_24 (by decide) ?_
  refine lv_iload_n hx hb dX1_out_3 rfl (lv_at hl 0 rfl) ?_
  refine lv_if_le (tgt := 27) hx hb dX1_out_4 (by decide) (fun c_4 => ?_) (fun c_4 => ?_)
  · exact absurd c_4 (by decide)
  refine lv_aload_n hx hb dX1_out_7 rfl (lv_at hl 1 rfl) ?_
  refine y_r12 S J dX1_out_8 ?_
  refine lv_iload_n hx hb dX1_out_11 rfl (lv_at hl 0 rfl) ?_
  refine lv_aload_n hx hb dX1_out_12 rfl (lv_at hl 1 rfl) ?_
  refine y_r12 S J dX1_out_13 ?_
  refine lv_iload_n hx hb dX1_out_16 rfl (lv_at hl 0 rfl) ?_
  refine lv_iconst (v := 1) hx hb dX1_out_17 ci_1 ?_
  refine lv_isub hx hb dX1_out_18 ?_
  refine wd_top (5) (by decide) ?_
  refine y_l12 (v := σ.2 12 5) S J 5 (by decide) rfl dX1_out_19 ?_
  refine y_s12 S J 6 (by decide) dX1_out_20 (fun H locs J => ?_)
  refine lv_iinc (v := 5) (lv' := [(2, .int 5), (0, .ref (q 0)), (1, .int p1)]) hx hb dX1_out_21 hl (k := 0) rfl (by decide) (by decide) rfl (fun ls hl => ?_)
  refine lv_goto (tgt := 3) hx hb dX1_out_24 (by decide) ?_
  refine lv_iload_n hx hb dX1_out_3 rfl (lv_at hl 0 rfl) ?_
  refine lv_if_le (tgt := 27) hx hb dX1_out_4 (by decide) (fun c_4 => ?_) (fun c_4 => ?_)
  · exact absurd c_4 (by decide)
  refine lv_aload_n hx hb dX1_out_7 rfl (lv_at hl 1 rfl) ?_
  refine y_r12 S J dX1_out_8 ?_
  refine lv_iload_n hx hb dX1_out_11 rfl (lv_at hl 0 rfl) ?_
  refine lv_aload_n hx hb dX1_out_12 rfl (lv_at hl 1 rfl) ?_
  refine y_r12 S J dX1_out_13 ?_
  refine lv_iload_n hx hb dX1_out_16 rfl (lv_at hl 0 rfl) ?_
  refine lv_iconst (v := 1) hx hb dX1_out_17 ci_1 ?_
  refine lv_isub hx hb dX1_out_18 ?_
  refine wd_top (4) (by decide) ?_
  refine y_l12 (v := σ.2 12 4) S J 4 (by decide) rfl dX1_out_19 ?_
  refine y_s12 S J 5 (by decide) dX1_out_20 (fun H locs J => ?_)
  refine lv_iinc (v := 4) (lv' := [(2, .int 4), (0, .ref (q 0)), (1, .int p1)]) hx hb dX1_out_21 hl (k := 0) rfl (by decide) (by decide) rfl (fun ls hl => ?_)
  refine lv_goto (tgt := 3) hx hb dX1_out_24 (by decide) ?_
  refine lv_iload_n hx hb dX1_out_3 rfl (lv_at hl 0 rfl) ?_
  refine lv_if_le (tgt := 27) hx hb dX1_out_4 (by decide) (fun c_4 => ?_) (fun c_4 => ?_)
  · exact absurd c_4 (by decide)
  refine lv_aload_n hx hb dX1_out_7 rfl (lv_at hl 1 rfl) ?_
  refine y_r12 S J dX1_out_8 ?_
  refine lv_iload_n hx hb dX1_out_11 rfl (lv_at hl 0 rfl) ?_
  refine lv_aload_n hx hb dX1_out_12 rfl (lv_at hl 1 rfl) ?_
  refine y_r12 S J dX1_out_13 ?_
  refine lv_iload_n hx hb dX1_out_16 rfl (lv_at hl 0 rfl) ?_
  refine lv_iconst (v := 1) hx hb dX1_out_17 ci_1 ?_
  refine lv_isub hx hb dX1_out_18 ?_
  refine wd_top (3) (by decide) ?_
  refine y_l12 (v := σ.2 12 3) S J 3 (by decide) rfl dX1_out_19 ?_
  refine y_s12 S J 4 (by decide) dX1_out_20 (fun H locs J => ?_)
  refine lv_iinc (v := 3) (lv' := [(2, .int 3), (0, .ref (q 0)), (1, .int p1)]) hx hb dX1_out_21 hl (k := 0) rfl (by decide) (by decide) rfl (fun ls hl => ?_)
  refine lv_goto (tgt := 3) hx hb dX1_out_24 (by decide) ?_
  refine lv_iload_n hx hb dX1_out_3 rfl (lv_at hl 0 rfl) ?_
  refine lv_if_le (tgt := 27) hx hb dX1_out_4 (by decide) (fun c_4 => ?_) (fun c_4 => ?_)
  · exact absurd c_4 (by decide)
  refine lv_aload_n hx hb dX1_out_7 rfl (lv_at hl 1 rfl) ?_
  refine y_r12 S J dX1_out_8 ?_
  refine lv_iload_n hx hb dX1_out_11 rfl (lv_at hl 0 rfl) ?_
  refine lv_aload_n hx hb dX1_out_12 rfl (lv_at hl 1 rfl) ?_
  refine y_r12 S J dX1_out_13 ?_
  refine lv_iload_n hx hb dX1_out_16 rfl (lv_at hl 0 rfl) ?_
  refine lv_iconst (v := 1) hx hb dX1_out_17 ci_1 ?_
  refine lv_isub hx hb dX1_out_18 ?_
  refine wd_top (2) (by decide) ?_
  refine y_l12 (v := σ.2 12 2) S J 2 (by decide) rfl dX1_out_19 ?_
  refine y_s12 S J 3 (by decide) dX1_out_20 (fun H locs J => ?_)
  refine lv_iinc (v := 2) (lv' := [(2, .int 2), (0, .ref (q 0)), (1, .int p1)]) hx hb dX1_out_21 hl (k := 0) rfl (by decide) (by decide) rfl (fun ls hl => ?_)
  refine lv_goto (tgt := 3) hx hb dX1_out_24 (by decide) ?_
  refine lv_iload_n hx hb dX1_out_3 rfl (lv_at hl 0 rfl) ?_
  refine lv_if_le (tgt := 27) hx hb dX1_out_4 (by decide) (fun c_4 => ?_) (fun c_4 => ?_)
  · exact absurd c_4 (by decide)
  refine lv_aload_n hx hb dX1_out_7 rfl (lv_at hl 1 rfl) ?_
  refine y_r12 S J dX1_out_8 ?_
  refine lv_iload_n hx hb dX1_out_11 rfl (lv_at hl 0 rfl) ?_
  refine lv_aload_n hx hb dX1_out_12 rfl (lv_at hl 1 rfl) ?_
  refine y_r12 S J dX1_out_13 ?_
  refine lv_iload_n hx hb dX1_out_16 rfl (lv_at hl 0 rfl) ?_
  refine lv_iconst (v := 1) hx hb dX1_out_17 ci_1 ?_
  refine lv_isub hx hb dX1_out_18 ?_
  refine wd_top (1) (by decide) ?_
  refine y_l12 (v := σ.2 12 1) S J 1 (by decide) rfl dX1_out_19 ?_
  refine y_s12 S J 2 (by decide) dX1_out_20 (fun H locs J => ?_)
  refine lv_iinc (v := 1) (lv' := [(2, .int 1), (0, .ref (q 0)), (1, .int p1)]) hx hb dX1_out_21 hl (k := 0) rfl (by decide) (by decide) rfl (fun ls hl => ?_)
  refine lv_goto (tgt := 3) hx hb dX1_out_24 (by decide) ?_
  refine lv_iload_n hx hb dX1_out_3 rfl (lv_at hl 0 rfl) ?_
  refine lv_if_le (tgt := 27) hx hb dX1_out_4 (by decide) (fun c_4 => ?_) (fun c_4 => ?_)
  · exact absurd c_4 (by decide)
  refine lv_aload_n hx hb dX1_out_7 rfl (lv_at hl 1 rfl) ?_
  refine y_r12 S J dX1_out_8 ?_
  refine lv_iload_n hx hb dX1_out_11 rfl (lv_at hl 0 rfl) ?_
  refine lv_aload_n hx hb dX1_out_12 rfl (lv_at hl 1 rfl) ?_
  refine y_r12 S J dX1_out_13 ?_
  refine lv_iload_n hx hb dX1_out_16 rfl (lv_at hl 0 rfl) ?_
  refine lv_iconst (v := 1) hx hb dX1_out_17 ci_1 ?_
  refine lv_isub hx hb dX1_out_18 ?_
  refine wd_top (0) (by decide) ?_
  refine y_l12 (v := σ.2 12 0) S J 0 (by decide) rfl dX1_out_19 ?_
  refine y_s12 S J 1 (by decide) dX1_out_20 (fun H locs J => ?_)
  refine lv_iinc (v := 0) (lv' := [(2, .int 0), (0, .ref (q 0)), (1, .int p1)]) hx hb dX1_out_21 hl (k := 0) rfl (by decide) (by decide) rfl (fun ls hl => ?_)
  refine lv_goto (tgt := 3) hx hb dX1_out_24 (by decide) ?_
  refine lv_iload_n hx hb dX1_out_3 rfl (lv_at hl 0 rfl) ?_
  refine lv_if_le (tgt := 27) hx hb dX1_out_4 (by decide) (fun c_4 => ?_) (fun c_4 => absurd (by decide) c_4)
  refine lv_aload_n hx hb dX1_out_27 rfl (lv_at hl 1 rfl) ?_
  refine y_r12 S J dX1_out_28 ?_
  refine lv_iconst (v := 0) hx hb dX1_out_31 ci_0 ?_
  refine lv_iload_n hx hb dX1_out_32 rfl (lv_at hl 2 rfl) ?_
  refine y_s12 S J 0 (by decide) dX1_out_33 (fun H locs J => ?_)
  refine lv_aload_n hx hb dX1_out_34 rfl (lv_at hl 1 rfl) ?_
  refine lv_aload_n hx hb dX1_out_35 rfl (lv_at hl 1 rfl) ?_
  refine y_g11 (v := σ.1 11) S J rfl dX1_out_36 ?_
  refine lv_iconst (v := 1) hx hb dX1_out_39 ci_1 ?_
  refine lv_iadd hx hb dX1_out_40 ?_
  refine y_p11 S J dX1_out_41 (fun H locs J => ?_)
  exact y_vret S hr hlk J rfl dX1_out_44
set_option maxHeartbeats 4000000 in
set_option maxRecDepth 100000 in
/-- carryOut() -/
theorem yc_carryOut (l : Launch) (D : va_G) (q : Nat → Nat) (cI cZ : ClassId) (sz : Nat) (σ : wdSt) (L : Nat) (hL : σ.1 3 = nI L) (hL2 : L ≤ 20) (c0 d t : Nat) (hc : σ.1 10 = nI c0) (hc2 : c0 < L) (hd : σ.1 6 = nI d) (hd1 : 1 ≤ d) (hd6 : d ≤ 6) (ht : 2 ≤ d → σ.2 9 (d - 1 - 1) = nI t) (ht4 : t < 4) : y_MV l yX1_carryOut cX1_carryOut 8 1 22 D q cI cZ sz σ [] (fun σ' => σ' = yCarry L c0 d σ) := by
  refine y_open (by decide) rfl (Nat.le_of_ble_eq_true rfl) ?_
  intro p e s m below meth c S hr hlk J ls hl
  have hx := S.1
  have hb := S.2.1
  have hl : lv_has ls 8 [(0, .ref (q 0))] := hl
  generalize s.heap = H at J ⊢
  generalize ([] : List Loc) = locs at J ⊢
  have tail : ∀ (τ : wdSt) (v : Int32) (H : Heap) (locs : List Loc) (ls : Array Slot), τ.1 3 = nI L → y_J D q cI cZ (y_A q sz) τ s H locs → lv_has ls 8 [(0, .ref (q 0)), (7, .int v)] → yNext L v τ = yCarry L c0 d σ → W p l e (wdRm 1 22) s m (Value.ref (q 0) :: []).toArray below meth c H locs 0 0 (MQ below (va_Qv (fun σ' => σ' = yCarry L c0 d σ) (y_B D q cI cZ) (y_A q sz)) (Value.ref (q 0) :: []).toArray s 0 0 (y_A q sz)) (F0 m 467 ls []) := by
    intro τ v H locs ls hτ J hl hres
    refine lv_aload_n hx hb dX1_carryOut_467 rfl (lv_at hl 0 rfl) ?_
    refine lv_iload hx hb dX1_carryOut_468 (lv_at hl 1 rfl) ?_
    refine y_p10 S J dX1_carryOut_470 (fun H locs J => ?_)
    refine lv_aload_n hx hb dX1_carryOut_473 rfl (lv_at hl 0 rfl) ?_
    refine lv_aload_n hx hb dX1_carryOut_474 rfl (lv_at hl 0 rfl) ?_
    refine y_g10 (v := v) S J rfl dX1_carryOut_475 ?_
    refine y_ci S J (yc_noInstruction l D q cI cZ _ (wdS τ 10 v) L hτ hL2 v) (yk_noInstruction S.2.2.2.2 ⟨Nat.le_of_ble_eq_true rfl, Nat.le_of_ble_eq_true rfl⟩) rfl hl.1 rfl (Nat.le_of_ble_eq_true rfl) dX1_carryOut_478 ⟨Nat.zero_le _, Nat.zero_le _⟩ (fun r_s1 s1 H locs w_s1 J => ?_)
    obtain ⟨e_s1, w_s1⟩ := w_s1
    rw [e_s1] at J
    refine lv_if_eq (tgt := 490) hx hb dX1_carryOut_481 (by decide) (fun c_481 => ?_) (fun c_481 => ?_)
    · exact y_vret S hr hlk J (by rw [← hres, yNext, if_neg (wdBad_0 w_s1 hL2 c_481)]) dX1_carryOut_490
    · refine lv_aload_n hx hb dX1_carryOut_484 rfl (lv_at hl 0 rfl) ?_
      refine lv_bipush (v := 6) hx hb dX1_carryOut_485 cb_6 ?_
      refine y_p5 S J dX1_carryOut_487 (fun H locs J => ?_)
      exact y_vret S hr hlk J (by rw [← hres, yNext, if_pos (wdBad_1 w_s1 hL2 c_481)]) dX1_carryOut_490
  refine lv_aload_n hx hb dX1_carryOut_0 rfl (lv_at hl 0 rfl) ?_
  refine y_r0 S J dX1_carryOut_1 ?_
  refine lv_aload_n hx hb dX1_carryOut_4 rfl (lv_at hl 0 rfl) ?_
  refine y_g10 (v := nI c0) S J hc dX1_carryOut_5 ?_
  refine y_l0 (v := σ.2 0 c0) S J c0 (by omega) rfl dX1_carryOut_8 ?_
  refine lv_istore_n (lv' := [(1, .int (σ.2 0 c0)), (0, .ref (q 0))]) hx hb dX1_carryOut_9 rfl hl (by decide) rfl (fun ls hl => ?_)
  refine lv_aload_n hx hb dX1_carryOut_10 rfl (lv_at hl 1 rfl) ?_
  refine y_r1 S J dX1_carryOut_11 ?_
  refine lv_aload_n hx hb dX1_carryOut_14 rfl (lv_at hl 1 rfl) ?_
  refine y_g10 (v := nI c0) S J hc dX1_carryOut_15 ?_
  refine y_l1 (v := σ.2 1 c0) S J c0 (by omega) rfl dX1_carryOut_18 ?_
  refine lv_istore_n (lv' := [(2, .int (σ.2 1 c0)), (1, .int (σ.2 0 c0)), (0, .ref (q 0))]) hx hb dX1_carryOut_19 rfl hl (by decide) rfl (fun ls hl => ?_)
  refine lv_aload_n hx hb dX1_carryOut_20 rfl (lv_at hl 2 rfl) ?_
  refine y_r2 S J dX1_carryOut_21 ?_
  refine lv_aload_n hx hb dX1_carryOut_24 rfl (lv_at hl 2 rfl) ?_
  refine y_g10 (v := nI c0) S J hc dX1_carryOut_25 ?_
  refine y_l2 (v := σ.2 2 c0) S J c0 (by omega) rfl dX1_carryOut_28 ?_
  refine lv_istore_n (lv' := [(3, .int (σ.2 2 c0)), (2, .int (σ.2 1 c0)), (1, .int (σ.2 0 c0)), (0, .ref (q 0))]) hx hb dX1_carryOut_29 rfl hl (by decide) rfl (fun ls hl => ?_)
  refine lv_aload_n hx hb dX1_carryOut_30 rfl (lv_at hl 3 rfl) ?_
  refine y_g6 (v := nI d) S J hd dX1_carryOut_31 ?_
  refine lv_iconst (v := 1) hx hb dX1_carryOut_34 ci_1 ?_
  refine lv_isub hx hb dX1_carryOut_35 ?_
  refine wd_top (nI (d - 1)) (wd_pred hd1) ?_
  refine lv_iconst (v := 4) hx hb dX1_carryOut_36 ci_4 ?_
  refine lv_imul hx hb dX1_carryOut_37 ?_
  refine wd_top (nI ((d - 1) * 4)) (wd_mul4 _) ?_
  refine lv_istore (lv' := [(4, .int (nI ((d - 1) * 4))), (3, .int (σ.2 2 c0)), (2, .int (σ.2 1 c0)), (1, .int (σ.2 0 c0)), (0, .ref (q 0))]) hx hb dX1_carryOut_38 hl (by decide) rfl (fun ls hl => ?_)
  refine lv_iload hx hb dX1_carryOut_40 (lv_at hl 0 rfl) ?_
  refine lv_iload_n hx hb dX1_carryOut_42 rfl (lv_at hl 2 rfl) ?_
  refine lv_iconst (v := 3) hx hb dX1_carryOut_43 ci_3 ?_
  refine lv_iand hx hb dX1_carryOut_44 ?_
  refine wd_top (nI (wd3 (σ.2 1 c0))) (wd3_e _) ?_
  refine lv_iadd hx hb dX1_carryOut_45 ?_
  refine wd_top (nI ((d - 1) * 4 + wd3 (σ.2 1 c0))) (nI_add _ _) ?_
  refine lv_istore (lv' := [(5, .int (nI ((d - 1) * 4 + wd3 (σ.2 1 c0)))), (4, .int (nI ((d - 1) * 4))), (3, .int (σ.2 2 c0)), (2, .int (σ.2 1 c0)), (1, .int (σ.2 0 c0)), (0, .ref (q 0))]) hx hb dX1_carryOut_46 hl (by decide) rfl (fun ls hl => ?_)
  refine lv_iload hx hb dX1_carryOut_48 (lv_at hl 1 rfl) ?_
  refine lv_iload_n hx hb dX1_carryOut_50 rfl (lv_at hl 2 rfl) ?_
  refine lv_iconst (v := 3) hx hb dX1_carryOut_51 ci_3 ?_
  refine lv_iand hx hb dX1_carryOut_52 ?_
  refine wd_top (nI (wd3 (σ.2 2 c0))) (wd3_e _) ?_
  refine lv_iadd hx hb dX1_carryOut_53 ?_
  refine wd_top (nI ((d - 1) * 4 + wd3 (σ.2 2 c0))) (nI_add _ _) ?_
  refine lv_istore (lv' := [(6, .int (nI ((d - 1) * 4 + wd3 (σ.2 2 c0)))), (5, .int (nI ((d - 1) * 4 + wd3 (σ.2 1 c0)))), (4, .int (nI ((d - 1) * 4))), (3, .int (σ.2 2 c0)), (2, .int (σ.2 1 c0)), (1, .int (σ.2 0 c0)), (0, .ref (q 0))]) hx hb dX1_carryOut_54 hl (by decide) rfl (fun ls hl => ?_)
  refine lv_aload_n hx hb dX1_carryOut_56 rfl (lv_at hl 6 rfl) ?_
  refine y_g10 (v := nI c0) S J hc dX1_carryOut_57 ?_
  refine lv_iconst (v := 1) hx hb dX1_carryOut_60 ci_1 ?_
  refine lv_iadd hx hb dX1_carryOut_61 ?_
  refine wd_top (nI (c0 + 1)) (nI_1 _) ?_
  refine lv_istore (lv' := [(7, .int (nI (c0 + 1))), (6, .int (nI ((d - 1) * 4 + wd3 (σ.2 2 c0)))), (5, .int (nI ((d - 1) * 4 + wd3 (σ.2 1 c0)))), (4, .int (nI ((d - 1) * 4))), (3, .int (σ.2 2 c0)), (2, .int (σ.2 1 c0)), (1, .int (σ.2 0 c0)), (0, .ref (q 0))]) hx hb dX1_carryOut_62 hl (by decide) rfl (fun ls hl => ?_)
  refine lv_iload_n hx hb dX1_carryOut_64 rfl (lv_at hl 6 rfl) ?_
  refine lv_if_ne (tgt := 79) hx hb dX1_carryOut_65 (by decide) (fun c_65 => ?_) (fun c_65 => ?_)
  · refine lv_iload_n hx hb dX1_carryOut_79 rfl (lv_at hl 6 rfl) ?_
    refine lv_iconst (v := 1) hx hb dX1_carryOut_80 ci_1 ?_
    refine lv_icmp_ne (tgt := 101) hx hb dX1_carryOut_81 (by decide) (fun c_81 => ?_) (fun c_81 => ?_)
    · refine lv_iload_n hx hb dX1_carryOut_101 rfl (lv_at hl 6 rfl) ?_
      refine lv_iconst (v := 2) hx hb dX1_carryOut_102 ci_2 ?_
      refine lv_icmp_ne (tgt := 131) hx hb dX1_carryOut_103 (by decide) (fun c_103 => ?_) (fun c_103 => ?_)
      · refine lv_iload_n hx hb dX1_carryOut_131 rfl (lv_at hl 6 rfl) ?_
        refine lv_iconst (v := 3) hx hb dX1_carryOut_132 ci_3 ?_
        refine lv_icmp_ne (tgt := 161) hx hb dX1_carryOut_133 (by decide) (fun c_133 => ?_) (fun c_133 => ?_)
        · refine lv_iload_n hx hb dX1_carryOut_161 rfl (lv_at hl 6 rfl) ?_
          refine lv_iconst (v := 4) hx hb dX1_carryOut_162 ci_4 ?_
          refine lv_icmp_ne (tgt := 191) hx hb dX1_carryOut_163 (by decide) (fun c_163 => ?_) (fun c_163 => ?_)
          · refine lv_iload_n hx hb dX1_carryOut_191 rfl (lv_at hl 6 rfl) ?_
            refine lv_iconst (v := 5) hx hb dX1_carryOut_192 ci_5 ?_
            refine lv_icmp_ne (tgt := 202) hx hb dX1_carryOut_193 (by decide) (fun c_193 => ?_) (fun c_193 => ?_)
            · refine lv_iload_n hx hb dX1_carryOut_202 rfl (lv_at hl 6 rfl) ?_
              refine lv_bipush (v := 6) hx hb dX1_carryOut_203 cb_6 ?_
              refine lv_icmp_ne (tgt := 242) hx hb dX1_carryOut_205 (by decide) (fun c_205 => ?_) (fun c_205 => ?_)
              · refine lv_iload_n hx hb dX1_carryOut_242 rfl (lv_at hl 6 rfl) ?_
                refine lv_bipush (v := 7) hx hb dX1_carryOut_243 cb_7 ?_
                refine lv_icmp_ne (tgt := 269) hx hb dX1_carryOut_245 (by decide) (fun c_245 => ?_) (fun c_245 => ?_)
                · refine lv_iload_n hx hb dX1_carryOut_269 rfl (lv_at hl 6 rfl) ?_
                  refine lv_bipush (v := 8) hx hb dX1_carryOut_270 cb_8 ?_
                  refine lv_icmp_ne (tgt := 382) hx hb dX1_carryOut_272 (by decide) (fun c_272 => ?_) (fun c_272 => ?_)
                  · refine lv_iload_n hx hb dX1_carryOut_382 rfl (lv_at hl 6 rfl) ?_
                    refine lv_bipush (v := 9) hx hb dX1_carryOut_383 cb_9 ?_
                    refine lv_icmp_ne (tgt := 456) hx hb dX1_carryOut_385 (by decide) (fun c_385 => ?_) (fun c_385 => ?_)
                    · refine lv_aload_n hx hb dX1_carryOut_456 rfl (lv_at hl 7 rfl) ?_
                      refine lv_aload_n hx hb dX1_carryOut_457 rfl (lv_at hl 7 rfl) ?_
                      refine y_r7 S J dX1_carryOut_458 ?_
                      refine lv_iload hx hb dX1_carryOut_461 (lv_at hl 2 rfl) ?_
                      refine y_l7 (v := σ.2 7 ((d - 1) * 4 + wd3 (σ.2 1 c0))) S J ((d - 1) * 4 + wd3 (σ.2 1 c0)) (by have := wd3_lt (σ.2 1 c0); omega) rfl dX1_carryOut_463 ?_
                      refine y_cv S J (yc_out l D q cI cZ _ _ (σ.2 7 ((d - 1) * 4 + wd3 (σ.2 1 c0)))) (yk_out S.2.2.2.2 ⟨Nat.le_of_ble_eq_true rfl, Nat.le_of_ble_eq_true rfl⟩) rfl hl.1 rfl (Nat.le_of_ble_eq_true rfl) dX1_carryOut_464 ⟨Nat.zero_le _, Nat.zero_le _⟩ (fun s9 H locs w_s9 J => ?_)
                      exact tail (s9) _ _ _ _ (by rw [w_s9]; exact hL) J (lv_sub hl [7, 0] rfl) (by rw [yCarry, if_neg c_65, if_neg c_81, if_neg c_103, if_neg c_133, if_neg c_163, if_neg c_193, if_neg c_205, if_neg c_245, if_neg c_272, if_neg c_385, w_s9])
                    · refine lv_aload_n hx hb dX1_carryOut_388 rfl (lv_at hl 7 rfl) ?_
                      refine y_g6 (v := nI d) S J hd dX1_carryOut_389 ?_
                      refine lv_iconst (v := 1) hx hb dX1_carryOut_392 ci_1 ?_
                      refine lv_icmp_ne (tgt := 402) hx hb dX1_carryOut_393 (by decide) (fun c_393 => ?_) (fun c_393 => ?_)
                      · have hd2 : 2 ≤ d := Nat.lt_of_le_of_ne hd1 (fun h => c_393 (by rw [← h]; rfl))
                        refine lv_aload_n hx hb dX1_carryOut_402 rfl (lv_at hl 7 rfl) ?_
                        refine lv_aload_n hx hb dX1_carryOut_403 rfl (lv_at hl 7 rfl) ?_
                        refine y_g6 (v := nI d) S J hd dX1_carryOut_404 ?_
                        refine lv_iconst (v := 1) hx hb dX1_carryOut_407 ci_1 ?_
                        refine lv_isub hx hb dX1_carryOut_408 ?_
                        refine wd_top (nI (d - 1)) (wd_pred hd1) ?_
                        refine y_p6 S J dX1_carryOut_409 (fun H locs J => ?_)
                        refine lv_aload_n hx hb dX1_carryOut_412 rfl (lv_at hl 7 rfl) ?_
                        refine y_r7 S J dX1_carryOut_413 ?_
                        refine lv_iload hx hb dX1_carryOut_416 (lv_at hl 3 rfl) ?_
                        refine lv_iconst (v := 4) hx hb dX1_carryOut_418 ci_4 ?_
                        refine lv_isub hx hb dX1_carryOut_419 ?_
                        refine wd_top (nI ((d - 1) * 4 - 4)) (pk_sub (a := (d - 1) * 4) (b := 4) (by omega)) ?_
                        refine lv_aload_n hx hb dX1_carryOut_420 rfl (lv_at hl 7 rfl) ?_
                        refine y_r9 S J dX1_carryOut_421 ?_
                        refine lv_aload_n hx hb dX1_carryOut_424 rfl (lv_at hl 7 rfl) ?_
                        refine y_g6 (v := nI (d - 1)) S J rfl dX1_carryOut_425 ?_
                        refine lv_iconst (v := 1) hx hb dX1_carryOut_428 ci_1 ?_
                        refine lv_isub hx hb dX1_carryOut_429 ?_
                        refine wd_top (nI (d - 1 - 1)) (wd_pred (by omega)) ?_
                        refine y_l9 (v := nI t) S J (d - 1 - 1) (by omega) (ht hd2) dX1_carryOut_430 ?_
                        refine lv_iadd hx hb dX1_carryOut_431 ?_
                        refine wd_top (nI ((d - 1) * 4 - 4 + t)) (nI_add _ _) ?_
                        refine lv_aload_n hx hb dX1_carryOut_432 rfl (lv_at hl 7 rfl) ?_
                        refine y_r7 S J dX1_carryOut_433 ?_
                        refine lv_iload hx hb dX1_carryOut_436 (lv_at hl 3 rfl) ?_
                        refine y_l7 (v := σ.2 7 ((d - 1) * 4)) S J ((d - 1) * 4) (by omega) rfl dX1_carryOut_438 ?_
                        refine y_s7 S J ((d - 1) * 4 - 4 + t) (by omega) dX1_carryOut_439 (fun H locs J => ?_)
                        refine lv_aload_n hx hb dX1_carryOut_440 rfl (lv_at hl 7 rfl) ?_
                        refine y_r8 S J dX1_carryOut_441 ?_
                        refine lv_aload_n hx hb dX1_carryOut_444 rfl (lv_at hl 7 rfl) ?_
                        refine y_g6 (v := nI (d - 1)) S J rfl dX1_carryOut_445 ?_
                        refine lv_iconst (v := 1) hx hb dX1_carryOut_448 ci_1 ?_
                        refine lv_isub hx hb dX1_carryOut_449 ?_
                        refine wd_top (nI (d - 1 - 1)) (wd_pred (by omega)) ?_
                        refine y_l8 (v := σ.2 8 (d - 1 - 1)) S J (d - 1 - 1) (by omega) rfl dX1_carryOut_450 ?_
                        refine lv_istore (lv' := [(7, .int (σ.2 8 (d - 1 - 1))), (6, .int (nI ((d - 1) * 4 + wd3 (σ.2 2 c0)))), (5, .int (nI ((d - 1) * 4 + wd3 (σ.2 1 c0)))), (4, .int (nI ((d - 1) * 4))), (3, .int (σ.2 2 c0)), (2, .int (σ.2 1 c0)), (1, .int (σ.2 0 c0)), (0, .ref (q 0))]) hx hb dX1_carryOut_451 hl (by decide) rfl (fun ls hl => ?_)
                        refine lv_goto (tgt := 467) hx hb dX1_carryOut_453 (by decide) ?_
                        exact tail (wdA (wdS σ 6 (nI (d - 1))) 7 ((d - 1) * 4 - 4 + t) (σ.2 7 ((d - 1) * 4))) _ _ _ _ hL J (lv_sub hl [7, 0] rfl) (by rw [yCarry, if_neg c_65, if_neg c_81, if_neg c_103, if_neg c_133, if_neg c_163, if_neg c_193, if_neg c_205, if_neg c_245, if_neg c_272, if_pos c_385, if_neg (show ¬ d = 1 by omega), ht hd2, nI_clamp (by omega)]; rfl)
                      · refine lv_aload_n hx hb dX1_carryOut_396 rfl (lv_at hl 7 rfl) ?_
                        refine lv_iconst (v := 5) hx hb dX1_carryOut_397 ci_5 ?_
                        refine y_p5 S J dX1_carryOut_398 (fun H locs J => ?_)
                        exact y_vret S hr hlk J (by rw [yCarry, if_neg c_65, if_neg c_81, if_neg c_103, if_neg c_133, if_neg c_163, if_neg c_193, if_neg c_205, if_neg c_245, if_neg c_272, if_pos c_385, if_pos ((wd_eq d 1 1 (by omega) (by decide) rfl).mp c_393)]) dX1_carryOut_401
                  · refine lv_aload_n hx hb dX1_carryOut_275 rfl (lv_at hl 7 rfl) ?_
                    refine y_g6 (v := nI d) S J hd dX1_carryOut_276 ?_
                    refine lv_bipush (v := 6) hx hb dX1_carryOut_279 cb_6 ?_
                    refine lv_icmp_ne (tgt := 291) hx hb dX1_carryOut_281 (by decide) (fun c_281 => ?_) (fun c_281 => ?_)
                    · have hd5 : d < 6 := Nat.lt_of_le_of_ne hd6 (fun h => c_281 (by rw [h]; rfl))
                      refine lv_aload_n hx hb dX1_carryOut_291 rfl (lv_at hl 7 rfl) ?_
                      refine y_r8 S J dX1_carryOut_292 ?_
                      refine lv_aload_n hx hb dX1_carryOut_295 rfl (lv_at hl 7 rfl) ?_
                      refine y_g6 (v := nI d) S J hd dX1_carryOut_296 ?_
                      refine lv_iconst (v := 1) hx hb dX1_carryOut_299 ci_1 ?_
                      refine lv_isub hx hb dX1_carryOut_300 ?_
                      refine wd_top (nI (d - 1)) (wd_pred hd1) ?_
                      refine lv_iload hx hb dX1_carryOut_301 (lv_at hl 0 rfl) ?_
                      refine y_s8 S J (d - 1) (by omega) dX1_carryOut_303 (fun H locs J => ?_)
                      refine lv_aload_n hx hb dX1_carryOut_304 rfl (lv_at hl 7 rfl) ?_
                      refine y_r9 S J dX1_carryOut_305 ?_
                      refine lv_aload_n hx hb dX1_carryOut_308 rfl (lv_at hl 7 rfl) ?_
                      refine y_g6 (v := nI d) S J hd dX1_carryOut_309 ?_
                      refine lv_iconst (v := 1) hx hb dX1_carryOut_312 ci_1 ?_
                      refine lv_isub hx hb dX1_carryOut_313 ?_
                      refine wd_top (nI (d - 1)) (wd_pred hd1) ?_
                      refine lv_iload_n hx hb dX1_carryOut_314 rfl (lv_at hl 5 rfl) ?_
                      refine lv_iconst (v := 3) hx hb dX1_carryOut_315 ci_3 ?_
                      refine lv_iand hx hb dX1_carryOut_316 ?_
                      refine wd_top (nI (wd3 (σ.2 1 c0))) (wd3_e _) ?_
                      refine y_s9 S J (d - 1) (by omega) dX1_carryOut_317 (fun H locs J => ?_)
                      refine lv_aload_n hx hb dX1_carryOut_318 rfl (lv_at hl 7 rfl) ?_
                      refine y_r7 S J dX1_carryOut_319 ?_
                      refine lv_iload hx hb dX1_carryOut_322 (lv_at hl 3 rfl) ?_
                      refine lv_iconst (v := 4) hx hb dX1_carryOut_324 ci_4 ?_
                      refine lv_iadd hx hb dX1_carryOut_325 ?_
                      refine wd_top (nI ((d - 1) * 4 + 4)) (nI_add _ 4) ?_
                      refine lv_aload_n hx hb dX1_carryOut_326 rfl (lv_at hl 7 rfl) ?_
                      refine y_r7 S J dX1_carryOut_327 ?_
                      refine lv_iload hx hb dX1_carryOut_330 (lv_at hl 2 rfl) ?_
                      refine y_l7 (v := σ.2 7 ((d - 1) * 4 + wd3 (σ.2 1 c0))) S J ((d - 1) * 4 + wd3 (σ.2 1 c0)) (by have := wd3_lt (σ.2 1 c0); omega) rfl dX1_carryOut_332 ?_
                      refine y_s7 S J ((d - 1) * 4 + 4) (by omega) dX1_carryOut_333 (fun H locs J => ?_)
                      refine lv_aload_n hx hb dX1_carryOut_334 rfl (lv_at hl 7 rfl) ?_
                      refine y_r7 S J dX1_carryOut_335 ?_
                      refine lv_iload hx hb dX1_carryOut_338 (lv_at hl 3 rfl) ?_
                      refine lv_iconst (v := 5) hx hb dX1_carryOut_340 ci_5 ?_
                      refine lv_iadd hx hb dX1_carryOut_341 ?_
                      refine wd_top (nI ((d - 1) * 4 + 5)) (nI_add _ 5) ?_
                      refine lv_iconst (v := 0) hx hb dX1_carryOut_342 ci_0 ?_
                      refine y_s7 S J ((d - 1) * 4 + 5) (by omega) dX1_carryOut_343 (fun H locs J => ?_)
                      refine lv_aload_n hx hb dX1_carryOut_344 rfl (lv_at hl 7 rfl) ?_
                      refine y_r7 S J dX1_carryOut_345 ?_
                      refine lv_iload hx hb dX1_carryOut_348 (lv_at hl 3 rfl) ?_
                      refine lv_bipush (v := 6) hx hb dX1_carryOut_350 cb_6 ?_
                      refine lv_iadd hx hb dX1_carryOut_352 ?_
                      refine wd_top (nI ((d - 1) * 4 + 6)) (nI_add _ 6) ?_
                      refine lv_iconst (v := 0) hx hb dX1_carryOut_353 ci_0 ?_
                      refine y_s7 S J ((d - 1) * 4 + 6) (by omega) dX1_carryOut_354 (fun H locs J => ?_)
                      refine lv_aload_n hx hb dX1_carryOut_355 rfl (lv_at hl 7 rfl) ?_
                      refine y_r7 S J dX1_carryOut_356 ?_
                      refine lv_iload hx hb dX1_carryOut_359 (lv_at hl 3 rfl) ?_
                      refine lv_bipush (v := 7) hx hb dX1_carryOut_361 cb_7 ?_
                      refine lv_iadd hx hb dX1_carryOut_363 ?_
                      refine wd_top (nI ((d - 1) * 4 + 7)) (nI_add _ 7) ?_
                      refine lv_iconst (v := 0) hx hb dX1_carryOut_364 ci_0 ?_
                      refine y_s7 S J ((d - 1) * 4 + 7) (by omega) dX1_carryOut_365 (fun H locs J => ?_)
                      refine lv_aload_n hx hb dX1_carryOut_366 rfl (lv_at hl 7 rfl) ?_
                      refine lv_aload_n hx hb dX1_carryOut_367 rfl (lv_at hl 7 rfl) ?_
                      refine y_g6 (v := nI d) S J hd dX1_carryOut_368 ?_
                      refine lv_iconst (v := 1) hx hb dX1_carryOut_371 ci_1 ?_
                      refine lv_iadd hx hb dX1_carryOut_372 ?_
                      refine wd_top (nI (d + 1)) (nI_1 _) ?_
                      refine y_p6 S J dX1_carryOut_373 (fun H locs J => ?_)
                      refine lv_iload_n hx hb dX1_carryOut_376 rfl (lv_at hl 4 rfl) ?_
                      refine lv_istore (lv' := [(7, .int (σ.2 2 c0)), (6, .int (nI ((d - 1) * 4 + wd3 (σ.2 2 c0)))), (5, .int (nI ((d - 1) * 4 + wd3 (σ.2 1 c0)))), (4, .int (nI ((d - 1) * 4))), (3, .int (σ.2 2 c0)), (2, .int (σ.2 1 c0)), (1, .int (σ.2 0 c0)), (0, .ref (q 0))]) hx hb dX1_carryOut_377 hl (by decide) rfl (fun ls hl => ?_)
                      refine lv_goto (tgt := 467) hx hb dX1_carryOut_379 (by decide) ?_
                      exact tail (wdS (wdA (wdA (wdA (wdA (wdA (wdA σ 8 (d - 1) (nI (c0 + 1))) 9 (d - 1) (nI (wd3 (σ.2 1 c0)))) 7 ((d - 1) * 4 + 4) (σ.2 7 ((d - 1) * 4 + wd3 (σ.2 1 c0)))) 7 ((d - 1) * 4 + 5) 0) 7 ((d - 1) * 4 + 6) 0) 7 ((d - 1) * 4 + 7) 0) 6 (nI (d + 1))) _ _ _ _ hL J (lv_sub hl [7, 0] rfl) (by rw [yCarry, if_neg c_65, if_neg c_81, if_neg c_103, if_neg c_133, if_neg c_163, if_neg c_193, if_neg c_205, if_neg c_245, if_pos c_272, if_neg (fun h => c_281 (by rw [h]; rfl))]; rfl)
                    · refine lv_aload_n hx hb dX1_carryOut_284 rfl (lv_at hl 7 rfl) ?_
                      refine lv_bipush (v := 6) hx hb dX1_carryOut_285 cb_6 ?_
                      refine y_p5 S J dX1_carryOut_287 (fun H locs J => ?_)
                      exact y_vret S hr hlk J (by rw [yCarry, if_neg c_65, if_neg c_81, if_neg c_103, if_neg c_133, if_neg c_163, if_neg c_193, if_neg c_205, if_neg c_245, if_pos c_272, if_pos ((wd_eq d 6 6 (by omega) (by decide) rfl).mp c_281)]) dX1_carryOut_290
                · refine lv_aload_n hx hb dX1_carryOut_248 rfl (lv_at hl 7 rfl) ?_
                  refine y_r7 S J dX1_carryOut_249 ?_
                  refine lv_iload hx hb dX1_carryOut_252 (lv_at hl 2 rfl) ?_
                  refine y_l7 (v := σ.2 7 ((d - 1) * 4 + wd3 (σ.2 1 c0))) S J ((d - 1) * 4 + wd3 (σ.2 1 c0)) (by have := wd3_lt (σ.2 1 c0); omega) rfl dX1_carryOut_254 ?_
                  refine lv_if_ne (tgt := 262) hx hb dX1_carryOut_255 (by decide) (fun c_255 => ?_) (fun c_255 => ?_)
                  · refine lv_iload hx hb dX1_carryOut_262 (lv_at hl 0 rfl) ?_
                    refine lv_istore (lv' := [(7, .int (nI (c0 + 1))), (6, .int (nI ((d - 1) * 4 + wd3 (σ.2 2 c0)))), (5, .int (nI ((d - 1) * 4 + wd3 (σ.2 1 c0)))), (4, .int (nI ((d - 1) * 4))), (3, .int (σ.2 2 c0)), (2, .int (σ.2 1 c0)), (1, .int (σ.2 0 c0)), (0, .ref (q 0))]) hx hb dX1_carryOut_264 hl (by decide) rfl (fun ls hl => ?_)
                    refine lv_goto (tgt := 467) hx hb dX1_carryOut_266 (by decide) ?_
                    exact tail (σ) _ _ _ _ hL J (lv_sub hl [7, 0] rfl) (by rw [yCarry, if_neg c_65, if_neg c_81, if_neg c_103, if_neg c_133, if_neg c_163, if_neg c_193, if_neg c_205, if_pos c_245, if_neg c_255])
                  · refine lv_iload_n hx hb dX1_carryOut_258 rfl (lv_at hl 4 rfl) ?_
                    refine lv_goto (tgt := 264) hx hb dX1_carryOut_259 (by decide) ?_
                    refine lv_istore (lv' := [(7, .int (σ.2 2 c0)), (6, .int (nI ((d - 1) * 4 + wd3 (σ.2 2 c0)))), (5, .int (nI ((d - 1) * 4 + wd3 (σ.2 1 c0)))), (4, .int (nI ((d - 1) * 4))), (3, .int (σ.2 2 c0)), (2, .int (σ.2 1 c0)), (1, .int (σ.2 0 c0)), (0, .ref (q 0))]) hx hb dX1_carryOut_264 hl (by decide) rfl (fun ls hl => ?_)
                    refine lv_goto (tgt := 467) hx hb dX1_carryOut_266 (by decide) ?_
                    exact tail (σ) _ _ _ _ hL J (lv_sub hl [7, 0] rfl) (by rw [yCarry, if_neg c_65, if_neg c_81, if_neg c_103, if_neg c_133, if_neg c_163, if_neg c_193, if_neg c_205, if_pos c_245, if_pos c_255])
              · refine lv_aload_n hx hb dX1_carryOut_208 rfl (lv_at hl 7 rfl) ?_
                refine y_r7 S J dX1_carryOut_209 ?_
                refine lv_iload hx hb dX1_carryOut_212 (lv_at hl 2 rfl) ?_
                refine y_l7 (v := σ.2 7 ((d - 1) * 4 + wd3 (σ.2 1 c0))) S J ((d - 1) * 4 + wd3 (σ.2 1 c0)) (by have := wd3_lt (σ.2 1 c0); omega) rfl dX1_carryOut_214 ?_
                refine lv_aload_n hx hb dX1_carryOut_215 rfl (lv_at hl 7 rfl) ?_
                refine y_r7 S J dX1_carryOut_216 ?_
                refine lv_iload hx hb dX1_carryOut_219 (lv_at hl 3 rfl) ?_
                refine lv_iload_n hx hb dX1_carryOut_221 rfl (lv_at hl 5 rfl) ?_
                refine lv_iconst (v := 2) hx hb dX1_carryOut_222 ci_2 ?_
                refine lv_ishr hx hb dX1_carryOut_223 ?_
                refine lv_iconst (v := 3) hx hb dX1_carryOut_224 ci_3 ?_
                refine lv_iand hx hb dX1_carryOut_225 ?_
                refine wd_top (nI (wd3 ((σ.2 1 c0) >>> (2 &&& 31)))) (wd3_e _) ?_
                refine lv_iadd hx hb dX1_carryOut_226 ?_
                refine wd_top (nI ((d - 1) * 4 + wd3 ((σ.2 1 c0) >>> (2 &&& 31)))) (nI_add _ _) ?_
                refine y_l7 (v := σ.2 7 ((d - 1) * 4 + wd3 ((σ.2 1 c0) >>> (2 &&& 31)))) S J ((d - 1) * 4 + wd3 ((σ.2 1 c0) >>> (2 &&& 31))) (by have := wd3_lt ((σ.2 1 c0) >>> (2 &&& 31)); omega) rfl dX1_carryOut_227 ?_
                refine lv_icmp_ge (tgt := 235) hx hb dX1_carryOut_228 (by decide) (fun c_228 => ?_) (fun c_228 => ?_)
                · refine lv_iload hx hb dX1_carryOut_235 (lv_at hl 0 rfl) ?_
                  refine lv_istore (lv' := [(7, .int (nI (c0 + 1))), (6, .int (nI ((d - 1) * 4 + wd3 (σ.2 2 c0)))), (5, .int (nI ((d - 1) * 4 + wd3 (σ.2 1 c0)))), (4, .int (nI ((d - 1) * 4))), (3, .int (σ.2 2 c0)), (2, .int (σ.2 1 c0)), (1, .int (σ.2 0 c0)), (0, .ref (q 0))]) hx hb dX1_carryOut_237 hl (by decide) rfl (fun ls hl => ?_)
                  refine lv_goto (tgt := 467) hx hb dX1_carryOut_239 (by decide) ?_
                  exact tail (σ) _ _ _ _ hL J (lv_sub hl [7, 0] rfl) (by rw [yCarry, if_neg c_65, if_neg c_81, if_neg c_103, if_neg c_133, if_neg c_163, if_neg c_193, if_pos c_205, if_pos c_228])
                · refine lv_iload_n hx hb dX1_carryOut_231 rfl (lv_at hl 4 rfl) ?_
                  refine lv_goto (tgt := 237) hx hb dX1_carryOut_232 (by decide) ?_
                  refine lv_istore (lv' := [(7, .int (σ.2 2 c0)), (6, .int (nI ((d - 1) * 4 + wd3 (σ.2 2 c0)))), (5, .int (nI ((d - 1) * 4 + wd3 (σ.2 1 c0)))), (4, .int (nI ((d - 1) * 4))), (3, .int (σ.2 2 c0)), (2, .int (σ.2 1 c0)), (1, .int (σ.2 0 c0)), (0, .ref (q 0))]) hx hb dX1_carryOut_237 hl (by decide) rfl (fun ls hl => ?_)
                  refine lv_goto (tgt := 467) hx hb dX1_carryOut_239 (by decide) ?_
                  exact tail (σ) _ _ _ _ hL J (lv_sub hl [7, 0] rfl) (by rw [yCarry, if_neg c_65, if_neg c_81, if_neg c_103, if_neg c_133, if_neg c_163, if_neg c_193, if_pos c_205, if_neg c_228])
            · refine lv_iload_n hx hb dX1_carryOut_196 rfl (lv_at hl 4 rfl) ?_
              refine lv_istore (lv' := [(7, .int (σ.2 2 c0)), (6, .int (nI ((d - 1) * 4 + wd3 (σ.2 2 c0)))), (5, .int (nI ((d - 1) * 4 + wd3 (σ.2 1 c0)))), (4, .int (nI ((d - 1) * 4))), (3, .int (σ.2 2 c0)), (2, .int (σ.2 1 c0)), (1, .int (σ.2 0 c0)), (0, .ref (q 0))]) hx hb dX1_carryOut_197 hl (by decide) rfl (fun ls hl => ?_)
              refine lv_goto (tgt := 467) hx hb dX1_carryOut_199 (by decide) ?_
              exact tail (σ) _ _ _ _ hL J (lv_sub hl [7, 0] rfl) (by rw [yCarry, if_neg c_65, if_neg c_81, if_neg c_103, if_neg c_133, if_neg c_163, if_pos c_193])
          · refine lv_aload_n hx hb dX1_carryOut_166 rfl (lv_at hl 7 rfl) ?_
            refine y_r7 S J dX1_carryOut_167 ?_
            refine lv_iload hx hb dX1_carryOut_170 (lv_at hl 2 rfl) ?_
            refine lv_aload_n hx hb dX1_carryOut_172 rfl (lv_at hl 7 rfl) ?_
            refine y_r7 S J dX1_carryOut_173 ?_
            refine lv_iload hx hb dX1_carryOut_176 (lv_at hl 2 rfl) ?_
            refine y_l7 (v := σ.2 7 ((d - 1) * 4 + wd3 (σ.2 1 c0))) S J ((d - 1) * 4 + wd3 (σ.2 1 c0)) (by have := wd3_lt (σ.2 1 c0); omega) rfl dX1_carryOut_178 ?_
            refine lv_aload_n hx hb dX1_carryOut_179 rfl (lv_at hl 7 rfl) ?_
            refine y_r7 S J dX1_carryOut_180 ?_
            refine lv_iload hx hb dX1_carryOut_183 (lv_at hl 1 rfl) ?_
            refine y_l7 (v := σ.2 7 ((d - 1) * 4 + wd3 (σ.2 2 c0))) S J ((d - 1) * 4 + wd3 (σ.2 2 c0)) (by have := wd3_lt (σ.2 2 c0); omega) rfl dX1_carryOut_185 ?_
            refine lv_imul hx hb dX1_carryOut_186 ?_
            refine y_s7 S J ((d - 1) * 4 + wd3 (σ.2 1 c0)) (by have := wd3_lt (σ.2 1 c0); omega) dX1_carryOut_187 (fun H locs J => ?_)
            refine lv_goto (tgt := 467) hx hb dX1_carryOut_188 (by decide) ?_
            exact tail (wdA σ 7 ((d - 1) * 4 + wd3 (σ.2 1 c0)) ((σ.2 7 ((d - 1) * 4 + wd3 (σ.2 1 c0))) * (σ.2 7 ((d - 1) * 4 + wd3 (σ.2 2 c0))))) _ _ _ _ hL J (lv_sub hl [7, 0] rfl) (by rw [yCarry, if_neg c_65, if_neg c_81, if_neg c_103, if_neg c_133, if_pos c_163])
        · refine lv_aload_n hx hb dX1_carryOut_136 rfl (lv_at hl 7 rfl) ?_
          refine y_r7 S J dX1_carryOut_137 ?_
          refine lv_iload hx hb dX1_carryOut_140 (lv_at hl 2 rfl) ?_
          refine lv_aload_n hx hb dX1_carryOut_142 rfl (lv_at hl 7 rfl) ?_
          refine y_r7 S J dX1_carryOut_143 ?_
          refine lv_iload hx hb dX1_carryOut_146 (lv_at hl 2 rfl) ?_
          refine y_l7 (v := σ.2 7 ((d - 1) * 4 + wd3 (σ.2 1 c0))) S J ((d - 1) * 4 + wd3 (σ.2 1 c0)) (by have := wd3_lt (σ.2 1 c0); omega) rfl dX1_carryOut_148 ?_
          refine lv_aload_n hx hb dX1_carryOut_149 rfl (lv_at hl 7 rfl) ?_
          refine y_r7 S J dX1_carryOut_150 ?_
          refine lv_iload hx hb dX1_carryOut_153 (lv_at hl 1 rfl) ?_
          refine y_l7 (v := σ.2 7 ((d - 1) * 4 + wd3 (σ.2 2 c0))) S J ((d - 1) * 4 + wd3 (σ.2 2 c0)) (by have := wd3_lt (σ.2 2 c0); omega) rfl dX1_carryOut_155 ?_
          refine lv_isub hx hb dX1_carryOut_156 ?_
          refine y_s7 S J ((d - 1) * 4 + wd3 (σ.2 1 c0)) (by have := wd3_lt (σ.2 1 c0); omega) dX1_carryOut_157 (fun H locs J => ?_)
          refine lv_goto (tgt := 467) hx hb dX1_carryOut_158 (by decide) ?_
          exact tail (wdA σ 7 ((d - 1) * 4 + wd3 (σ.2 1 c0)) ((σ.2 7 ((d - 1) * 4 + wd3 (σ.2 1 c0))) - (σ.2 7 ((d - 1) * 4 + wd3 (σ.2 2 c0))))) _ _ _ _ hL J (lv_sub hl [7, 0] rfl) (by rw [yCarry, if_neg c_65, if_neg c_81, if_neg c_103, if_pos c_133])
      · refine lv_aload_n hx hb dX1_carryOut_106 rfl (lv_at hl 7 rfl) ?_
        refine y_r7 S J dX1_carryOut_107 ?_
        refine lv_iload hx hb dX1_carryOut_110 (lv_at hl 2 rfl) ?_
        refine lv_aload_n hx hb dX1_carryOut_112 rfl (lv_at hl 7 rfl) ?_
        refine y_r7 S J dX1_carryOut_113 ?_
        refine lv_iload hx hb dX1_carryOut_116 (lv_at hl 2 rfl) ?_
        refine y_l7 (v := σ.2 7 ((d - 1) * 4 + wd3 (σ.2 1 c0))) S J ((d - 1) * 4 + wd3 (σ.2 1 c0)) (by have := wd3_lt (σ.2 1 c0); omega) rfl dX1_carryOut_118 ?_
        refine lv_aload_n hx hb dX1_carryOut_119 rfl (lv_at hl 7 rfl) ?_
        refine y_r7 S J dX1_carryOut_120 ?_
        refine lv_iload hx hb dX1_carryOut_123 (lv_at hl 1 rfl) ?_
        refine y_l7 (v := σ.2 7 ((d - 1) * 4 + wd3 (σ.2 2 c0))) S J ((d - 1) * 4 + wd3 (σ.2 2 c0)) (by have := wd3_lt (σ.2 2 c0); omega) rfl dX1_carryOut_125 ?_
        refine lv_iadd hx hb dX1_carryOut_126 ?_
        refine y_s7 S J ((d - 1) * 4 + wd3 (σ.2 1 c0)) (by have := wd3_lt (σ.2 1 c0); omega) dX1_carryOut_127 (fun H locs J => ?_)
        refine lv_goto (tgt := 467) hx hb dX1_carryOut_128 (by decide) ?_
        exact tail (wdA σ 7 ((d - 1) * 4 + wd3 (σ.2 1 c0)) ((σ.2 7 ((d - 1) * 4 + wd3 (σ.2 1 c0))) + (σ.2 7 ((d - 1) * 4 + wd3 (σ.2 2 c0))))) _ _ _ _ hL J (lv_sub hl [7, 0] rfl) (by rw [yCarry, if_neg c_65, if_neg c_81, if_pos c_103])
    · refine lv_aload_n hx hb dX1_carryOut_84 rfl (lv_at hl 7 rfl) ?_
      refine y_r7 S J dX1_carryOut_85 ?_
      refine lv_iload hx hb dX1_carryOut_88 (lv_at hl 2 rfl) ?_
      refine lv_aload_n hx hb dX1_carryOut_90 rfl (lv_at hl 7 rfl) ?_
      refine y_r7 S J dX1_carryOut_91 ?_
      refine lv_iload hx hb dX1_carryOut_94 (lv_at hl 1 rfl) ?_
      refine y_l7 (v := σ.2 7 ((d - 1) * 4 + wd3 (σ.2 2 c0))) S J ((d - 1) * 4 + wd3 (σ.2 2 c0)) (by have := wd3_lt (σ.2 2 c0); omega) rfl dX1_carryOut_96 ?_
      refine y_s7 S J ((d - 1) * 4 + wd3 (σ.2 1 c0)) (by have := wd3_lt (σ.2 1 c0); omega) dX1_carryOut_97 (fun H locs J => ?_)
      refine lv_goto (tgt := 467) hx hb dX1_carryOut_98 (by decide) ?_
      exact tail (wdA σ 7 ((d - 1) * 4 + wd3 (σ.2 1 c0)) (σ.2 7 ((d - 1) * 4 + wd3 (σ.2 2 c0)))) _ _ _ _ hL J (lv_sub hl [7, 0] rfl) (by rw [yCarry, if_neg c_65, if_pos c_81])
  · refine lv_aload_n hx hb dX1_carryOut_68 rfl (lv_at hl 7 rfl) ?_
    refine y_r7 S J dX1_carryOut_69 ?_
    refine lv_iload hx hb dX1_carryOut_72 (lv_at hl 2 rfl) ?_
    refine lv_iload_n hx hb dX1_carryOut_74 rfl (lv_at hl 4 rfl) ?_
    refine y_s7 S J ((d - 1) * 4 + wd3 (σ.2 1 c0)) (by have := wd3_lt (σ.2 1 c0); omega) dX1_carryOut_75 (fun H locs J => ?_)
    refine lv_goto (tgt := 467) hx hb dX1_carryOut_76 (by decide) ?_
    exact tail (wdA σ 7 ((d - 1) * 4 + wd3 (σ.2 1 c0)) (σ.2 2 c0)) _ _ _ _ hL J (lv_sub hl [7, 0] rfl) (by rw [yCarry, if_pos c_65])
end
section
/-! a running model stays one -/
def yI0 (L : Nat) (τ : wdSt) : Prop := τ.1 3 = nI L ∧ L ≤ 20 ∧ (∃ d, 1 ≤ d ∧ d ≤ 6 ∧ τ.1 6 = nI d) ∧ ∀ f, f < 6 → ∃ g, g < 4 ∧ τ.2 9 f = nI g
theorem yI_0 {L : Nat} {τ : wdSt} (h : yI L τ) : yI0 L τ := ⟨h.1, h.2.1, h.2.2.1, h.2.2.2.2⟩
theorem yI_next {L : Nat} {τ : wdSt} {v : Int32} (h : yI0 L τ) : ((yNext L v τ).1 5 = 5 ∨ (yNext L v τ).1 5 = 6) ∨ yI L (yNext L v τ) := by
  unfold yNext
  split
  · exact Or.inl (Or.inr rfl)
  · rename_i hb
    exact Or.inr ⟨h.1, h.2.1, h.2.2.1, wdBad_ex h.2.1 hb, h.2.2.2⟩
theorem yI_carry {L : Nat} {τ : wdSt} (h : yI L τ) : ((yC L τ).1 5 = 5 ∨ (yC L τ).1 5 = 6) ∨ yI L (yC L τ) := by
  obtain ⟨hL, hL2, ⟨d, hd1, hd6, hd⟩, ⟨c, hc2, hc⟩, hg⟩ := id h
  rw [yC_e hc (by omega) hd (by omega)]
  have h0 := yI_0 h
  unfold yCarry
  by_cases e0 : τ.2 0 c = 0
  · rw [if_pos e0]
    exact yI_next h0
  rw [if_neg e0]
  by_cases e1 : τ.2 0 c = 1
  · rw [if_pos e1]
    exact yI_next h0
  rw [if_neg e1]
  by_cases e2 : τ.2 0 c = 2
  · rw [if_pos e2]
    exact yI_next h0
  rw [if_neg e2]
  by_cases e3 : τ.2 0 c = 3
  · rw [if_pos e3]
    exact yI_next h0
  rw [if_neg e3]
  by_cases e4 : τ.2 0 c = 4
  · rw [if_pos e4]
    exact yI_next h0
  rw [if_neg e4]
  by_cases e5 : τ.2 0 c = 5
  · rw [if_pos e5]
    exact yI_next h0
  rw [if_neg e5]
  by_cases e6 : τ.2 0 c = 6
  · rw [if_pos e6]
    exact yI_next h0
  rw [if_neg e6]
  by_cases e7 : τ.2 0 c = 7
  · rw [if_pos e7]
    exact yI_next h0
  rw [if_neg e7]
  by_cases e8 : τ.2 0 c = 8
  · rw [if_pos e8]
    by_cases h6 : d = 6
    · rw [if_pos h6]
      exact Or.inl (Or.inr rfl)
    · rw [if_neg h6]
      refine yI_next ⟨hL, hL2, ⟨d + 1, by omega, by omega, rfl⟩, fun f hf => ?_⟩
      show ∃ g, g < 4 ∧ upd (τ.2 9) (d - 1) (nI (wd3 (τ.2 1 c))) f = nI g
      by_cases e : f = d - 1
      · rw [e, upd_s]
        exact ⟨_, wd3_lt _, rfl⟩
      · rw [upd_n _ _ e]
        exact hg f hf
  rw [if_neg e8]
  by_cases e9 : τ.2 0 c = 9
  · rw [if_pos e9]
    by_cases h1 : d = 1
    · rw [if_pos h1]
      exact Or.inl (Or.inl rfl)
    · rw [if_neg h1]
      exact yI_next ⟨hL, hL2, ⟨d - 1, by omega, by omega, rfl⟩, hg⟩
  rw [if_neg e9]
  exact yI_next h0
/-- level and local, the model's way -/
def yCtr (d : Nat) (v : Int32) (τ : wdSt) : Int32 := if v < 0 ∨ ¬ v < nI d then -3 else if v = 0 then τ.1 10 else τ.2 8 (d - 1 - v.toNatClampNeg)
def yLoc (d : Nat) (v w : Int32) (τ : wdSt) : Int32 := if v < 0 ∨ ¬ v < nI d then 0 else if w < 0 ∨ ¬ w ≤ 3 then 0 else τ.2 7 ((d - 1 - v.toNatClampNeg) * 4 + w.toNatClampNeg)
def yOutp (v : Int32) (τ : wdSt) : Int32 := if v < 0 ∨ 7 < v ∨ ¬ v < τ.1 11 then 0 else τ.2 12 v.toNatClampNeg
def ySkip (L : Nat) (v : Int32) (τ : wdSt) : Int32 := if v < 0 ∨ ¬ v < nI L then -3 else if 0 ≤ τ.2 4 v.toNatClampNeg then τ.2 4 v.toNatClampNeg else -3
def ySetL (d : Nat) (v w : Int32) (τ : wdSt) : Int32 × wdSt := if d = 0 then (-4, τ) else if v < 0 ∨ ¬ v ≤ 3 then (-3, τ) else (0, wdA τ 7 ((d - 1) * 4 + v.toNatClampNeg) w)
theorem wd_le3 {v : Int32} (h : ¬ (v < 0 ∨ ¬ v ≤ 3)) : ∃ j, j ≤ 3 ∧ v = nI j := nI_of2 (M := 3) (n := 3) (by decide) (fun q => h (Or.inl q)) (Classical.not_not.mp (fun q => h (Or.inr q)))
theorem wd_le7 {v : Int32} (h0 : ¬ v < 0) (h7 : ¬ 7 < v) : ∃ j, j ≤ 7 ∧ v = nI j := nI_of2 (M := 7) (n := 7) (by decide) h0 (Int32.not_lt.mp h7)
theorem wd_sub {a b : Nat} (h : b ≤ a) : nI a - nI b = nI (a - b) := pk_sub h
end
section
/-! contracts of WovenDebuggerModel, its loop and the rest: written by gen/gen_y2.py -/
set_option maxHeartbeats 4000000 in
set_option maxRecDepth 100000 in
/-- the model's loop: at its n-th instruction, k more to come -/
theorem yl_run {p : Program} {l : Launch} {e : Env} {s : State} {m : MethodId} {args : Array Value} {below : List Frame} {meth : Method} {c : Code} {D : va_G} {q : Nat → Nat} {cI cZ : ClassId} {sz : Nat} (L : Nat) (p2 most : Int32) (res : Int32 × wdSt) (S : CallFix p m c cX1_run 5 s args lw_all RX1) (hr : meth.sig.returnType = some .int) (hlk : meth.locks = false) : ∀ (k n : Nat) (σ : wdSt), n + k = 301 → yI L σ → yLoop L p2 most k n σ = res → ∀ (H : Heap) (locs : List Loc) (ls : Array Slot), y_J D q cI cZ (y_A q sz) σ s H locs → lv_has ls 5 [(0, .ref (q 0)), (2, .int p2), (3, .int most), (4, .int (nI n))] → W p l e (wdRm 2 49) s m args below meth c H locs 0 0 (MQ below (va_Qi (fun r σ' => (r, σ') = res) (y_B D q cI cZ) (y_A q sz)) args s 0 0 (y_A q sz)) (F0 m 54 ls []) := by
  have hx := S.1
  have hb := S.2.1
  intro k
  induction k with
  | zero =>
    intro n σ hn hI hres H locs ls J hl
    obtain rfl : n = 301 := by omega
    refine lv_iload hx hb dX1_run_54 (lv_at hl 3 rfl) ?_
    refine lv_sipush (v := 300) hx hb dX1_run_56 cs_300 ?_
    refine lv_icmp_gt (tgt := 174) hx hb dX1_run_59 (by decide) (fun c_59 => ?_) (fun c_59 => absurd (by decide) c_59)
    refine lv_sipush (v := 300) hx hb dX1_run_174 cs_300 ?_
    exact y_iret (v := 300) S hr hlk J hres dX1_run_177
  | succ k ih =>
    intro n σ hn hI hres H locs ls J hl
    obtain ⟨hL, hL2, ⟨d, hd1, hd6, hd⟩, ⟨c0, hc2, hc⟩, hg⟩ := id hI
    obtain ⟨t, ht4, ht⟩ := hg (d - 1 - 1) (by omega)
    refine lv_iload hx hb dX1_run_54 (lv_at hl 3 rfl) ?_
    refine lv_sipush (v := 300) hx hb dX1_run_56 cs_300 ?_
    refine lv_icmp_gt (tgt := 174) hx hb dX1_run_59 (by decide) (fun c_59 => ?_) (fun c_59 => ?_)
    · exact absurd c_59 (fun h => nI_nlt (show n ≤ 300 by omega) (by decide) h)
    refine lv_aload_n hx hb dX1_run_62 rfl (lv_at hl 0 rfl) ?_
    refine y_cv S J (yc_carryOut l D q cI cZ _ (σ) L hL hL2 c0 d t hc hc2 hd hd1 hd6 (fun _ => ht) ht4) (yk_carryOut S.2.2.2.2 ⟨Nat.le_of_ble_eq_true rfl, Nat.le_of_ble_eq_true rfl⟩) rfl hl.1 rfl (Nat.le_of_ble_eq_true rfl) dX1_run_63 ⟨Nat.zero_le _, Nat.zero_le _⟩ (fun s1 H locs w_s1 J => ?_)
    rw [← yC_e hc (by omega) hd (by omega)] at w_s1
    have hI1 := yI_carry hI
    rw [yLoop, ← w_s1] at hres
    rw [← w_s1] at hI1
    refine lv_aload_n hx hb dX1_run_66 rfl (lv_at hl 0 rfl) ?_
    refine y_g5 (v := s1.1 5) S J rfl dX1_run_67 ?_
    refine lv_iconst (v := 5) hx hb dX1_run_70 ci_5 ?_
    refine lv_icmp_eq (tgt := 83) hx hb dX1_run_71 (by decide) (fun c_71 => ?_) (fun c_71 => ?_)
    · refine lv_iload hx hb dX1_run_83 (lv_at hl 3 rfl) ?_
      exact y_iret (v := nI n) S hr hlk J (by rw [← hres, yAft, if_pos (Or.inl c_71)]; rfl) dX1_run_85
    · refine lv_aload_n hx hb dX1_run_74 rfl (lv_at hl 0 rfl) ?_
      refine y_g5 (v := s1.1 5) S J rfl dX1_run_75 ?_
      refine lv_bipush (v := 6) hx hb dX1_run_78 cb_6 ?_
      refine lv_icmp_ne (tgt := 86) hx hb dX1_run_80 (by decide) (fun c_80 => ?_) (fun c_80 => ?_)
      · have hno : ¬ (s1.1 5 = 5 ∨ s1.1 5 = 6) := fun h => h.elim c_71 c_80
        have hI1 : yI L s1 := hI1.resolve_left hno
        obtain ⟨-, -, -, ⟨c1, hc12, hc1⟩, -⟩ := id hI1
        refine lv_aload_n hx hb dX1_run_86 rfl (lv_at hl 0 rfl) ?_
        refine y_g6 (v := s1.1 6) S J rfl dX1_run_87 ?_
        refine lv_iload_n hx hb dX1_run_90 rfl (lv_at hl 1 rfl) ?_
        refine lv_icmp_gt (tgt := 102) hx hb dX1_run_91 (by decide) (fun c_91 => ?_) (fun c_91 => ?_)
        · refine lv_aload_n hx hb dX1_run_102 rfl (lv_at hl 0 rfl) ?_
          refine y_r4 S J dX1_run_103 ?_
          refine lv_aload_n hx hb dX1_run_106 rfl (lv_at hl 0 rfl) ?_
          refine y_g10 (v := nI c1) S J hc1 dX1_run_107 ?_
          refine y_l4 (v := s1.2 4 c1) S J c1 (by omega) rfl dX1_run_110 ?_
          refine lv_if_ne (tgt := 122) hx hb dX1_run_111 (by decide) (fun c_111 => ?_) (fun c_111 => ?_)
          · refine lv_aload_n hx hb dX1_run_122 rfl (lv_at hl 0 rfl) ?_
            refine y_r4 S J dX1_run_123 ?_
            refine lv_aload_n hx hb dX1_run_126 rfl (lv_at hl 0 rfl) ?_
            refine y_g10 (v := nI c1) S J hc1 dX1_run_127 ?_
            refine y_l4 (v := s1.2 4 c1) S J c1 (by omega) rfl dX1_run_130 ?_
            refine lv_if_le (tgt := 154) hx hb dX1_run_131 (by decide) (fun c_131 => ?_) (fun c_131 => ?_)
            · refine lv_iload hx hb dX1_run_154 (lv_at hl 3 rfl) ?_
              refine lv_iload_n hx hb dX1_run_156 rfl (lv_at hl 2 rfl) ?_
              refine lv_icmp_ne (tgt := 168) hx hb dX1_run_157 (by decide) (fun c_157 => ?_) (fun c_157 => ?_)
              · refine lv_iinc (v := nI (n + 1)) (lv' := [(4, .int (nI (n + 1))), (0, .ref (q 0)), (2, .int p2), (3, .int most)]) hx hb dX1_run_168 hl (k := 3) rfl (wd_inc _) (by decide) rfl (fun ls hl => ?_)
                refine lv_goto (tgt := 54) hx hb dX1_run_171 (by decide) ?_
                exact ih (n + 1) (s1) (by omega) hI1 (by rw [← hres, yAft, if_neg hno, if_neg (not_not_intro c_91), hc1, nI_clamp (show c1 < 2 ^ 31 by omega), if_neg c_111, if_pos c_131, if_neg c_157]; rfl) _ _ _ J (lv_sub hl [1, 2, 3, 0] rfl)
              · refine lv_aload_n hx hb dX1_run_160 rfl (lv_at hl 0 rfl) ?_
                refine lv_iconst (v := 4) hx hb dX1_run_161 ci_4 ?_
                refine y_p5 S J dX1_run_162 (fun H locs J => ?_)
                refine lv_iload hx hb dX1_run_165 (lv_at hl 3 rfl) ?_
                exact y_iret (v := nI n) S hr hlk J (by rw [← hres, yAft, if_neg hno, if_neg (not_not_intro c_91), hc1, nI_clamp (show c1 < 2 ^ 31 by omega), if_neg c_111, if_pos c_131, if_pos c_157]; rfl) dX1_run_167
            · refine lv_aload_n hx hb dX1_run_134 rfl (lv_at hl 0 rfl) ?_
              refine y_r4 S J dX1_run_135 ?_
              refine lv_aload_n hx hb dX1_run_138 rfl (lv_at hl 0 rfl) ?_
              refine y_g10 (v := nI c1) S J hc1 dX1_run_139 ?_
              refine lv_aload_n hx hb dX1_run_142 rfl (lv_at hl 0 rfl) ?_
              refine y_r4 S J dX1_run_143 ?_
              refine lv_aload_n hx hb dX1_run_146 rfl (lv_at hl 0 rfl) ?_
              refine y_g10 (v := nI c1) S J hc1 dX1_run_147 ?_
              refine y_l4 (v := s1.2 4 c1) S J c1 (by omega) rfl dX1_run_150 ?_
              refine lv_iconst (v := 1) hx hb dX1_run_151 ci_1 ?_
              refine lv_isub hx hb dX1_run_152 ?_
              refine y_s4 S J c1 (by omega) dX1_run_153 (fun H locs J => ?_)
              refine lv_iload hx hb dX1_run_154 (lv_at hl 3 rfl) ?_
              refine lv_iload_n hx hb dX1_run_156 rfl (lv_at hl 2 rfl) ?_
              refine lv_icmp_ne (tgt := 168) hx hb dX1_run_157 (by decide) (fun c_157 => ?_) (fun c_157 => ?_)
              · refine lv_iinc (v := nI (n + 1)) (lv' := [(4, .int (nI (n + 1))), (0, .ref (q 0)), (2, .int p2), (3, .int most)]) hx hb dX1_run_168 hl (k := 3) rfl (wd_inc _) (by decide) rfl (fun ls hl => ?_)
                refine lv_goto (tgt := 54) hx hb dX1_run_171 (by decide) ?_
                exact ih (n + 1) (wdA s1 4 c1 ((s1.2 4 c1) - 1)) (by omega) hI1 (by rw [← hres, yAft, if_neg hno, if_neg (not_not_intro c_91), hc1, nI_clamp (show c1 < 2 ^ 31 by omega), if_neg c_111, if_neg c_131, if_neg c_157]; rfl) _ _ _ J (lv_sub hl [1, 2, 3, 0] rfl)
              · refine lv_aload_n hx hb dX1_run_160 rfl (lv_at hl 0 rfl) ?_
                refine lv_iconst (v := 4) hx hb dX1_run_161 ci_4 ?_
                refine y_p5 S J dX1_run_162 (fun H locs J => ?_)
                refine lv_iload hx hb dX1_run_165 (lv_at hl 3 rfl) ?_
                exact y_iret (v := nI n) S hr hlk J (by rw [← hres, yAft, if_neg hno, if_neg (not_not_intro c_91), hc1, nI_clamp (show c1 < 2 ^ 31 by omega), if_neg c_111, if_neg c_131, if_pos c_157]; rfl) dX1_run_167
          · refine lv_aload_n hx hb dX1_run_114 rfl (lv_at hl 0 rfl) ?_
            refine lv_iconst (v := 3) hx hb dX1_run_115 ci_3 ?_
            refine y_p5 S J dX1_run_116 (fun H locs J => ?_)
            refine lv_iload hx hb dX1_run_119 (lv_at hl 3 rfl) ?_
            exact y_iret (v := nI n) S hr hlk J (by rw [← hres, yAft, if_neg hno, if_neg (not_not_intro c_91), hc1, nI_clamp (show c1 < 2 ^ 31 by omega), if_pos c_111]; rfl) dX1_run_121
        · refine lv_aload_n hx hb dX1_run_94 rfl (lv_at hl 0 rfl) ?_
          refine lv_iconst (v := 2) hx hb dX1_run_95 ci_2 ?_
          refine y_p5 S J dX1_run_96 (fun H locs J => ?_)
          refine lv_iload hx hb dX1_run_99 (lv_at hl 3 rfl) ?_
          exact y_iret (v := nI n) S hr hlk J (by rw [← hres, yAft, if_neg hno, if_pos c_91]; rfl) dX1_run_101
      · refine lv_iload hx hb dX1_run_83 (lv_at hl 3 rfl) ?_
        exact y_iret (v := nI n) S hr hlk J (by rw [← hres, yAft, if_pos (Or.inr c_80)]; rfl) dX1_run_85
set_option maxHeartbeats 4000000 in
set_option maxRecDepth 100000 in
theorem yc_run (l : Launch) (D : va_G) (q : Nat → Nat) (cI cZ : ClassId) (sz : Nat) (σ : wdSt) (L : Nat) (hL : σ.1 3 = nI L) (hL2 : L ≤ 20) (p1 p2 : Int32) (hI : ¬ (σ.1 5 = 0 ∨ σ.1 5 = 5 ∨ σ.1 5 = 6) → yI L σ) : y_MI l yX1_run cX1_run 5 .int 2 49 D q cI cZ sz σ [.int p1, .int p2] (fun r σ' => (r, σ') = yRun L p1 p2 σ) := by
  refine y_open (by decide) rfl (Nat.le_of_ble_eq_true rfl) ?_
  intro p e s m below meth c S hr hlk J ls hl
  have hx := S.1
  have hb := S.2.1
  have hl : lv_has ls 5 [(0, .ref (q 0)), (1, .int p1), (2, .int p2)] := hl
  generalize s.heap = H at J ⊢
  generalize ([] : List Loc) = locs at J ⊢
  refine lv_aload_n hx hb dX1_run_0 rfl (lv_at hl 0 rfl) ?_
  refine y_g5 (v := σ.1 5) S J rfl dX1_run_1 ?_
  refine lv_if_eq (tgt := 24) hx hb dX1_run_4 (by decide) (fun c_4 => ?_) (fun c_4 => ?_)
  · refine lv_bipush (v := -4) hx hb dX1_run_24 cb_m4 ?_
    exact y_iret (v := (-4)) S hr hlk J (by rw [yRun, if_pos (Or.inl c_4)]) dX1_run_26
  · refine lv_aload_n hx hb dX1_run_7 rfl (lv_at hl 0 rfl) ?_
    refine y_g5 (v := σ.1 5) S J rfl dX1_run_8 ?_
    refine lv_iconst (v := 5) hx hb dX1_run_11 ci_5 ?_
    refine lv_icmp_eq (tgt := 24) hx hb dX1_run_12 (by decide) (fun c_12 => ?_) (fun c_12 => ?_)
    · refine lv_bipush (v := -4) hx hb dX1_run_24 cb_m4 ?_
      exact y_iret (v := (-4)) S hr hlk J (by rw [yRun, if_pos (Or.inr (Or.inl c_12))]) dX1_run_26
    · refine lv_aload_n hx hb dX1_run_15 rfl (lv_at hl 0 rfl) ?_
      refine y_g5 (v := σ.1 5) S J rfl dX1_run_16 ?_
      refine lv_bipush (v := 6) hx hb dX1_run_19 cb_6 ?_
      refine lv_icmp_ne (tgt := 27) hx hb dX1_run_21 (by decide) (fun c_21 => ?_) (fun c_21 => ?_)
      · refine lv_iload_n hx hb dX1_run_27 rfl (lv_at hl 1 rfl) ?_
        refine lv_iconst (v := 1) hx hb dX1_run_28 ci_1 ?_
        refine lv_icmp_ge (tgt := 36) hx hb dX1_run_29 (by decide) (fun c_29 => ?_) (fun c_29 => ?_)
        · refine lv_iload_n hx hb dX1_run_36 rfl (lv_at hl 1 rfl) ?_
          refine lv_sipush (v := 300) hx hb dX1_run_37 cs_300 ?_
          refine lv_icmp_le (tgt := 49) hx hb dX1_run_40 (by decide) (fun c_40 => ?_) (fun c_40 => ?_)
          · refine lv_iload_n hx hb dX1_run_49 rfl (lv_at hl 1 rfl) ?_
            refine wd_top (wdCl p1) (by rw [wdCl, if_pos c_29, if_pos c_40]) ?_
            refine lv_istore_n (lv' := [(3, .int (wdCl p1)), (0, .ref (q 0)), (1, .int p1), (2, .int p2)]) hx hb dX1_run_50 rfl hl (by decide) rfl (fun ls hl => ?_)
            refine lv_iconst (v := 1) hx hb dX1_run_51 ci_1 ?_
            refine lv_istore (lv' := [(4, .int 1), (3, .int (wdCl p1)), (0, .ref (q 0)), (1, .int p1), (2, .int p2)]) hx hb dX1_run_52 hl (by decide) rfl (fun ls hl => ?_)
            have hno : ¬ (σ.1 5 = 0 ∨ σ.1 5 = 5 ∨ σ.1 5 = 6) := fun h => h.elim c_4 (fun h => h.elim c_12 c_21)
            exact yl_run L p2 (wdCl p1) _ S hr hlk 300 1 σ rfl (hI hno) (by rw [yRun, if_neg hno]) _ _ _ J (lv_sub hl [2, 4, 1, 0] rfl)
          · refine lv_sipush (v := 300) hx hb dX1_run_43 cs_300 ?_
            refine lv_goto (tgt := 50) hx hb dX1_run_46 (by decide) ?_
            refine wd_top (wdCl p1) (by rw [wdCl, if_pos c_29, if_neg c_40]) ?_
            refine lv_istore_n (lv' := [(3, .int (wdCl p1)), (0, .ref (q 0)), (1, .int p1), (2, .int p2)]) hx hb dX1_run_50 rfl hl (by decide) rfl (fun ls hl => ?_)
            refine lv_iconst (v := 1) hx hb dX1_run_51 ci_1 ?_
            refine lv_istore (lv' := [(4, .int 1), (3, .int (wdCl p1)), (0, .ref (q 0)), (1, .int p1), (2, .int p2)]) hx hb dX1_run_52 hl (by decide) rfl (fun ls hl => ?_)
            have hno : ¬ (σ.1 5 = 0 ∨ σ.1 5 = 5 ∨ σ.1 5 = 6) := fun h => h.elim c_4 (fun h => h.elim c_12 c_21)
            exact yl_run L p2 (wdCl p1) _ S hr hlk 300 1 σ rfl (hI hno) (by rw [yRun, if_neg hno]) _ _ _ J (lv_sub hl [2, 4, 1, 0] rfl)
        · refine lv_iconst (v := 1) hx hb dX1_run_32 ci_1 ?_
          refine lv_goto (tgt := 50) hx hb dX1_run_33 (by decide) ?_
          refine wd_top (wdCl p1) (by rw [wdCl, if_neg c_29]) ?_
          refine lv_istore_n (lv' := [(3, .int (wdCl p1)), (0, .ref (q 0)), (1, .int p1), (2, .int p2)]) hx hb dX1_run_50 rfl hl (by decide) rfl (fun ls hl => ?_)
          refine lv_iconst (v := 1) hx hb dX1_run_51 ci_1 ?_
          refine lv_istore (lv' := [(4, .int 1), (3, .int (wdCl p1)), (0, .ref (q 0)), (1, .int p1), (2, .int p2)]) hx hb dX1_run_52 hl (by decide) rfl (fun ls hl => ?_)
          have hno : ¬ (σ.1 5 = 0 ∨ σ.1 5 = 5 ∨ σ.1 5 = 6) := fun h => h.elim c_4 (fun h => h.elim c_12 c_21)
          exact yl_run L p2 (wdCl p1) _ S hr hlk 300 1 σ rfl (hI hno) (by rw [yRun, if_neg hno]) _ _ _ J (lv_sub hl [2, 4, 1, 0] rfl)
      · refine lv_bipush (v := -4) hx hb dX1_run_24 cb_m4 ?_
        exact y_iret (v := (-4)) S hr hlk J (by rw [yRun, if_pos (Or.inr (Or.inr c_21))]) dX1_run_26
set_option maxHeartbeats 4000000 in
set_option maxRecDepth 100000 in
theorem yc_resume (l : Launch) (D : va_G) (q : Nat → Nat) (cI cZ : ClassId) (sz : Nat) (σ : wdSt) (L : Nat) (hL : σ.1 3 = nI L) (hL2 : L ≤ 20) (hI : ¬ (σ.1 5 = 0 ∨ σ.1 5 = 5 ∨ σ.1 5 = 6) → yI L σ) (p1 : Int32) : y_MI l yX1_resume cX1_resume 2 .int 3 73 D q cI cZ sz σ [.int p1] (fun r σ' => (r, σ') = yRun L p1 0 σ) := by
  refine y_open (by decide) rfl (Nat.le_of_ble_eq_true rfl) ?_
  intro p e s m below meth c S hr hlk J ls hl
  have hx := S.1
  have hb := S.2.1
  have hl : lv_has ls 2 [(0, .ref (q 0)), (1, .int p1)] := hl
  generalize s.heap = H at J ⊢
  generalize ([] : List Loc) = locs at J ⊢
  refine lv_aload_n hx hb dX1_resume_0 rfl (lv_at hl 0 rfl) ?_
  refine lv_iload_n hx hb dX1_resume_1 rfl (lv_at hl 1 rfl) ?_
  refine lv_iconst (v := 0) hx hb dX1_resume_2 ci_0 ?_
  refine y_ci S J (yc_run l D q cI cZ _ (σ) L hL hL2 p1 0 hI) (yk_run S.2.2.2.2 ⟨Nat.le_of_ble_eq_true rfl, Nat.le_of_ble_eq_true rfl⟩) rfl hl.1 rfl (Nat.le_of_ble_eq_true rfl) dX1_resume_3 ⟨Nat.zero_le _, Nat.zero_le _⟩ (fun r_s1 s1 H locs w_s1 J => ?_)
  exact y_iret (v := r_s1) S hr hlk J w_s1 dX1_resume_6
set_option maxHeartbeats 4000000 in
set_option maxRecDepth 100000 in
theorem yc_stepInto (l : Launch) (D : va_G) (q : Nat → Nat) (cI cZ : ClassId) (sz : Nat) (σ : wdSt) (L : Nat) (hL : σ.1 3 = nI L) (hL2 : L ≤ 20) (hI : ¬ (σ.1 5 = 0 ∨ σ.1 5 = 5 ∨ σ.1 5 = 6) → yI L σ) : y_MI l yX1_stepInto cX1_stepInto 1 .int 3 73 D q cI cZ sz σ [] (fun r σ' => (r, σ') = yRun L 1 6 σ) := by
  refine y_open (by decide) rfl (Nat.le_of_ble_eq_true rfl) ?_
  intro p e s m below meth c S hr hlk J ls hl
  have hx := S.1
  have hb := S.2.1
  have hl : lv_has ls 1 [(0, .ref (q 0))] := hl
  generalize s.heap = H at J ⊢
  generalize ([] : List Loc) = locs at J ⊢
  refine lv_aload_n hx hb dX1_stepInto_0 rfl (lv_at hl 0 rfl) ?_
  refine lv_iconst (v := 1) hx hb dX1_stepInto_1 ci_1 ?_
  refine lv_bipush (v := 6) hx hb dX1_stepInto_2 cb_6 ?_
  refine y_ci S J (yc_run l D q cI cZ _ (σ) L hL hL2 1 6 hI) (yk_run S.2.2.2.2 ⟨Nat.le_of_ble_eq_true rfl, Nat.le_of_ble_eq_true rfl⟩) rfl hl.1 rfl (Nat.le_of_ble_eq_true rfl) dX1_stepInto_4 ⟨Nat.zero_le _, Nat.zero_le _⟩ (fun r_s1 s1 H locs w_s1 J => ?_)
  exact y_iret (v := r_s1) S hr hlk J w_s1 dX1_stepInto_7
set_option maxHeartbeats 4000000 in
set_option maxRecDepth 100000 in
theorem yc_stepOver (l : Launch) (D : va_G) (q : Nat → Nat) (cI cZ : ClassId) (sz : Nat) (σ : wdSt) (L : Nat) (hL : σ.1 3 = nI L) (hL2 : L ≤ 20) (hI : ¬ (σ.1 5 = 0 ∨ σ.1 5 = 5 ∨ σ.1 5 = 6) → yI L σ) (p1 : Int32) : y_MI l yX1_stepOver cX1_stepOver 2 .int 3 73 D q cI cZ sz σ [.int p1] (fun r σ' => (r, σ') = yRun L p1 (σ.1 6) σ) := by
  refine y_open (by decide) rfl (Nat.le_of_ble_eq_true rfl) ?_
  intro p e s m below meth c S hr hlk J ls hl
  have hx := S.1
  have hb := S.2.1
  have hl : lv_has ls 2 [(0, .ref (q 0)), (1, .int p1)] := hl
  generalize s.heap = H at J ⊢
  generalize ([] : List Loc) = locs at J ⊢
  refine lv_aload_n hx hb dX1_stepOver_0 rfl (lv_at hl 0 rfl) ?_
  refine lv_iload_n hx hb dX1_stepOver_1 rfl (lv_at hl 1 rfl) ?_
  refine lv_aload_n hx hb dX1_stepOver_2 rfl (lv_at hl 0 rfl) ?_
  refine y_g6 (v := σ.1 6) S J rfl dX1_stepOver_3 ?_
  refine y_ci S J (yc_run l D q cI cZ _ (σ) L hL hL2 p1 (σ.1 6) hI) (yk_run S.2.2.2.2 ⟨Nat.le_of_ble_eq_true rfl, Nat.le_of_ble_eq_true rfl⟩) rfl hl.1 rfl (Nat.le_of_ble_eq_true rfl) dX1_stepOver_6 ⟨Nat.zero_le _, Nat.zero_le _⟩ (fun r_s1 s1 H locs w_s1 J => ?_)
  exact y_iret (v := r_s1) S hr hlk J w_s1 dX1_stepOver_9
set_option maxHeartbeats 4000000 in
set_option maxRecDepth 100000 in
theorem yc_stepOut (l : Launch) (D : va_G) (q : Nat → Nat) (cI cZ : ClassId) (sz : Nat) (σ : wdSt) (L : Nat) (hL : σ.1 3 = nI L) (hL2 : L ≤ 20) (hI : ¬ (σ.1 5 = 0 ∨ σ.1 5 = 5 ∨ σ.1 5 = 6) → yI L σ) (p1 : Int32) : y_MI l yX1_stepOut cX1_stepOut 2 .int 3 73 D q cI cZ sz σ [.int p1] (fun r σ' => (r, σ') = yRun L p1 (σ.1 6 - 1) σ) := by
  refine y_open (by decide) rfl (Nat.le_of_ble_eq_true rfl) ?_
  intro p e s m below meth c S hr hlk J ls hl
  have hx := S.1
  have hb := S.2.1
  have hl : lv_has ls 2 [(0, .ref (q 0)), (1, .int p1)] := hl
  generalize s.heap = H at J ⊢
  generalize ([] : List Loc) = locs at J ⊢
  refine lv_aload_n hx hb dX1_stepOut_0 rfl (lv_at hl 0 rfl) ?_
  refine lv_iload_n hx hb dX1_stepOut_1 rfl (lv_at hl 1 rfl) ?_
  refine lv_aload_n hx hb dX1_stepOut_2 rfl (lv_at hl 0 rfl) ?_
  refine y_g6 (v := σ.1 6) S J rfl dX1_stepOut_3 ?_
  refine lv_iconst (v := 1) hx hb dX1_stepOut_6 ci_1 ?_
  refine lv_isub hx hb dX1_stepOut_7 ?_
  refine y_ci S J (yc_run l D q cI cZ _ (σ) L hL hL2 p1 ((σ.1 6) - 1) hI) (yk_run S.2.2.2.2 ⟨Nat.le_of_ble_eq_true rfl, Nat.le_of_ble_eq_true rfl⟩) rfl hl.1 rfl (Nat.le_of_ble_eq_true rfl) dX1_stepOut_8 ⟨Nat.zero_le _, Nat.zero_le _⟩ (fun r_s1 s1 H locs w_s1 J => ?_)
  exact y_iret (v := r_s1) S hr hlk J w_s1 dX1_stepOut_11
set_option maxHeartbeats 4000000 in
set_option maxRecDepth 100000 in
theorem yc_setLocal (l : Launch) (D : va_G) (q : Nat → Nat) (cI cZ : ClassId) (sz : Nat) (σ : wdSt) (d : Nat) (hd : σ.1 6 = nI d) (hd6 : d ≤ 6) (p1 p2 : Int32) : y_MI l yX1_setLocal cX1_setLocal 3 .int 0 0 D q cI cZ sz σ [.int p1, .int p2] (fun r σ' => (r, σ') = ySetL d p1 p2 σ) := by
  refine y_open (by decide) rfl (Nat.le_of_ble_eq_true rfl) ?_
  intro p e s m below meth c S hr hlk J ls hl
  have hx := S.1
  have hb := S.2.1
  have hl : lv_has ls 3 [(0, .ref (q 0)), (1, .int p1), (2, .int p2)] := hl
  generalize s.heap = H at J ⊢
  generalize ([] : List Loc) = locs at J ⊢
  refine lv_aload_n hx hb dX1_setLocal_0 rfl (lv_at hl 0 rfl) ?_
  refine y_g6 (v := nI d) S J hd dX1_setLocal_1 ?_
  refine lv_if_ne (tgt := 10) hx hb dX1_setLocal_4 (by decide) (fun c_4 => ?_) (fun c_4 => ?_)
  · refine lv_iload_n hx hb dX1_setLocal_10 rfl (lv_at hl 1 rfl) ?_
    refine lv_if_lt (tgt := 19) hx hb dX1_setLocal_11 (by decide) (fun c_11 => ?_) (fun c_11 => ?_)
    · refine lv_bipush (v := -3) hx hb dX1_setLocal_19 cb_m3 ?_
      exact y_iret (v := (-3)) S hr hlk J (by rw [ySetL, if_neg (show ¬ d = 0 from fun h => c_4 (by rw [h]; rfl)), if_pos (Or.inl c_11)]) dX1_setLocal_21
    · refine lv_iload_n hx hb dX1_setLocal_14 rfl (lv_at hl 1 rfl) ?_
      refine lv_iconst (v := 3) hx hb dX1_setLocal_15 ci_3 ?_
      refine lv_icmp_le (tgt := 22) hx hb dX1_setLocal_16 (by decide) (fun c_16 => ?_) (fun c_16 => ?_)
      · obtain ⟨j, hj, ej⟩ := wd_le3 (fun h => h.elim c_11 (fun h => h c_16))
        subst ej
        have hd1 : 1 ≤ d := Nat.pos_of_ne_zero (fun h => c_4 (by rw [h]; rfl))
        refine lv_aload_n hx hb dX1_setLocal_22 rfl (lv_at hl 0 rfl) ?_
        refine y_r7 S J dX1_setLocal_23 ?_
        refine lv_aload_n hx hb dX1_setLocal_26 rfl (lv_at hl 0 rfl) ?_
        refine y_g6 (v := nI d) S J hd dX1_setLocal_27 ?_
        refine lv_iconst (v := 1) hx hb dX1_setLocal_30 ci_1 ?_
        refine lv_isub hx hb dX1_setLocal_31 ?_
        refine wd_top (nI (d - 1)) (wd_pred hd1) ?_
        refine lv_iconst (v := 4) hx hb dX1_setLocal_32 ci_4 ?_
        refine lv_imul hx hb dX1_setLocal_33 ?_
        refine wd_top (nI ((d - 1) * 4)) (wd_mul4 _) ?_
        refine lv_iload_n hx hb dX1_setLocal_34 rfl (lv_at hl 1 rfl) ?_
        refine lv_iadd hx hb dX1_setLocal_35 ?_
        refine wd_top (nI ((d - 1) * 4 + j)) (nI_add _ _) ?_
        refine lv_iload_n hx hb dX1_setLocal_36 rfl (lv_at hl 2 rfl) ?_
        refine y_s7 S J ((d - 1) * 4 + j) (by omega) dX1_setLocal_37 (fun H locs J => ?_)
        refine lv_iconst (v := 0) hx hb dX1_setLocal_38 ci_0 ?_
        exact y_iret (v := 0) S hr hlk J (by rw [ySetL, if_neg (show ¬ d = 0 from fun h => c_4 (by rw [h]; rfl)), if_neg (fun h => h.elim c_11 (fun h => h c_16)), nI_clamp (by omega)]) dX1_setLocal_39
      · refine lv_bipush (v := -3) hx hb dX1_setLocal_19 cb_m3 ?_
        exact y_iret (v := (-3)) S hr hlk J (by rw [ySetL, if_neg (show ¬ d = 0 from fun h => c_4 (by rw [h]; rfl)), if_pos (Or.inr c_16)]) dX1_setLocal_21
  · refine lv_bipush (v := -4) hx hb dX1_setLocal_7 cb_m4 ?_
    exact y_iret (v := (-4)) S hr hlk J (by rw [ySetL, if_pos ((wd_eq d 0 0 (by omega) (by decide) rfl).mp c_4)]) dX1_setLocal_9
set_option maxHeartbeats 4000000 in
set_option maxRecDepth 100000 in
theorem yc_counter (l : Launch) (D : va_G) (q : Nat → Nat) (cI cZ : ClassId) (sz : Nat) (σ : wdSt) (d : Nat) (hd : σ.1 6 = nI d) (hd6 : d ≤ 6) (p1 : Int32) : y_MI l yX1_counter cX1_counter 2 .int 0 0 D q cI cZ sz σ [.int p1] (fun r σ' => σ' = σ ∧ r = yCtr d p1 σ) := by
  refine y_open (by decide) rfl (Nat.le_of_ble_eq_true rfl) ?_
  intro p e s m below meth c S hr hlk J ls hl
  have hx := S.1
  have hb := S.2.1
  have hl : lv_has ls 2 [(0, .ref (q 0)), (1, .int p1)] := hl
  generalize s.heap = H at J ⊢
  generalize ([] : List Loc) = locs at J ⊢
  refine lv_iload_n hx hb dX1_counter_0 rfl (lv_at hl 1 rfl) ?_
  refine lv_if_lt (tgt := 12) hx hb dX1_counter_1 (by decide) (fun c_1 => ?_) (fun c_1 => ?_)
  · refine lv_bipush (v := -3) hx hb dX1_counter_12 cb_m3 ?_
    exact y_iret (v := (-3)) S hr hlk J (⟨rfl, by rw [yCtr, if_pos (Or.inl c_1)]⟩) dX1_counter_14
  · refine lv_iload_n hx hb dX1_counter_4 rfl (lv_at hl 1 rfl) ?_
    refine lv_aload_n hx hb dX1_counter_5 rfl (lv_at hl 0 rfl) ?_
    refine y_g6 (v := nI d) S J hd dX1_counter_6 ?_
    refine lv_icmp_lt (tgt := 15) hx hb dX1_counter_9 (by decide) (fun c_9 => ?_) (fun c_9 => ?_)
    · have hin : ¬ (p1 < 0 ∨ ¬ p1 < nI d) := fun h => h.elim c_1 (fun h => h c_9)
      refine lv_iload_n hx hb dX1_counter_15 rfl (lv_at hl 1 rfl) ?_
      refine lv_if_ne (tgt := 26) hx hb dX1_counter_16 (by decide) (fun c_16 => ?_) (fun c_16 => ?_)
      · obtain ⟨j, hj, ej⟩ := wdBad_ex (L := d) (by omega) hin
        subst ej
        refine lv_aload_n hx hb dX1_counter_26 rfl (lv_at hl 0 rfl) ?_
        refine y_r8 S J dX1_counter_27 ?_
        refine lv_aload_n hx hb dX1_counter_30 rfl (lv_at hl 0 rfl) ?_
        refine y_g6 (v := nI d) S J hd dX1_counter_31 ?_
        refine lv_iconst (v := 1) hx hb dX1_counter_34 ci_1 ?_
        refine lv_isub hx hb dX1_counter_35 ?_
        refine wd_top (nI (d - 1)) (wd_pred (by omega)) ?_
        refine lv_iload_n hx hb dX1_counter_36 rfl (lv_at hl 1 rfl) ?_
        refine lv_isub hx hb dX1_counter_37 ?_
        refine wd_top (nI (d - 1 - j)) (wd_sub (by omega)) ?_
        refine y_l8 (v := σ.2 8 (d - 1 - j)) S J (d - 1 - j) (by omega) rfl dX1_counter_38 ?_
        exact y_iret (v := σ.2 8 (d - 1 - j)) S hr hlk J (⟨rfl, by rw [yCtr, if_neg hin, if_neg c_16, nI_clamp (by omega)]⟩) dX1_counter_39
      · refine lv_aload_n hx hb dX1_counter_19 rfl (lv_at hl 0 rfl) ?_
        refine y_g10 (v := σ.1 10) S J rfl dX1_counter_20 ?_
        refine lv_goto (tgt := 39) hx hb dX1_counter_23 (by decide) ?_
        exact y_iret (v := σ.1 10) S hr hlk J (⟨rfl, by rw [yCtr, if_neg hin, if_pos c_16]⟩) dX1_counter_39
    · refine lv_bipush (v := -3) hx hb dX1_counter_12 cb_m3 ?_
      exact y_iret (v := (-3)) S hr hlk J (⟨rfl, by rw [yCtr, if_pos (Or.inr c_9)]⟩) dX1_counter_14
set_option maxHeartbeats 4000000 in
set_option maxRecDepth 100000 in
theorem yc_local (l : Launch) (D : va_G) (q : Nat → Nat) (cI cZ : ClassId) (sz : Nat) (σ : wdSt) (d : Nat) (hd : σ.1 6 = nI d) (hd6 : d ≤ 6) (p1 p2 : Int32) : y_MI l yX1_local cX1_local 3 .int 0 0 D q cI cZ sz σ [.int p1, .int p2] (fun r σ' => σ' = σ ∧ r = yLoc d p1 p2 σ) := by
  refine y_open (by decide) rfl (Nat.le_of_ble_eq_true rfl) ?_
  intro p e s m below meth c S hr hlk J ls hl
  have hx := S.1
  have hb := S.2.1
  have hl : lv_has ls 3 [(0, .ref (q 0)), (1, .int p1), (2, .int p2)] := hl
  generalize s.heap = H at J ⊢
  generalize ([] : List Loc) = locs at J ⊢
  refine lv_iload_n hx hb dX1_local_0 rfl (lv_at hl 1 rfl) ?_
  refine lv_if_lt (tgt := 21) hx hb dX1_local_1 (by decide) (fun c_1 => ?_) (fun c_1 => ?_)
  · refine lv_iconst (v := 0) hx hb dX1_local_21 ci_0 ?_
    exact y_iret (v := 0) S hr hlk J (⟨rfl, by rw [yLoc, if_pos (Or.inl c_1)]⟩) dX1_local_22
  · refine lv_iload_n hx hb dX1_local_4 rfl (lv_at hl 1 rfl) ?_
    refine lv_aload_n hx hb dX1_local_5 rfl (lv_at hl 0 rfl) ?_
    refine y_g6 (v := nI d) S J hd dX1_local_6 ?_
    refine lv_icmp_ge (tgt := 21) hx hb dX1_local_9 (by decide) (fun c_9 => ?_) (fun c_9 => ?_)
    · refine lv_iconst (v := 0) hx hb dX1_local_21 ci_0 ?_
      exact y_iret (v := 0) S hr hlk J (⟨rfl, by rw [yLoc, if_pos (Or.inr (Int32.not_lt.mpr c_9))]⟩) dX1_local_22
    · have hin : ¬ (p1 < 0 ∨ ¬ p1 < nI d) := fun h => h.elim c_1 (fun h => h (Int32.not_le.mp c_9))
      refine lv_iload_n hx hb dX1_local_12 rfl (lv_at hl 2 rfl) ?_
      refine lv_if_lt (tgt := 21) hx hb dX1_local_13 (by decide) (fun c_13 => ?_) (fun c_13 => ?_)
      · refine lv_iconst (v := 0) hx hb dX1_local_21 ci_0 ?_
        exact y_iret (v := 0) S hr hlk J (⟨rfl, by rw [yLoc, if_neg hin, if_pos (Or.inl c_13)]⟩) dX1_local_22
      · refine lv_iload_n hx hb dX1_local_16 rfl (lv_at hl 2 rfl) ?_
        refine lv_iconst (v := 3) hx hb dX1_local_17 ci_3 ?_
        refine lv_icmp_le (tgt := 23) hx hb dX1_local_18 (by decide) (fun c_18 => ?_) (fun c_18 => ?_)
        · have hi3 : ¬ (p2 < 0 ∨ ¬ p2 ≤ 3) := fun h => h.elim c_13 (fun h => h c_18)
          obtain ⟨j, hj, ej⟩ := wdBad_ex (L := d) (by omega) hin
          subst ej
          obtain ⟨k, hk, ek⟩ := wd_le3 hi3
          subst ek
          refine lv_aload_n hx hb dX1_local_23 rfl (lv_at hl 0 rfl) ?_
          refine y_r7 S J dX1_local_24 ?_
          refine lv_aload_n hx hb dX1_local_27 rfl (lv_at hl 0 rfl) ?_
          refine y_g6 (v := nI d) S J hd dX1_local_28 ?_
          refine lv_iconst (v := 1) hx hb dX1_local_31 ci_1 ?_
          refine lv_isub hx hb dX1_local_32 ?_
          refine wd_top (nI (d - 1)) (wd_pred (by omega)) ?_
          refine lv_iload_n hx hb dX1_local_33 rfl (lv_at hl 1 rfl) ?_
          refine lv_isub hx hb dX1_local_34 ?_
          refine wd_top (nI (d - 1 - j)) (wd_sub (by omega)) ?_
          refine lv_iconst (v := 4) hx hb dX1_local_35 ci_4 ?_
          refine lv_imul hx hb dX1_local_36 ?_
          refine wd_top (nI ((d - 1 - j) * 4)) (wd_mul4 _) ?_
          refine lv_iload_n hx hb dX1_local_37 rfl (lv_at hl 2 rfl) ?_
          refine lv_iadd hx hb dX1_local_38 ?_
          refine wd_top (nI ((d - 1 - j) * 4 + k)) (nI_add _ _) ?_
          refine y_l7 (v := σ.2 7 ((d - 1 - j) * 4 + k)) S J ((d - 1 - j) * 4 + k) (by omega) rfl dX1_local_39 ?_
          exact y_iret (v := σ.2 7 ((d - 1 - j) * 4 + k)) S hr hlk J (⟨rfl, by rw [yLoc, if_neg hin, if_neg hi3, nI_clamp (by omega), nI_clamp (by omega)]⟩) dX1_local_40
        · refine lv_iconst (v := 0) hx hb dX1_local_21 ci_0 ?_
          exact y_iret (v := 0) S hr hlk J (⟨rfl, by rw [yLoc, if_neg hin, if_pos (Or.inr c_18)]⟩) dX1_local_22
set_option maxHeartbeats 4000000 in
set_option maxRecDepth 100000 in
theorem yc_output (l : Launch) (D : va_G) (q : Nat → Nat) (cI cZ : ClassId) (sz : Nat) (σ : wdSt) (p1 : Int32) : y_MI l yX1_output cX1_output 2 .int 0 0 D q cI cZ sz σ [.int p1] (fun r σ' => σ' = σ ∧ r = yOutp p1 σ) := by
  refine y_open (by decide) rfl (Nat.le_of_ble_eq_true rfl) ?_
  intro p e s m below meth c S hr hlk J ls hl
  have hx := S.1
  have hb := S.2.1
  have hl : lv_has ls 2 [(0, .ref (q 0)), (1, .int p1)] := hl
  generalize s.heap = H at J ⊢
  generalize ([] : List Loc) = locs at J ⊢
  refine lv_iload_n hx hb dX1_output_0 rfl (lv_at hl 1 rfl) ?_
  refine lv_if_lt (tgt := 18) hx hb dX1_output_1 (by decide) (fun c_1 => ?_) (fun c_1 => ?_)
  · refine lv_iconst (v := 0) hx hb dX1_output_18 ci_0 ?_
    exact y_iret (v := 0) S hr hlk J (⟨rfl, by rw [yOutp, if_pos (Or.inl c_1)]⟩) dX1_output_19
  · refine lv_iload_n hx hb dX1_output_4 rfl (lv_at hl 1 rfl) ?_
    refine lv_bipush (v := 7) hx hb dX1_output_5 cb_7 ?_
    refine lv_icmp_gt (tgt := 18) hx hb dX1_output_7 (by decide) (fun c_7 => ?_) (fun c_7 => ?_)
    · refine lv_iconst (v := 0) hx hb dX1_output_18 ci_0 ?_
      exact y_iret (v := 0) S hr hlk J (⟨rfl, by rw [yOutp, if_pos (Or.inr (Or.inl c_7))]⟩) dX1_output_19
    · refine lv_iload_n hx hb dX1_output_10 rfl (lv_at hl 1 rfl) ?_
      refine lv_aload_n hx hb dX1_output_11 rfl (lv_at hl 0 rfl) ?_
      refine y_g11 (v := σ.1 11) S J rfl dX1_output_12 ?_
      refine lv_icmp_lt (tgt := 20) hx hb dX1_output_15 (by decide) (fun c_15 => ?_) (fun c_15 => ?_)
      · obtain ⟨j, hj, ej⟩ := wd_le7 c_1 c_7
        subst ej
        refine lv_aload_n hx hb dX1_output_20 rfl (lv_at hl 0 rfl) ?_
        refine y_r12 S J dX1_output_21 ?_
        refine lv_iload_n hx hb dX1_output_24 rfl (lv_at hl 1 rfl) ?_
        refine y_l12 (v := σ.2 12 j) S J j (by omega) rfl dX1_output_25 ?_
        exact y_iret (v := σ.2 12 j) S hr hlk J (⟨rfl, by rw [yOutp, if_neg (fun h => h.elim c_1 (fun h => h.elim c_7 (fun h => h c_15))), nI_clamp (by omega)]⟩) dX1_output_26
      · refine lv_iconst (v := 0) hx hb dX1_output_18 ci_0 ?_
        exact y_iret (v := 0) S hr hlk J (⟨rfl, by rw [yOutp, if_pos (Or.inr (Or.inr c_15))]⟩) dX1_output_19
set_option maxHeartbeats 4000000 in
set_option maxRecDepth 100000 in
theorem yc_skip (l : Launch) (D : va_G) (q : Nat → Nat) (cI cZ : ClassId) (sz : Nat) (σ : wdSt) (L : Nat) (hL : σ.1 3 = nI L) (hL2 : L ≤ 20) (p1 : Int32) : y_MI l yX1_skip cX1_skip 2 .int 1 21 D q cI cZ sz σ [.int p1] (fun r σ' => σ' = σ ∧ r = ySkip L p1 σ) := by
  refine y_open (by decide) rfl (Nat.le_of_ble_eq_true rfl) ?_
  intro p e s m below meth c S hr hlk J ls hl
  have hx := S.1
  have hb := S.2.1
  have hl : lv_has ls 2 [(0, .ref (q 0)), (1, .int p1)] := hl
  generalize s.heap = H at J ⊢
  generalize ([] : List Loc) = locs at J ⊢
  refine lv_aload_n hx hb dX1_skip_0 rfl (lv_at hl 0 rfl) ?_
  refine lv_iload_n hx hb dX1_skip_1 rfl (lv_at hl 1 rfl) ?_
  refine y_ci S J (yc_noInstruction l D q cI cZ _ (σ) L hL hL2 p1) (yk_noInstruction S.2.2.2.2 ⟨Nat.le_of_ble_eq_true rfl, Nat.le_of_ble_eq_true rfl⟩) rfl hl.1 rfl (Nat.le_of_ble_eq_true rfl) dX1_skip_2 ⟨Nat.zero_le _, Nat.zero_le _⟩ (fun r_s1 s1 H locs w_s1 J => ?_)
  obtain ⟨e_s1, w_s1⟩ := w_s1
  rw [e_s1] at J
  refine lv_if_ne (tgt := 17) hx hb dX1_skip_5 (by decide) (fun c_5 => ?_) (fun c_5 => ?_)
  · refine lv_bipush (v := -3) hx hb dX1_skip_17 cb_m3 ?_
    refine lv_goto (tgt := 28) hx hb dX1_skip_19 (by decide) ?_
    exact y_iret (v := (-3)) S hr hlk J (⟨rfl, by rw [ySkip, if_pos (wdBad_1 w_s1 hL2 c_5)]⟩) dX1_skip_28
  · obtain ⟨j, hj, ej⟩ := wdNI_z w_s1 c_5
    subst ej
    refine lv_aload_n hx hb dX1_skip_8 rfl (lv_at hl 0 rfl) ?_
    refine y_r4 S J dX1_skip_9 ?_
    refine lv_iload_n hx hb dX1_skip_12 rfl (lv_at hl 1 rfl) ?_
    refine y_l4 (v := σ.2 4 j) S J j (by omega) rfl dX1_skip_13 ?_
    refine lv_if_ge (tgt := 22) hx hb dX1_skip_14 (by decide) (fun c_14 => ?_) (fun c_14 => ?_)
    · refine lv_aload_n hx hb dX1_skip_22 rfl (lv_at hl 0 rfl) ?_
      refine y_r4 S J dX1_skip_23 ?_
      refine lv_iload_n hx hb dX1_skip_26 rfl (lv_at hl 1 rfl) ?_
      refine y_l4 (v := σ.2 4 j) S J j (by omega) rfl dX1_skip_27 ?_
      exact y_iret (v := σ.2 4 j) S hr hlk J (⟨rfl, by rw [ySkip, if_neg (wdBad_in hL2 hj), nI_clamp (by omega), if_pos c_14]⟩) dX1_skip_28
    · refine lv_bipush (v := -3) hx hb dX1_skip_17 cb_m3 ?_
      refine lv_goto (tgt := 28) hx hb dX1_skip_19 (by decide) ?_
      exact y_iret (v := (-3)) S hr hlk J (⟨rfl, by rw [ySkip, if_neg (wdBad_in hL2 hj), nI_clamp (by omega), if_neg c_14]⟩) dX1_skip_28
end
section
/-! what WovenDebugger's plain methods compute -/
def xEmit (L : Nat) (o a b : Int32) (σ : wdSt) : Int32 × wdSt :=
  if o < 0 ∨ ¬ o ≤ 10 then (-1, σ) else if ¬ nI L < 20 then (-2, σ) else if σ.1 14 = 0 then (nI L, wdS (wdA (wdA (wdA σ 1 L o) 2 L a) 3 L b) 0 (nI (L + 1))) else (-3, σ)
def xLoc (d : Nat) (v w : Int32) (σ : wdSt) : Int32 := if v < 0 ∨ ¬ v < nI d then 0 else if w < 0 ∨ ¬ w ≤ 3 then 0 else σ.2 19 ((d - 1 - v.toNatClampNeg) * 4 + w.toNatClampNeg)
def xOutp (v : Int32) (σ : wdSt) : Int32 := if v < 0 ∨ 7 < v ∨ ¬ v < σ.1 22 then 0 else σ.2 23 (wd7 (σ.1 22 - 1 - v))
def xSkip (L : Nat) (v : Int32) (σ : wdSt) : Int32 := if v < 0 ∨ ¬ v < nI L then -3 else if σ.2 5 v.toNatClampNeg = 0 then -3 else σ.2 6 v.toNatClampNeg
def xSetL (d : Nat) (v w : Int32) (σ : wdSt) : Int32 × wdSt := if d = 0 then (-4, σ) else if v < 0 ∨ ¬ v ≤ 3 then (-3, σ) else (0, wdA σ 19 ((d - 1) * 4 + v.toNatClampNeg) w)
/-- perform at place a of instruction i, o its operation, d frames, t the local that takes -/
def xPerf (a i d t o : Nat) (σ : wdSt) : wdSt :=
  if o ≤ 4 then wdS (wdA σ 19 ((d - 1) * 4 + wd3 (σ.2 2 i)) (wdCo o (σ.2 3 i) (σ.2 19 ((d - 1) * 4 + wd3 (σ.2 2 i))) (σ.2 19 ((d - 1) * 4 + wd3 (σ.2 3 i))))) 15 (nI (a + 1))
  else if o = 5 then wdJump a i σ
  else if o = 6 then (if σ.2 19 ((d - 1) * 4 + wd3 (σ.2 2 i >>> ((2 : Int32) &&& 31))) ≤ σ.2 19 ((d - 1) * 4 + wd3 (σ.2 2 i)) then wdS σ 15 (nI (a + 1)) else wdJump a i σ)
  else if o = 7 then (if σ.2 19 ((d - 1) * 4 + wd3 (σ.2 2 i)) = 0 then wdJump a i σ else wdS σ 15 (nI (a + 1)))
  else if o = 8 then wdCall a i ((d - 1) * 4 + wd3 (σ.2 2 i)) d σ
  else if o = 9 then wdGive d t σ
  else wdS (wdS (wdA σ 23 (wd7 (σ.1 22)) (σ.2 19 ((d - 1) * 4 + wd3 (σ.2 2 i)))) 22 (σ.1 22 + 1)) 15 (nI (a + 1))
end
section
/-! contracts of WovenDebugger, plain ones: written by gen/gen_x2.py -/
set_option maxHeartbeats 4000000 in
set_option maxRecDepth 100000 in
theorem xc_emit (l : Launch) (D : va_G) (q : Nat → Nat) (cI cZ : ClassId) (sz : Nat) (σ : wdSt) (L : Nat) (hL : σ.1 0 = nI L) (hL2 : L ≤ 20) (p1 p2 p3 : Int32) : x_MI l yX0_emit cX0_emit 5 .int 0 0 D q cI cZ sz σ [.int p1, .int p2, .int p3] (fun r σ' => (r, σ') = xEmit L p1 p2 p3 σ) := by
  refine x_open (by decide) rfl (Nat.le_of_ble_eq_true rfl) ?_
  intro p e s m below meth c S hr hlk J ls hl
  have hx := S.1
  have hb := S.2.1
  have hl : lv_has ls 5 [(0, .ref (q 0)), (1, .int p1), (2, .int p2), (3, .int p3)] := hl
  generalize s.heap = H at J ⊢
  generalize ([] : List Loc) = locs at J ⊢
  refine lv_iload_n hx hb dX0_emit_0 rfl (lv_at hl 1 rfl) ?_
  refine lv_if_lt (tgt := 10) hx hb dX0_emit_1 (by decide) (fun c_1 => ?_) (fun c_1 => ?_)
  · refine lv_iconst (v := -1) hx hb dX0_emit_10 ci_m1 ?_
    exact x_iret (v := (-1)) S hr hlk J (by rw [xEmit, if_pos (Or.inl c_1)]) dX0_emit_11
  · refine lv_iload_n hx hb dX0_emit_4 rfl (lv_at hl 1 rfl) ?_
    refine lv_bipush (v := 10) hx hb dX0_emit_5 cb_10 ?_
    refine lv_icmp_le (tgt := 12) hx hb dX0_emit_7 (by decide) (fun c_7 => ?_) (fun c_7 => ?_)
    · refine lv_aload_n hx hb dX0_emit_12 rfl (lv_at hl 0 rfl) ?_
      refine x_g0 (v := nI L) S J hL dX0_emit_13 ?_
      refine lv_bipush (v := 20) hx hb dX0_emit_16 cb_20 ?_
      refine lv_icmp_lt (tgt := 24) hx hb dX0_emit_18 (by decide) (fun c_18 => ?_) (fun c_18 => ?_)
      · refine lv_aload_n hx hb dX0_emit_24 rfl (lv_at hl 0 rfl) ?_
        refine x_g14 (v := σ.1 14) S J rfl dX0_emit_25 ?_
        refine lv_if_eq (tgt := 34) hx hb dX0_emit_28 (by decide) (fun c_28 => ?_) (fun c_28 => ?_)
        · have hL19 : L < 20 := (wd_lt L 20 20 (by omega) (by decide) rfl).mp c_18
          refine lv_aload_n hx hb dX0_emit_34 rfl (lv_at hl 0 rfl) ?_
          refine x_g0 (v := nI L) S J hL dX0_emit_35 ?_
          refine lv_istore (lv' := [(4, .int (nI L)), (0, .ref (q 0)), (1, .int p1), (2, .int p2), (3, .int p3)]) hx hb dX0_emit_38 hl (by decide) rfl (fun ls hl => ?_)
          refine lv_aload_n hx hb dX0_emit_40 rfl (lv_at hl 1 rfl) ?_
          refine x_r1 S J dX0_emit_41 ?_
          refine lv_iload hx hb dX0_emit_44 (lv_at hl 0 rfl) ?_
          refine lv_iload_n hx hb dX0_emit_46 rfl (lv_at hl 2 rfl) ?_
          refine x_s1 S J L (by omega) dX0_emit_47 (fun H locs J => ?_)
          refine lv_aload_n hx hb dX0_emit_48 rfl (lv_at hl 1 rfl) ?_
          refine x_r2 S J dX0_emit_49 ?_
          refine lv_iload hx hb dX0_emit_52 (lv_at hl 0 rfl) ?_
          refine lv_iload_n hx hb dX0_emit_54 rfl (lv_at hl 3 rfl) ?_
          refine x_s2 S J L (by omega) dX0_emit_55 (fun H locs J => ?_)
          refine lv_aload_n hx hb dX0_emit_56 rfl (lv_at hl 1 rfl) ?_
          refine x_r3 S J dX0_emit_57 ?_
          refine lv_iload hx hb dX0_emit_60 (lv_at hl 0 rfl) ?_
          refine lv_iload_n hx hb dX0_emit_62 rfl (lv_at hl 4 rfl) ?_
          refine x_s3 S J L (by omega) dX0_emit_63 (fun H locs J => ?_)
          refine lv_aload_n hx hb dX0_emit_64 rfl (lv_at hl 1 rfl) ?_
          refine lv_dup hx hb dX0_emit_65 rfl ?_
          refine x_g0 (v := nI L) S J hL dX0_emit_66 ?_
          refine lv_iconst (v := 1) hx hb dX0_emit_69 ci_1 ?_
          refine lv_iadd hx hb dX0_emit_70 ?_
          refine wd_top (nI (L + 1)) (nI_1 _) ?_
          refine x_p0 S J dX0_emit_71 (fun H locs J => ?_)
          refine lv_iload hx hb dX0_emit_74 (lv_at hl 0 rfl) ?_
          exact x_iret (v := nI L) S hr hlk J (by rw [xEmit, if_neg (fun h => h.elim c_1 (fun h => h c_7)), if_neg (not_not_intro c_18), if_pos c_28]) dX0_emit_76
        · refine lv_bipush (v := -3) hx hb dX0_emit_31 cb_m3 ?_
          exact x_iret (v := (-3)) S hr hlk J (by rw [xEmit, if_neg (fun h => h.elim c_1 (fun h => h c_7)), if_neg (not_not_intro c_18), if_neg c_28]) dX0_emit_33
      · refine lv_bipush (v := -2) hx hb dX0_emit_21 cb_m2 ?_
        exact x_iret (v := (-2)) S hr hlk J (by rw [xEmit, if_neg (fun h => h.elim c_1 (fun h => h c_7)), if_pos c_18]) dX0_emit_23
    · refine lv_iconst (v := -1) hx hb dX0_emit_10 ci_m1 ?_
      exact x_iret (v := (-1)) S hr hlk J (by rw [xEmit, if_pos (Or.inr c_7)]) dX0_emit_11
set_option maxHeartbeats 4000000 in
set_option maxRecDepth 100000 in
theorem xc_setLocal (l : Launch) (D : va_G) (q : Nat → Nat) (cI cZ : ClassId) (sz : Nat) (σ : wdSt) (d : Nat) (hd : σ.1 18 = nI d) (hd6 : d ≤ 6) (p1 p2 : Int32) : x_MI l yX0_setLocal cX0_setLocal 3 .int 1 20 D q cI cZ sz σ [.int p1, .int p2] (fun r σ' => (r, σ') = xSetL d p1 p2 σ) := by
  refine x_open (by decide) rfl (Nat.le_of_ble_eq_true rfl) ?_
  intro p e s m below meth c S hr hlk J ls hl
  have hx := S.1
  have hb := S.2.1
  have hl : lv_has ls 3 [(0, .ref (q 0)), (1, .int p1), (2, .int p2)] := hl
  generalize s.heap = H at J ⊢
  generalize ([] : List Loc) = locs at J ⊢
  refine lv_aload_n hx hb dX0_setLocal_0 rfl (lv_at hl 0 rfl) ?_
  refine x_g18 (v := nI d) S J hd dX0_setLocal_1 ?_
  refine lv_if_ne (tgt := 10) hx hb dX0_setLocal_4 (by decide) (fun c_4 => ?_) (fun c_4 => ?_)
  · refine lv_iload_n hx hb dX0_setLocal_10 rfl (lv_at hl 1 rfl) ?_
    refine lv_if_lt (tgt := 19) hx hb dX0_setLocal_11 (by decide) (fun c_11 => ?_) (fun c_11 => ?_)
    · refine lv_bipush (v := -3) hx hb dX0_setLocal_19 cb_m3 ?_
      exact x_iret (v := (-3)) S hr hlk J (by rw [xSetL, if_neg (show ¬ d = 0 from fun h => c_4 (by rw [h]; rfl)), if_pos (Or.inl c_11)]) dX0_setLocal_21
    · refine lv_iload_n hx hb dX0_setLocal_14 rfl (lv_at hl 1 rfl) ?_
      refine lv_iconst (v := 3) hx hb dX0_setLocal_15 ci_3 ?_
      refine lv_icmp_le (tgt := 22) hx hb dX0_setLocal_16 (by decide) (fun c_16 => ?_) (fun c_16 => ?_)
      · obtain ⟨j, hj, ej⟩ := wd_le3 (fun h => h.elim c_11 (fun h => h c_16))
        subst ej
        have hd1 : 1 ≤ d := Nat.pos_of_ne_zero (fun h => c_4 (by rw [h]; rfl))
        refine lv_aload_n hx hb dX0_setLocal_22 rfl (lv_at hl 0 rfl) ?_
        refine x_r19 S J dX0_setLocal_23 ?_
        refine lv_aload_n hx hb dX0_setLocal_26 rfl (lv_at hl 0 rfl) ?_
        refine x_ci S J (xc_base l D q cI cZ _ (σ) d hd hd1) (xk_base S.2.2.2.2 ⟨Nat.le_of_ble_eq_true rfl, Nat.le_of_ble_eq_true rfl⟩) rfl hl.1 rfl (Nat.le_of_ble_eq_true rfl) dX0_setLocal_27 ⟨Nat.zero_le _, Nat.zero_le _⟩ (fun r_b1 b1 H locs w_b1 J => ?_)
        obtain ⟨e_b1, w_b1⟩ := w_b1
        rw [e_b1] at J
        refine wd_top (nI ((d - 1) * 4)) w_b1 ?_
        refine lv_iload_n hx hb dX0_setLocal_30 rfl (lv_at hl 1 rfl) ?_
        refine lv_iadd hx hb dX0_setLocal_31 ?_
        refine wd_top (nI ((d - 1) * 4 + j)) (nI_add _ _) ?_
        refine lv_iload_n hx hb dX0_setLocal_32 rfl (lv_at hl 2 rfl) ?_
        refine x_s19 S J ((d - 1) * 4 + j) (by omega) dX0_setLocal_33 (fun H locs J => ?_)
        refine lv_iconst (v := 0) hx hb dX0_setLocal_34 ci_0 ?_
        exact x_iret (v := 0) S hr hlk J (by rw [xSetL, if_neg (show ¬ d = 0 from fun h => c_4 (by rw [h]; rfl)), if_neg (fun h => h.elim c_11 (fun h => h c_16)), nI_clamp (by omega)]) dX0_setLocal_35
      · refine lv_bipush (v := -3) hx hb dX0_setLocal_19 cb_m3 ?_
        exact x_iret (v := (-3)) S hr hlk J (by rw [xSetL, if_neg (show ¬ d = 0 from fun h => c_4 (by rw [h]; rfl)), if_pos (Or.inr c_16)]) dX0_setLocal_21
  · refine lv_bipush (v := -4) hx hb dX0_setLocal_7 cb_m4 ?_
    exact x_iret (v := (-4)) S hr hlk J (by rw [xSetL, if_pos ((wd_eq d 0 0 (by omega) (by decide) rfl).mp c_4)]) dX0_setLocal_9
set_option maxHeartbeats 4000000 in
set_option maxRecDepth 100000 in
theorem xc_local (l : Launch) (D : va_G) (q : Nat → Nat) (cI cZ : ClassId) (sz : Nat) (σ : wdSt) (d : Nat) (hd : σ.1 18 = nI d) (hd6 : d ≤ 6) (p1 p2 : Int32) : x_MI l yX0_local cX0_local 3 .int 0 0 D q cI cZ sz σ [.int p1, .int p2] (fun r σ' => σ' = σ ∧ r = xLoc d p1 p2 σ) := by
  refine x_open (by decide) rfl (Nat.le_of_ble_eq_true rfl) ?_
  intro p e s m below meth c S hr hlk J ls hl
  have hx := S.1
  have hb := S.2.1
  have hl : lv_has ls 3 [(0, .ref (q 0)), (1, .int p1), (2, .int p2)] := hl
  generalize s.heap = H at J ⊢
  generalize ([] : List Loc) = locs at J ⊢
  refine lv_iload_n hx hb dX0_local_0 rfl (lv_at hl 1 rfl) ?_
  refine lv_if_lt (tgt := 21) hx hb dX0_local_1 (by decide) (fun c_1 => ?_) (fun c_1 => ?_)
  · refine lv_iconst (v := 0) hx hb dX0_local_21 ci_0 ?_
    exact x_iret (v := 0) S hr hlk J (⟨rfl, by rw [xLoc, if_pos (Or.inl c_1)]⟩) dX0_local_22
  · refine lv_iload_n hx hb dX0_local_4 rfl (lv_at hl 1 rfl) ?_
    refine lv_aload_n hx hb dX0_local_5 rfl (lv_at hl 0 rfl) ?_
    refine x_g18 (v := nI d) S J hd dX0_local_6 ?_
    refine lv_icmp_ge (tgt := 21) hx hb dX0_local_9 (by decide) (fun c_9 => ?_) (fun c_9 => ?_)
    · refine lv_iconst (v := 0) hx hb dX0_local_21 ci_0 ?_
      exact x_iret (v := 0) S hr hlk J (⟨rfl, by rw [xLoc, if_pos (Or.inr (Int32.not_lt.mpr c_9))]⟩) dX0_local_22
    · have hin : ¬ (p1 < 0 ∨ ¬ p1 < nI d) := fun h => h.elim c_1 (fun h => h (Int32.not_le.mp c_9))
      refine lv_iload_n hx hb dX0_local_12 rfl (lv_at hl 2 rfl) ?_
      refine lv_if_lt (tgt := 21) hx hb dX0_local_13 (by decide) (fun c_13 => ?_) (fun c_13 => ?_)
      · refine lv_iconst (v := 0) hx hb dX0_local_21 ci_0 ?_
        exact x_iret (v := 0) S hr hlk J (⟨rfl, by rw [xLoc, if_neg hin, if_pos (Or.inl c_13)]⟩) dX0_local_22
      · refine lv_iload_n hx hb dX0_local_16 rfl (lv_at hl 2 rfl) ?_
        refine lv_iconst (v := 3) hx hb dX0_local_17 ci_3 ?_
        refine lv_icmp_le (tgt := 23) hx hb dX0_local_18 (by decide) (fun c_18 => ?_) (fun c_18 => ?_)
        · have hi3 : ¬ (p2 < 0 ∨ ¬ p2 ≤ 3) := fun h => h.elim c_13 (fun h => h c_18)
          obtain ⟨j, hj, ej⟩ := wdBad_ex (L := d) (by omega) hin
          subst ej
          obtain ⟨k, hk, ek⟩ := wd_le3 hi3
          subst ek
          refine lv_aload_n hx hb dX0_local_23 rfl (lv_at hl 0 rfl) ?_
          refine x_r19 S J dX0_local_24 ?_
          refine lv_aload_n hx hb dX0_local_27 rfl (lv_at hl 0 rfl) ?_
          refine x_g18 (v := nI d) S J hd dX0_local_28 ?_
          refine lv_iconst (v := 1) hx hb dX0_local_31 ci_1 ?_
          refine lv_isub hx hb dX0_local_32 ?_
          refine wd_top (nI (d - 1)) (wd_pred (by omega)) ?_
          refine lv_iload_n hx hb dX0_local_33 rfl (lv_at hl 1 rfl) ?_
          refine lv_isub hx hb dX0_local_34 ?_
          refine wd_top (nI (d - 1 - j)) (wd_sub (by omega)) ?_
          refine lv_iconst (v := 4) hx hb dX0_local_35 ci_4 ?_
          refine lv_imul hx hb dX0_local_36 ?_
          refine wd_top (nI ((d - 1 - j) * 4)) (wd_mul4 _) ?_
          refine lv_iload_n hx hb dX0_local_37 rfl (lv_at hl 2 rfl) ?_
          refine lv_iadd hx hb dX0_local_38 ?_
          refine wd_top (nI ((d - 1 - j) * 4 + k)) (nI_add _ _) ?_
          refine x_l19 (v := σ.2 19 ((d - 1 - j) * 4 + k)) S J ((d - 1 - j) * 4 + k) (by omega) rfl dX0_local_39 ?_
          exact x_iret (v := σ.2 19 ((d - 1 - j) * 4 + k)) S hr hlk J (⟨rfl, by rw [xLoc, if_neg hin, if_neg hi3, nI_clamp (by omega), nI_clamp (by omega)]⟩) dX0_local_40
        · refine lv_iconst (v := 0) hx hb dX0_local_21 ci_0 ?_
          exact x_iret (v := 0) S hr hlk J (⟨rfl, by rw [xLoc, if_neg hin, if_pos (Or.inr c_18)]⟩) dX0_local_22
set_option maxHeartbeats 4000000 in
set_option maxRecDepth 100000 in
theorem xc_output (l : Launch) (D : va_G) (q : Nat → Nat) (cI cZ : ClassId) (sz : Nat) (σ : wdSt) (p1 : Int32) : x_MI l yX0_output cX0_output 2 .int 0 0 D q cI cZ sz σ [.int p1] (fun r σ' => σ' = σ ∧ r = xOutp p1 σ) := by
  refine x_open (by decide) rfl (Nat.le_of_ble_eq_true rfl) ?_
  intro p e s m below meth c S hr hlk J ls hl
  have hx := S.1
  have hb := S.2.1
  have hl : lv_has ls 2 [(0, .ref (q 0)), (1, .int p1)] := hl
  generalize s.heap = H at J ⊢
  generalize ([] : List Loc) = locs at J ⊢
  refine lv_iload_n hx hb dX0_output_0 rfl (lv_at hl 1 rfl) ?_
  refine lv_if_lt (tgt := 18) hx hb dX0_output_1 (by decide) (fun c_1 => ?_) (fun c_1 => ?_)
  · refine lv_iconst (v := 0) hx hb dX0_output_18 ci_0 ?_
    exact x_iret (v := 0) S hr hlk J (⟨rfl, by rw [xOutp, if_pos (Or.inl c_1)]⟩) dX0_output_19
  · refine lv_iload_n hx hb dX0_output_4 rfl (lv_at hl 1 rfl) ?_
    refine lv_bipush (v := 7) hx hb dX0_output_5 cb_7 ?_
    refine lv_icmp_gt (tgt := 18) hx hb dX0_output_7 (by decide) (fun c_7 => ?_) (fun c_7 => ?_)
    · refine lv_iconst (v := 0) hx hb dX0_output_18 ci_0 ?_
      exact x_iret (v := 0) S hr hlk J (⟨rfl, by rw [xOutp, if_pos (Or.inr (Or.inl c_7))]⟩) dX0_output_19
    · refine lv_iload_n hx hb dX0_output_10 rfl (lv_at hl 1 rfl) ?_
      refine lv_aload_n hx hb dX0_output_11 rfl (lv_at hl 0 rfl) ?_
      refine x_g22 (v := σ.1 22) S J rfl dX0_output_12 ?_
      refine lv_icmp_lt (tgt := 20) hx hb dX0_output_15 (by decide) (fun c_15 => ?_) (fun c_15 => ?_)
      · refine lv_aload_n hx hb dX0_output_20 rfl (lv_at hl 0 rfl) ?_
        refine x_r23 S J dX0_output_21 ?_
        refine lv_aload_n hx hb dX0_output_24 rfl (lv_at hl 0 rfl) ?_
        refine x_g22 (v := σ.1 22) S J rfl dX0_output_25 ?_
        refine lv_iconst (v := 1) hx hb dX0_output_28 ci_1 ?_
        refine lv_isub hx hb dX0_output_29 ?_
        refine lv_iload_n hx hb dX0_output_30 rfl (lv_at hl 1 rfl) ?_
        refine lv_isub hx hb dX0_output_31 ?_
        refine lv_bipush (v := 7) hx hb dX0_output_32 cb_7 ?_
        refine lv_iand hx hb dX0_output_34 ?_
        refine wd_top (nI (wd7 (((σ.1 22) - 1) - p1))) (wd7_e _) ?_
        refine x_l23 (v := σ.2 23 (wd7 (((σ.1 22) - 1) - p1))) S J (wd7 (((σ.1 22) - 1) - p1)) (by have := wd7_lt (((σ.1 22) - 1) - p1); omega) rfl dX0_output_35 ?_
        exact x_iret (v := σ.2 23 (wd7 (((σ.1 22) - 1) - p1))) S hr hlk J (⟨rfl, by rw [xOutp, if_neg (fun h => h.elim c_1 (fun h => h.elim c_7 (fun h => h c_15)))]⟩) dX0_output_36
      · refine lv_iconst (v := 0) hx hb dX0_output_18 ci_0 ?_
        exact x_iret (v := 0) S hr hlk J (⟨rfl, by rw [xOutp, if_pos (Or.inr (Or.inr c_15))]⟩) dX0_output_19
set_option maxHeartbeats 4000000 in
set_option maxRecDepth 100000 in
theorem xc_skip (l : Launch) (D : va_G) (q : Nat → Nat) (cI cZ : ClassId) (sz : Nat) (σ : wdSt) (L : Nat) (hL : σ.1 0 = nI L) (hL2 : L ≤ 20) (p1 : Int32) : x_MI l yX0_skip cX0_skip 2 .int 1 21 D q cI cZ sz σ [.int p1] (fun r σ' => σ' = σ ∧ r = xSkip L p1 σ) := by
  refine x_open (by decide) rfl (Nat.le_of_ble_eq_true rfl) ?_
  intro p e s m below meth c S hr hlk J ls hl
  have hx := S.1
  have hb := S.2.1
  have hl : lv_has ls 2 [(0, .ref (q 0)), (1, .int p1)] := hl
  generalize s.heap = H at J ⊢
  generalize ([] : List Loc) = locs at J ⊢
  refine lv_aload_n hx hb dX0_skip_0 rfl (lv_at hl 0 rfl) ?_
  refine lv_iload_n hx hb dX0_skip_1 rfl (lv_at hl 1 rfl) ?_
  refine x_ci S J (xc_noInstruction l D q cI cZ _ (σ) L hL hL2 p1) (xk_noInstruction S.2.2.2.2 ⟨Nat.le_of_ble_eq_true rfl, Nat.le_of_ble_eq_true rfl⟩) rfl hl.1 rfl (Nat.le_of_ble_eq_true rfl) dX0_skip_2 ⟨Nat.zero_le _, Nat.zero_le _⟩ (fun r_s1 s1 H locs w_s1 J => ?_)
  obtain ⟨e_s1, w_s1⟩ := w_s1
  rw [e_s1] at J
  refine lv_if_eq (tgt := 11) hx hb dX0_skip_5 (by decide) (fun c_5 => ?_) (fun c_5 => ?_)
  · obtain ⟨j, hj, ej⟩ := wdNI_z w_s1 c_5
    subst ej
    refine lv_aload_n hx hb dX0_skip_11 rfl (lv_at hl 0 rfl) ?_
    refine x_r5 S J dX0_skip_12 ?_
    refine lv_iload_n hx hb dX0_skip_15 rfl (lv_at hl 1 rfl) ?_
    refine x_l5 (v := σ.2 5 j) S J j (by omega) rfl dX0_skip_16 ?_
    refine lv_if_eq (tgt := 29) hx hb dX0_skip_17 (by decide) (fun c_17 => ?_) (fun c_17 => ?_)
    · refine lv_bipush (v := -3) hx hb dX0_skip_29 cb_m3 ?_
      exact x_iret (v := (-3)) S hr hlk J (⟨rfl, by rw [xSkip, if_neg (wdBad_in hL2 hj), nI_clamp (by omega), if_pos c_17]⟩) dX0_skip_31
    · refine lv_aload_n hx hb dX0_skip_20 rfl (lv_at hl 0 rfl) ?_
      refine x_r6 S J dX0_skip_21 ?_
      refine lv_iload_n hx hb dX0_skip_24 rfl (lv_at hl 1 rfl) ?_
      refine x_l6 (v := σ.2 6 j) S J j (by omega) rfl dX0_skip_25 ?_
      refine lv_goto (tgt := 31) hx hb dX0_skip_26 (by decide) ?_
      exact x_iret (v := σ.2 6 j) S hr hlk J (⟨rfl, by rw [xSkip, if_neg (wdBad_in hL2 hj), nI_clamp (by omega), if_neg c_17]⟩) dX0_skip_31
  · refine lv_bipush (v := -3) hx hb dX0_skip_8 cb_m3 ?_
    exact x_iret (v := (-3)) S hr hlk J (⟨rfl, by rw [xSkip, if_pos (wdBad_1 w_s1 hL2 c_5)]⟩) dX0_skip_10
set_option maxHeartbeats 4000000 in
set_option maxRecDepth 100000 in
theorem xl_unplant {p : Program} {l : Launch} {e : Env} {R : Room} {s : State} {m : MethodId} {args : Array Value} {below : List Frame} {meth : Method} {c : Code} {cells slots : Nat} {Q : State → Prop} {D : va_G} {q : Nat → Nat} {cI cZ : ClassId} {A : Nat → Prop} {σ : wdSt} (S : CallFix p m c cX0_unplantAll 2 s args lw_all RX0)
    (kk : ∀ (σ1 : wdSt) (H : Heap) (locs : List Loc) (ls : Array Slot), (σ1.1 = σ.1 ∧ (∀ k, k ≠ 7 → σ1.2 k = σ.2 k) ∧ ∀ j, j < 20 → σ1.2 7 j = 0) → x_J D q cI cZ A σ1 s H locs → W p l e R s m args below meth c H locs cells slots Q (F0 m 21 ls [])) : ∀ (n i : Nat) (σ1 : wdSt), i + n = 20 → (σ1.1 = σ.1 ∧ (∀ k, k ≠ 7 → σ1.2 k = σ.2 k) ∧ ∀ j, j < i → σ1.2 7 j = 0) → ∀ (H : Heap) (locs : List Loc) (ls : Array Slot), x_J D q cI cZ A σ1 s H locs → lv_has ls 2 [(0, .ref (q 0)), (1, .int (nI i))] → W p l e R s m args below meth c H locs cells slots Q (F0 m 2 ls []) := by
  have hx := S.1
  have hb := S.2.1
  intro n
  induction n with
  | zero =>
    intro i σ1 hi hI H locs ls J hl
    obtain rfl : i = 20 := by omega
    refine lv_iload_n hx hb dX0_unplantAll_2 rfl (lv_at hl 1 rfl) ?_
    refine lv_bipush (v := 20) hx hb dX0_unplantAll_3 cb_20 ?_
    refine lv_icmp_ge (tgt := 21) hx hb dX0_unplantAll_5 (by decide) (fun c_5 => ?_) (fun c_5 => absurd (by decide) c_5)
    exact kk σ1 H locs ls hI J
  | succ n ih =>
    intro i σ1 hi hI H locs ls J hl
    refine lv_iload_n hx hb dX0_unplantAll_2 rfl (lv_at hl 1 rfl) ?_
    refine lv_bipush (v := 20) hx hb dX0_unplantAll_3 cb_20 ?_
    refine lv_icmp_ge (tgt := 21) hx hb dX0_unplantAll_5 (by decide) (fun c_5 => ?_) (fun c_5 => ?_)
    · exact absurd c_5 (fun h => nI_ge (show i < 20 by omega) (by decide) h)
    refine lv_aload_n hx hb dX0_unplantAll_8 rfl (lv_at hl 0 rfl) ?_
    refine x_r7 S J dX0_unplantAll_9 ?_
    refine lv_iload_n hx hb dX0_unplantAll_12 rfl (lv_at hl 1 rfl) ?_
    refine lv_iconst (v := 0) hx hb dX0_unplantAll_13 ci_0 ?_
    refine x_s7 S J i (by omega) rfl dX0_unplantAll_14 (fun H locs J => ?_)
    refine lv_iinc (v := nI (i + 1)) (lv' := [(1, .int (nI (i + 1))), (0, .ref (q 0))]) hx hb dX0_unplantAll_15 hl (k := 1) rfl (wd_inc _) (by decide) rfl (fun ls hl => ?_)
    refine lv_goto (tgt := 2) hx hb dX0_unplantAll_18 (by decide) ?_
    refine ih (i + 1) (wdA σ1 7 i 0) (by omega) ⟨hI.1, fun k hk => (wd2_n _ _ _ hk).trans (hI.2.1 k hk), fun j hj => ?_⟩ H locs ls J (lv_sub hl [1, 0] rfl)
    rw [wd2_a]
    by_cases e : j = i
    · rw [e, upd_s]
    · rw [upd_n _ _ e]
      exact hI.2.2 j (by omega)
set_option maxHeartbeats 4000000 in
set_option maxRecDepth 100000 in
theorem xc_unplantAll (l : Launch) (D : va_G) (q : Nat → Nat) (cI cZ : ClassId) (sz : Nat) (σ : wdSt) : x_MV l yX0_unplantAll cX0_unplantAll 2 0 0 D q cI cZ sz σ [] (fun σ1 => (σ1.1 = σ.1 ∧ (∀ k, k ≠ 7 → σ1.2 k = σ.2 k) ∧ ∀ j, j < 20 → σ1.2 7 j = 0)) := by
  refine x_open (by decide) rfl (Nat.le_of_ble_eq_true rfl) ?_
  intro p e s m below meth c S hr hlk J ls hl
  have hx := S.1
  have hb := S.2.1
  have hl : lv_has ls 2 [(0, .ref (q 0))] := hl
  generalize s.heap = H at J ⊢
  generalize ([] : List Loc) = locs at J ⊢
  refine lv_iconst (v := 0) hx hb dX0_unplantAll_0 ci_0 ?_
  refine lv_istore_n (lv' := [(1, .int 0), (0, .ref (q 0))]) hx hb dX0_unplantAll_1 rfl hl (by decide) rfl (fun ls hl => ?_)
  refine xl_unplant (σ := σ) S (fun σ1 H locs ls hI J => ?_) 20 0 σ rfl ⟨rfl, fun _ _ => rfl, fun j hj => absurd hj (Nat.not_lt_zero j)⟩ H locs ls J (lv_sub hl [1, 0] rfl)
  exact x_vret S hr hlk J hI dX0_unplantAll_21
set_option maxHeartbeats 4000000 in
set_option maxRecDepth 100000 in
/-- perform() -/
theorem xc_perform (l : Launch) (D : va_G) (q : Nat → Nat) (cI cZ : ClassId) (sz : Nat) (σ : wdSt) (a i d t k : Nat) (ha : σ.1 15 = nI a) (ha2 : a < 48) (hi : σ.2 10 a = nI i) (hi2 : i < 20) (ho : σ.2 1 i = nI k) (ho2 : k ≤ 10) (hd : σ.1 18 = nI d) (hd1 : 1 ≤ d) (hd6 : d ≤ 6) (ht : 2 ≤ d → σ.2 21 (d - 1) = nI t) (ht4 : t < 4) : x_MV l yX0_perform cX0_perform 6 2 45 D q cI cZ sz σ [] (fun σ' => σ' = xPerf a i d t k σ) := by
  refine x_open (by decide) rfl (Nat.le_of_ble_eq_true rfl) ?_
  intro p e s m below meth c S hr hlk J ls hl
  have hx := S.1
  have hb := S.2.1
  have hl : lv_has ls 6 [(0, .ref (q 0))] := hl
  generalize s.heap = H at J ⊢
  generalize ([] : List Loc) = locs at J ⊢
  rcases (show k ≤ 4 ∨ k = 5 ∨ k = 6 ∨ k = 7 ∨ k = 8 ∨ k = 9 ∨ k = 10 by omega) with hk | rfl | rfl | rfl | rfl | rfl | rfl
  · refine lv_aload_n hx hb dX0_perform_0 rfl (lv_at hl 0 rfl) ?_
    refine x_r10 S J dX0_perform_1 ?_
    refine lv_aload_n hx hb dX0_perform_4 rfl (lv_at hl 0 rfl) ?_
    refine x_g15 (v := nI a) S J ha dX0_perform_5 ?_
    refine x_l10 (v := nI i) S J a ha2 hi dX0_perform_8 ?_
    refine lv_istore_n (lv' := [(1, .int (nI i)), (0, .ref (q 0))]) hx hb dX0_perform_9 rfl hl (by decide) rfl (fun ls hl => ?_)
    refine lv_aload_n hx hb dX0_perform_10 rfl (lv_at hl 1 rfl) ?_
    refine x_r1 S J dX0_perform_11 ?_
    refine lv_iload_n hx hb dX0_perform_14 rfl (lv_at hl 0 rfl) ?_
    refine x_l1 (v := nI k) S J i hi2 ho dX0_perform_15 ?_
    refine lv_istore_n (lv' := [(2, .int (nI k)), (1, .int (nI i)), (0, .ref (q 0))]) hx hb dX0_perform_16 rfl hl (by decide) rfl (fun ls hl => ?_)
    refine lv_aload_n hx hb dX0_perform_17 rfl (lv_at hl 2 rfl) ?_
    refine x_ci S J (xc_base l D q cI cZ _ (σ) d hd hd1) (xk_base S.2.2.2.2 ⟨Nat.le_of_ble_eq_true rfl, Nat.le_of_ble_eq_true rfl⟩) rfl hl.1 rfl (Nat.le_of_ble_eq_true rfl) dX0_perform_18 ⟨Nat.zero_le _, Nat.zero_le _⟩ (fun r_b1 b1 H locs w_b1 J => ?_)
    obtain ⟨e_b1, w_b1⟩ := w_b1
    rw [e_b1] at J
    refine wd_top (nI ((d - 1) * 4)) w_b1 ?_
    refine lv_aload_n hx hb dX0_perform_21 rfl (lv_at hl 2 rfl) ?_
    refine x_r2 S J dX0_perform_22 ?_
    refine lv_iload_n hx hb dX0_perform_25 rfl (lv_at hl 1 rfl) ?_
    refine x_l2 (v := σ.2 2 i) S J i hi2 rfl dX0_perform_26 ?_
    refine lv_iconst (v := 3) hx hb dX0_perform_27 ci_3 ?_
    refine lv_iand hx hb dX0_perform_28 ?_
    refine wd_top (nI (wd3 (σ.2 2 i))) (wd3_e _) ?_
    refine lv_iadd hx hb dX0_perform_29 ?_
    refine wd_top (nI ((d - 1) * 4 + wd3 (σ.2 2 i))) (nI_add _ _) ?_
    refine lv_istore_n (lv' := [(3, .int (nI ((d - 1) * 4 + wd3 (σ.2 2 i)))), (2, .int (nI k)), (1, .int (nI i)), (0, .ref (q 0))]) hx hb dX0_perform_30 rfl hl (by decide) rfl (fun ls hl => ?_)
    refine lv_aload_n hx hb dX0_perform_31 rfl (lv_at hl 3 rfl) ?_
    refine x_ci S J (xc_base l D q cI cZ _ (σ) d hd hd1) (xk_base S.2.2.2.2 ⟨Nat.le_of_ble_eq_true rfl, Nat.le_of_ble_eq_true rfl⟩) rfl hl.1 rfl (Nat.le_of_ble_eq_true rfl) dX0_perform_32 ⟨Nat.zero_le _, Nat.zero_le _⟩ (fun r_b2 b2 H locs w_b2 J => ?_)
    obtain ⟨e_b2, w_b2⟩ := w_b2
    rw [e_b2] at J
    refine wd_top (nI ((d - 1) * 4)) w_b2 ?_
    refine lv_aload_n hx hb dX0_perform_35 rfl (lv_at hl 3 rfl) ?_
    refine x_r3 S J dX0_perform_36 ?_
    refine lv_iload_n hx hb dX0_perform_39 rfl (lv_at hl 2 rfl) ?_
    refine x_l3 (v := σ.2 3 i) S J i hi2 rfl dX0_perform_40 ?_
    refine lv_iconst (v := 3) hx hb dX0_perform_41 ci_3 ?_
    refine lv_iand hx hb dX0_perform_42 ?_
    refine wd_top (nI (wd3 (σ.2 3 i))) (wd3_e _) ?_
    refine lv_iadd hx hb dX0_perform_43 ?_
    refine wd_top (nI ((d - 1) * 4 + wd3 (σ.2 3 i))) (nI_add _ _) ?_
    refine lv_istore (lv' := [(4, .int (nI ((d - 1) * 4 + wd3 (σ.2 3 i)))), (3, .int (nI ((d - 1) * 4 + wd3 (σ.2 2 i)))), (2, .int (nI k)), (1, .int (nI i)), (0, .ref (q 0))]) hx hb dX0_perform_44 hl (by decide) rfl (fun ls hl => ?_)
    refine lv_iload_n hx hb dX0_perform_46 rfl (lv_at hl 2 rfl) ?_
    refine lv_iconst (v := 4) hx hb dX0_perform_47 ci_4 ?_
    refine lv_icmp_gt (tgt := 78) hx hb dX0_perform_48 (by decide) (fun c_48 => ?_) (fun c_48 => ?_)
    · exact absurd c_48 (fun h => absurd ((wd_gt k 4 4 (by omega) (by decide) rfl).mp h) (by omega))
    refine lv_aload_n hx hb dX0_perform_51 rfl (lv_at hl 4 rfl) ?_
    refine lv_iload_n hx hb dX0_perform_52 rfl (lv_at hl 2 rfl) ?_
    refine lv_iload_n hx hb dX0_perform_53 rfl (lv_at hl 1 rfl) ?_
    refine lv_iload hx hb dX0_perform_54 (lv_at hl 0 rfl) ?_
    refine lv_aload_n hx hb dX0_perform_56 rfl (lv_at hl 4 rfl) ?_
    refine x_r3 S J dX0_perform_57 ?_
    refine lv_iload_n hx hb dX0_perform_60 rfl (lv_at hl 3 rfl) ?_
    refine x_l3 (v := σ.2 3 i) S J i hi2 rfl dX0_perform_61 ?_
    refine x_cv S J (xc_compute l D q cI cZ _ (σ) k ((d - 1) * 4 + wd3 (σ.2 2 i)) ((d - 1) * 4 + wd3 (σ.2 3 i)) (nI k) (nI ((d - 1) * 4 + wd3 (σ.2 2 i))) (nI ((d - 1) * 4 + wd3 (σ.2 3 i))) (σ.2 3 i) rfl rfl rfl hk (by have := wd3_lt (σ.2 2 i); omega) (by have := wd3_lt (σ.2 3 i); omega)) (xk_compute S.2.2.2.2 ⟨Nat.le_of_ble_eq_true rfl, Nat.le_of_ble_eq_true rfl⟩) rfl hl.1 rfl (Nat.le_of_ble_eq_true rfl) dX0_perform_62 ⟨Nat.zero_le _, Nat.zero_le _⟩ (fun s1 H locs w_s1 J => ?_)
    subst w_s1
    refine lv_aload_n hx hb dX0_perform_65 rfl (lv_at hl 4 rfl) ?_
    refine lv_dup hx hb dX0_perform_66 rfl ?_
    refine x_g15 (v := nI a) S J ha dX0_perform_67 ?_
    refine lv_iconst (v := 1) hx hb dX0_perform_70 ci_1 ?_
    refine lv_iadd hx hb dX0_perform_71 ?_
    refine wd_top (nI (a + 1)) (nI_1 _) ?_
    refine x_p15 S J dX0_perform_72 (fun H locs J => ?_)
    refine lv_goto (tgt := 252) hx hb dX0_perform_75 (by decide) ?_
    exact x_vret S hr hlk J (by rw [xPerf, if_pos hk]) dX0_perform_252
  · refine lv_aload_n hx hb dX0_perform_0 rfl (lv_at hl 0 rfl) ?_
    refine x_r10 S J dX0_perform_1 ?_
    refine lv_aload_n hx hb dX0_perform_4 rfl (lv_at hl 0 rfl) ?_
    refine x_g15 (v := nI a) S J ha dX0_perform_5 ?_
    refine x_l10 (v := nI i) S J a ha2 hi dX0_perform_8 ?_
    refine lv_istore_n (lv' := [(1, .int (nI i)), (0, .ref (q 0))]) hx hb dX0_perform_9 rfl hl (by decide) rfl (fun ls hl => ?_)
    refine lv_aload_n hx hb dX0_perform_10 rfl (lv_at hl 1 rfl) ?_
    refine x_r1 S J dX0_perform_11 ?_
    refine lv_iload_n hx hb dX0_perform_14 rfl (lv_at hl 0 rfl) ?_
    refine x_l1 (v := nI 5) S J i hi2 ho dX0_perform_15 ?_
    refine lv_istore_n (lv' := [(2, .int (nI 5)), (1, .int (nI i)), (0, .ref (q 0))]) hx hb dX0_perform_16 rfl hl (by decide) rfl (fun ls hl => ?_)
    refine lv_aload_n hx hb dX0_perform_17 rfl (lv_at hl 2 rfl) ?_
    refine x_ci S J (xc_base l D q cI cZ _ (σ) d hd hd1) (xk_base S.2.2.2.2 ⟨Nat.le_of_ble_eq_true rfl, Nat.le_of_ble_eq_true rfl⟩) rfl hl.1 rfl (Nat.le_of_ble_eq_true rfl) dX0_perform_18 ⟨Nat.zero_le _, Nat.zero_le _⟩ (fun r_b1 b1 H locs w_b1 J => ?_)
    obtain ⟨e_b1, w_b1⟩ := w_b1
    rw [e_b1] at J
    refine wd_top (nI ((d - 1) * 4)) w_b1 ?_
    refine lv_aload_n hx hb dX0_perform_21 rfl (lv_at hl 2 rfl) ?_
    refine x_r2 S J dX0_perform_22 ?_
    refine lv_iload_n hx hb dX0_perform_25 rfl (lv_at hl 1 rfl) ?_
    refine x_l2 (v := σ.2 2 i) S J i hi2 rfl dX0_perform_26 ?_
    refine lv_iconst (v := 3) hx hb dX0_perform_27 ci_3 ?_
    refine lv_iand hx hb dX0_perform_28 ?_
    refine wd_top (nI (wd3 (σ.2 2 i))) (wd3_e _) ?_
    refine lv_iadd hx hb dX0_perform_29 ?_
    refine wd_top (nI ((d - 1) * 4 + wd3 (σ.2 2 i))) (nI_add _ _) ?_
    refine lv_istore_n (lv' := [(3, .int (nI ((d - 1) * 4 + wd3 (σ.2 2 i)))), (2, .int (nI 5)), (1, .int (nI i)), (0, .ref (q 0))]) hx hb dX0_perform_30 rfl hl (by decide) rfl (fun ls hl => ?_)
    refine lv_aload_n hx hb dX0_perform_31 rfl (lv_at hl 3 rfl) ?_
    refine x_ci S J (xc_base l D q cI cZ _ (σ) d hd hd1) (xk_base S.2.2.2.2 ⟨Nat.le_of_ble_eq_true rfl, Nat.le_of_ble_eq_true rfl⟩) rfl hl.1 rfl (Nat.le_of_ble_eq_true rfl) dX0_perform_32 ⟨Nat.zero_le _, Nat.zero_le _⟩ (fun r_b2 b2 H locs w_b2 J => ?_)
    obtain ⟨e_b2, w_b2⟩ := w_b2
    rw [e_b2] at J
    refine wd_top (nI ((d - 1) * 4)) w_b2 ?_
    refine lv_aload_n hx hb dX0_perform_35 rfl (lv_at hl 3 rfl) ?_
    refine x_r3 S J dX0_perform_36 ?_
    refine lv_iload_n hx hb dX0_perform_39 rfl (lv_at hl 2 rfl) ?_
    refine x_l3 (v := σ.2 3 i) S J i hi2 rfl dX0_perform_40 ?_
    refine lv_iconst (v := 3) hx hb dX0_perform_41 ci_3 ?_
    refine lv_iand hx hb dX0_perform_42 ?_
    refine wd_top (nI (wd3 (σ.2 3 i))) (wd3_e _) ?_
    refine lv_iadd hx hb dX0_perform_43 ?_
    refine wd_top (nI ((d - 1) * 4 + wd3 (σ.2 3 i))) (nI_add _ _) ?_
    refine lv_istore (lv' := [(4, .int (nI ((d - 1) * 4 + wd3 (σ.2 3 i)))), (3, .int (nI ((d - 1) * 4 + wd3 (σ.2 2 i)))), (2, .int (nI 5)), (1, .int (nI i)), (0, .ref (q 0))]) hx hb dX0_perform_44 hl (by decide) rfl (fun ls hl => ?_)
    refine lv_iload_n hx hb dX0_perform_46 rfl (lv_at hl 2 rfl) ?_
    refine lv_iconst (v := 4) hx hb dX0_perform_47 ci_4 ?_
    refine lv_icmp_gt (tgt := 78) hx hb dX0_perform_48 (by decide) (fun c_48 => ?_) (fun c_48 => absurd (by decide) c_48)
    refine lv_iload_n hx hb dX0_perform_78 rfl (lv_at hl 2 rfl) ?_
    refine lv_bipush (v := 7) hx hb dX0_perform_79 cb_7 ?_
    refine lv_icmp_gt (tgt := 186) hx hb dX0_perform_81 (by decide) (fun c_81 => ?_) (fun c_81 => ?_)
    · exact absurd c_81 (by decide)
    refine lv_iload_n hx hb dX0_perform_84 rfl (lv_at hl 2 rfl) ?_
    refine lv_iconst (v := 5) hx hb dX0_perform_85 ci_5 ?_
    refine lv_icmp_ne (tgt := 93) hx hb dX0_perform_86 (by decide) (fun c_86 => ?_) (fun c_86 => ?_)
    · exact absurd c_86 (by decide)
    refine lv_iconst (v := 1) hx hb dX0_perform_89 ci_1 ?_
    refine lv_goto (tgt := 94) hx hb dX0_perform_90 (by decide) ?_
    refine lv_istore (lv' := [(5, .int 1), (4, .int (nI ((d - 1) * 4 + wd3 (σ.2 3 i)))), (3, .int (nI ((d - 1) * 4 + wd3 (σ.2 2 i)))), (2, .int (nI 5)), (1, .int (nI i)), (0, .ref (q 0))]) hx hb dX0_perform_94 hl (by decide) rfl (fun ls hl => ?_)
    refine lv_iload_n hx hb dX0_perform_96 rfl (lv_at hl 3 rfl) ?_
    refine lv_bipush (v := 6) hx hb dX0_perform_97 cb_6 ?_
    refine lv_icmp_ne (tgt := 138) hx hb dX0_perform_99 (by decide) (fun c_99 => ?_) (fun c_99 => by exact absurd c_99 (by decide))
    refine lv_iload_n hx hb dX0_perform_138 rfl (lv_at hl 3 rfl) ?_
    refine lv_bipush (v := 7) hx hb dX0_perform_139 cb_7 ?_
    refine lv_icmp_ne (tgt := 160) hx hb dX0_perform_141 (by decide) (fun c_141 => ?_) (fun c_141 => by exact absurd c_141 (by decide))
    refine lv_iload hx hb dX0_perform_160 (lv_at hl 0 rfl) ?_
    refine lv_if_eq (tgt := 173) hx hb dX0_perform_162 (by decide) (fun c_162 => ?_) (fun c_162 => ?_)
    · exact absurd c_162 (by decide)
    refine lv_aload_n hx hb dX0_perform_165 rfl (lv_at hl 5 rfl) ?_
    refine lv_iload_n hx hb dX0_perform_166 rfl (lv_at hl 4 rfl) ?_
    refine x_cv S J (xc_jump l D q cI cZ _ (σ) a i ha ha2 hi2) (xk_jump S.2.2.2.2 ⟨Nat.le_of_ble_eq_true rfl, Nat.le_of_ble_eq_true rfl⟩) rfl hl.1 rfl (Nat.le_of_ble_eq_true rfl) dX0_perform_167 ⟨Nat.zero_le _, Nat.zero_le _⟩ (fun s1 H locs w_s1 J => ?_)
    refine lv_goto (tgt := 183) hx hb dX0_perform_170 (by decide) ?_
    refine lv_goto (tgt := 252) hx hb dX0_perform_183 (by decide) ?_
    exact x_vret S hr hlk J (by rw [xPerf, if_neg (by decide), if_pos rfl]; exact w_s1) dX0_perform_252
  · refine lv_aload_n hx hb dX0_perform_0 rfl (lv_at hl 0 rfl) ?_
    refine x_r10 S J dX0_perform_1 ?_
    refine lv_aload_n hx hb dX0_perform_4 rfl (lv_at hl 0 rfl) ?_
    refine x_g15 (v := nI a) S J ha dX0_perform_5 ?_
    refine x_l10 (v := nI i) S J a ha2 hi dX0_perform_8 ?_
    refine lv_istore_n (lv' := [(1, .int (nI i)), (0, .ref (q 0))]) hx hb dX0_perform_9 rfl hl (by decide) rfl (fun ls hl => ?_)
    refine lv_aload_n hx hb dX0_perform_10 rfl (lv_at hl 1 rfl) ?_
    refine x_r1 S J dX0_perform_11 ?_
    refine lv_iload_n hx hb dX0_perform_14 rfl (lv_at hl 0 rfl) ?_
    refine x_l1 (v := nI 6) S J i hi2 ho dX0_perform_15 ?_
    refine lv_istore_n (lv' := [(2, .int (nI 6)), (1, .int (nI i)), (0, .ref (q 0))]) hx hb dX0_perform_16 rfl hl (by decide) rfl (fun ls hl => ?_)
    refine lv_aload_n hx hb dX0_perform_17 rfl (lv_at hl 2 rfl) ?_
    refine x_ci S J (xc_base l D q cI cZ _ (σ) d hd hd1) (xk_base S.2.2.2.2 ⟨Nat.le_of_ble_eq_true rfl, Nat.le_of_ble_eq_true rfl⟩) rfl hl.1 rfl (Nat.le_of_ble_eq_true rfl) dX0_perform_18 ⟨Nat.zero_le _, Nat.zero_le _⟩ (fun r_b1 b1 H locs w_b1 J => ?_)
    obtain ⟨e_b1, w_b1⟩ := w_b1
    rw [e_b1] at J
    refine wd_top (nI ((d - 1) * 4)) w_b1 ?_
    refine lv_aload_n hx hb dX0_perform_21 rfl (lv_at hl 2 rfl) ?_
    refine x_r2 S J dX0_perform_22 ?_
    refine lv_iload_n hx hb dX0_perform_25 rfl (lv_at hl 1 rfl) ?_
    refine x_l2 (v := σ.2 2 i) S J i hi2 rfl dX0_perform_26 ?_
    refine lv_iconst (v := 3) hx hb dX0_perform_27 ci_3 ?_
    refine lv_iand hx hb dX0_perform_28 ?_
    refine wd_top (nI (wd3 (σ.2 2 i))) (wd3_e _) ?_
    refine lv_iadd hx hb dX0_perform_29 ?_
    refine wd_top (nI ((d - 1) * 4 + wd3 (σ.2 2 i))) (nI_add _ _) ?_
    refine lv_istore_n (lv' := [(3, .int (nI ((d - 1) * 4 + wd3 (σ.2 2 i)))), (2, .int (nI 6)), (1, .int (nI i)), (0, .ref (q 0))]) hx hb dX0_perform_30 rfl hl (by decide) rfl (fun ls hl => ?_)
    refine lv_aload_n hx hb dX0_perform_31 rfl (lv_at hl 3 rfl) ?_
    refine x_ci S J (xc_base l D q cI cZ _ (σ) d hd hd1) (xk_base S.2.2.2.2 ⟨Nat.le_of_ble_eq_true rfl, Nat.le_of_ble_eq_true rfl⟩) rfl hl.1 rfl (Nat.le_of_ble_eq_true rfl) dX0_perform_32 ⟨Nat.zero_le _, Nat.zero_le _⟩ (fun r_b2 b2 H locs w_b2 J => ?_)
    obtain ⟨e_b2, w_b2⟩ := w_b2
    rw [e_b2] at J
    refine wd_top (nI ((d - 1) * 4)) w_b2 ?_
    refine lv_aload_n hx hb dX0_perform_35 rfl (lv_at hl 3 rfl) ?_
    refine x_r3 S J dX0_perform_36 ?_
    refine lv_iload_n hx hb dX0_perform_39 rfl (lv_at hl 2 rfl) ?_
    refine x_l3 (v := σ.2 3 i) S J i hi2 rfl dX0_perform_40 ?_
    refine lv_iconst (v := 3) hx hb dX0_perform_41 ci_3 ?_
    refine lv_iand hx hb dX0_perform_42 ?_
    refine wd_top (nI (wd3 (σ.2 3 i))) (wd3_e _) ?_
    refine lv_iadd hx hb dX0_perform_43 ?_
    refine wd_top (nI ((d - 1) * 4 + wd3 (σ.2 3 i))) (nI_add _ _) ?_
    refine lv_istore (lv' := [(4, .int (nI ((d - 1) * 4 + wd3 (σ.2 3 i)))), (3, .int (nI ((d - 1) * 4 + wd3 (σ.2 2 i)))), (2, .int (nI 6)), (1, .int (nI i)), (0, .ref (q 0))]) hx hb dX0_perform_44 hl (by decide) rfl (fun ls hl => ?_)
    refine lv_iload_n hx hb dX0_perform_46 rfl (lv_at hl 2 rfl) ?_
    refine lv_iconst (v := 4) hx hb dX0_perform_47 ci_4 ?_
    refine lv_icmp_gt (tgt := 78) hx hb dX0_perform_48 (by decide) (fun c_48 => ?_) (fun c_48 => absurd (by decide) c_48)
    refine lv_iload_n hx hb dX0_perform_78 rfl (lv_at hl 2 rfl) ?_
    refine lv_bipush (v := 7) hx hb dX0_perform_79 cb_7 ?_
    refine lv_icmp_gt (tgt := 186) hx hb dX0_perform_81 (by decide) (fun c_81 => ?_) (fun c_81 => ?_)
    · exact absurd c_81 (by decide)
    refine lv_iload_n hx hb dX0_perform_84 rfl (lv_at hl 2 rfl) ?_
    refine lv_iconst (v := 5) hx hb dX0_perform_85 ci_5 ?_
    refine lv_icmp_ne (tgt := 93) hx hb dX0_perform_86 (by decide) (fun c_86 => ?_) (fun c_86 => by exact absurd c_86 (by decide))
    refine lv_iconst (v := 0) hx hb dX0_perform_93 ci_0 ?_
    refine lv_istore (lv' := [(5, .int 0), (4, .int (nI ((d - 1) * 4 + wd3 (σ.2 3 i)))), (3, .int (nI ((d - 1) * 4 + wd3 (σ.2 2 i)))), (2, .int (nI 6)), (1, .int (nI i)), (0, .ref (q 0))]) hx hb dX0_perform_94 hl (by decide) rfl (fun ls hl => ?_)
    refine lv_iload_n hx hb dX0_perform_96 rfl (lv_at hl 3 rfl) ?_
    refine lv_bipush (v := 6) hx hb dX0_perform_97 cb_6 ?_
    refine lv_icmp_ne (tgt := 138) hx hb dX0_perform_99 (by decide) (fun c_99 => ?_) (fun c_99 => ?_)
    · exact absurd c_99 (by decide)
    refine lv_aload_n hx hb dX0_perform_102 rfl (lv_at hl 5 rfl) ?_
    refine x_r19 S J dX0_perform_103 ?_
    refine lv_iload_n hx hb dX0_perform_106 rfl (lv_at hl 2 rfl) ?_
    refine x_l19 (v := σ.2 19 ((d - 1) * 4 + wd3 (σ.2 2 i))) S J ((d - 1) * 4 + wd3 (σ.2 2 i)) (by have := wd3_lt (σ.2 2 i); omega) rfl dX0_perform_107 ?_
    refine lv_aload_n hx hb dX0_perform_108 rfl (lv_at hl 5 rfl) ?_
    refine x_r19 S J dX0_perform_109 ?_
    refine lv_aload_n hx hb dX0_perform_112 rfl (lv_at hl 5 rfl) ?_
    refine x_ci S J (xc_base l D q cI cZ _ (σ) d hd hd1) (xk_base S.2.2.2.2 ⟨Nat.le_of_ble_eq_true rfl, Nat.le_of_ble_eq_true rfl⟩) rfl hl.1 rfl (Nat.le_of_ble_eq_true rfl) dX0_perform_113 ⟨Nat.zero_le _, Nat.zero_le _⟩ (fun r_b3 b3 H locs w_b3 J => ?_)
    obtain ⟨e_b3, w_b3⟩ := w_b3
    rw [e_b3] at J
    refine wd_top (nI ((d - 1) * 4)) w_b3 ?_
    refine lv_aload_n hx hb dX0_perform_116 rfl (lv_at hl 5 rfl) ?_
    refine x_r2 S J dX0_perform_117 ?_
    refine lv_iload_n hx hb dX0_perform_120 rfl (lv_at hl 4 rfl) ?_
    refine x_l2 (v := σ.2 2 i) S J i hi2 rfl dX0_perform_121 ?_
    refine lv_iconst (v := 2) hx hb dX0_perform_122 ci_2 ?_
    refine lv_ishr hx hb dX0_perform_123 ?_
    refine lv_iconst (v := 3) hx hb dX0_perform_124 ci_3 ?_
    refine lv_iand hx hb dX0_perform_125 ?_
    refine wd_top (nI (wd3 ((σ.2 2 i) >>> (2 &&& 31)))) (wd3_e _) ?_
    refine lv_iadd hx hb dX0_perform_126 ?_
    refine wd_top (nI ((d - 1) * 4 + wd3 ((σ.2 2 i) >>> (2 &&& 31)))) (nI_add _ _) ?_
    refine x_l19 (v := σ.2 19 ((d - 1) * 4 + wd3 ((σ.2 2 i) >>> (2 &&& 31)))) S J ((d - 1) * 4 + wd3 ((σ.2 2 i) >>> (2 &&& 31))) (by have := wd3_lt ((σ.2 2 i) >>> (2 &&& 31)); omega) rfl dX0_perform_127 ?_
    refine lv_icmp_ge (tgt := 135) hx hb dX0_perform_128 (by decide) (fun c_128 => ?_) (fun c_128 => ?_)
    · refine lv_iconst (v := 0) hx hb dX0_perform_135 ci_0 ?_
      refine lv_istore (lv' := [(5, .int 0), (4, .int (nI ((d - 1) * 4 + wd3 (σ.2 3 i)))), (3, .int (nI ((d - 1) * 4 + wd3 (σ.2 2 i)))), (2, .int (nI 6)), (1, .int (nI i)), (0, .ref (q 0))]) hx hb dX0_perform_136 hl (by decide) rfl (fun ls hl => ?_)
      refine lv_iload_n hx hb dX0_perform_138 rfl (lv_at hl 3 rfl) ?_
      refine lv_bipush (v := 7) hx hb dX0_perform_139 cb_7 ?_
      refine lv_icmp_ne (tgt := 160) hx hb dX0_perform_141 (by decide) (fun c_141 => ?_) (fun c_141 => by exact absurd c_141 (by decide))
      refine lv_iload hx hb dX0_perform_160 (lv_at hl 0 rfl) ?_
      refine lv_if_eq (tgt := 173) hx hb dX0_perform_162 (by decide) (fun c_162 => ?_) (fun c_162 => absurd (by decide) c_162)
      refine lv_aload_n hx hb dX0_perform_173 rfl (lv_at hl 5 rfl) ?_
      refine lv_dup hx hb dX0_perform_174 rfl ?_
      refine x_g15 (v := nI a) S J ha dX0_perform_175 ?_
      refine lv_iconst (v := 1) hx hb dX0_perform_178 ci_1 ?_
      refine lv_iadd hx hb dX0_perform_179 ?_
      refine wd_top (nI (a + 1)) (nI_1 _) ?_
      refine x_p15 S J dX0_perform_180 (fun H locs J => ?_)
      refine lv_goto (tgt := 252) hx hb dX0_perform_183 (by decide) ?_
      exact x_vret S hr hlk J (by rw [xPerf, if_neg (by decide), if_neg (by decide), if_pos rfl, if_pos c_128]) dX0_perform_252
    · refine lv_iconst (v := 1) hx hb dX0_perform_131 ci_1 ?_
      refine lv_goto (tgt := 136) hx hb dX0_perform_132 (by decide) ?_
      refine lv_istore (lv' := [(5, .int 1), (4, .int (nI ((d - 1) * 4 + wd3 (σ.2 3 i)))), (3, .int (nI ((d - 1) * 4 + wd3 (σ.2 2 i)))), (2, .int (nI 6)), (1, .int (nI i)), (0, .ref (q 0))]) hx hb dX0_perform_136 hl (by decide) rfl (fun ls hl => ?_)
      refine lv_iload_n hx hb dX0_perform_138 rfl (lv_at hl 3 rfl) ?_
      refine lv_bipush (v := 7) hx hb dX0_perform_139 cb_7 ?_
      refine lv_icmp_ne (tgt := 160) hx hb dX0_perform_141 (by decide) (fun c_141 => ?_) (fun c_141 => by exact absurd c_141 (by decide))
      refine lv_iload hx hb dX0_perform_160 (lv_at hl 0 rfl) ?_
      refine lv_if_eq (tgt := 173) hx hb dX0_perform_162 (by decide) (fun c_162 => ?_) (fun c_162 => ?_)
      · exact absurd c_162 (by decide)
      refine lv_aload_n hx hb dX0_perform_165 rfl (lv_at hl 5 rfl) ?_
      refine lv_iload_n hx hb dX0_perform_166 rfl (lv_at hl 4 rfl) ?_
      refine x_cv S J (xc_jump l D q cI cZ _ (σ) a i ha ha2 hi2) (xk_jump S.2.2.2.2 ⟨Nat.le_of_ble_eq_true rfl, Nat.le_of_ble_eq_true rfl⟩) rfl hl.1 rfl (Nat.le_of_ble_eq_true rfl) dX0_perform_167 ⟨Nat.zero_le _, Nat.zero_le _⟩ (fun s1 H locs w_s1 J => ?_)
      refine lv_goto (tgt := 183) hx hb dX0_perform_170 (by decide) ?_
      refine lv_goto (tgt := 252) hx hb dX0_perform_183 (by decide) ?_
      exact x_vret S hr hlk J (by rw [xPerf, if_neg (by decide), if_neg (by decide), if_pos rfl, if_neg c_128]; exact w_s1) dX0_perform_252
  · refine lv_aload_n hx hb dX0_perform_0 rfl (lv_at hl 0 rfl) ?_
    refine x_r10 S J dX0_perform_1 ?_
    refine lv_aload_n hx hb dX0_perform_4 rfl (lv_at hl 0 rfl) ?_
    refine x_g15 (v := nI a) S J ha dX0_perform_5 ?_
    refine x_l10 (v := nI i) S J a ha2 hi dX0_perform_8 ?_
    refine lv_istore_n (lv' := [(1, .int (nI i)), (0, .ref (q 0))]) hx hb dX0_perform_9 rfl hl (by decide) rfl (fun ls hl => ?_)
    refine lv_aload_n hx hb dX0_perform_10 rfl (lv_at hl 1 rfl) ?_
    refine x_r1 S J dX0_perform_11 ?_
    refine lv_iload_n hx hb dX0_perform_14 rfl (lv_at hl 0 rfl) ?_
    refine x_l1 (v := nI 7) S J i hi2 ho dX0_perform_15 ?_
    refine lv_istore_n (lv' := [(2, .int (nI 7)), (1, .int (nI i)), (0, .ref (q 0))]) hx hb dX0_perform_16 rfl hl (by decide) rfl (fun ls hl => ?_)
    refine lv_aload_n hx hb dX0_perform_17 rfl (lv_at hl 2 rfl) ?_
    refine x_ci S J (xc_base l D q cI cZ _ (σ) d hd hd1) (xk_base S.2.2.2.2 ⟨Nat.le_of_ble_eq_true rfl, Nat.le_of_ble_eq_true rfl⟩) rfl hl.1 rfl (Nat.le_of_ble_eq_true rfl) dX0_perform_18 ⟨Nat.zero_le _, Nat.zero_le _⟩ (fun r_b1 b1 H locs w_b1 J => ?_)
    obtain ⟨e_b1, w_b1⟩ := w_b1
    rw [e_b1] at J
    refine wd_top (nI ((d - 1) * 4)) w_b1 ?_
    refine lv_aload_n hx hb dX0_perform_21 rfl (lv_at hl 2 rfl) ?_
    refine x_r2 S J dX0_perform_22 ?_
    refine lv_iload_n hx hb dX0_perform_25 rfl (lv_at hl 1 rfl) ?_
    refine x_l2 (v := σ.2 2 i) S J i hi2 rfl dX0_perform_26 ?_
    refine lv_iconst (v := 3) hx hb dX0_perform_27 ci_3 ?_
    refine lv_iand hx hb dX0_perform_28 ?_
    refine wd_top (nI (wd3 (σ.2 2 i))) (wd3_e _) ?_
    refine lv_iadd hx hb dX0_perform_29 ?_
    refine wd_top (nI ((d - 1) * 4 + wd3 (σ.2 2 i))) (nI_add _ _) ?_
    refine lv_istore_n (lv' := [(3, .int (nI ((d - 1) * 4 + wd3 (σ.2 2 i)))), (2, .int (nI 7)), (1, .int (nI i)), (0, .ref (q 0))]) hx hb dX0_perform_30 rfl hl (by decide) rfl (fun ls hl => ?_)
    refine lv_aload_n hx hb dX0_perform_31 rfl (lv_at hl 3 rfl) ?_
    refine x_ci S J (xc_base l D q cI cZ _ (σ) d hd hd1) (xk_base S.2.2.2.2 ⟨Nat.le_of_ble_eq_true rfl, Nat.le_of_ble_eq_true rfl⟩) rfl hl.1 rfl (Nat.le_of_ble_eq_true rfl) dX0_perform_32 ⟨Nat.zero_le _, Nat.zero_le _⟩ (fun r_b2 b2 H locs w_b2 J => ?_)
    obtain ⟨e_b2, w_b2⟩ := w_b2
    rw [e_b2] at J
    refine wd_top (nI ((d - 1) * 4)) w_b2 ?_
    refine lv_aload_n hx hb dX0_perform_35 rfl (lv_at hl 3 rfl) ?_
    refine x_r3 S J dX0_perform_36 ?_
    refine lv_iload_n hx hb dX0_perform_39 rfl (lv_at hl 2 rfl) ?_
    refine x_l3 (v := σ.2 3 i) S J i hi2 rfl dX0_perform_40 ?_
    refine lv_iconst (v := 3) hx hb dX0_perform_41 ci_3 ?_
    refine lv_iand hx hb dX0_perform_42 ?_
    refine wd_top (nI (wd3 (σ.2 3 i))) (wd3_e _) ?_
    refine lv_iadd hx hb dX0_perform_43 ?_
    refine wd_top (nI ((d - 1) * 4 + wd3 (σ.2 3 i))) (nI_add _ _) ?_
    refine lv_istore (lv' := [(4, .int (nI ((d - 1) * 4 + wd3 (σ.2 3 i)))), (3, .int (nI ((d - 1) * 4 + wd3 (σ.2 2 i)))), (2, .int (nI 7)), (1, .int (nI i)), (0, .ref (q 0))]) hx hb dX0_perform_44 hl (by decide) rfl (fun ls hl => ?_)
    refine lv_iload_n hx hb dX0_perform_46 rfl (lv_at hl 2 rfl) ?_
    refine lv_iconst (v := 4) hx hb dX0_perform_47 ci_4 ?_
    refine lv_icmp_gt (tgt := 78) hx hb dX0_perform_48 (by decide) (fun c_48 => ?_) (fun c_48 => absurd (by decide) c_48)
    refine lv_iload_n hx hb dX0_perform_78 rfl (lv_at hl 2 rfl) ?_
    refine lv_bipush (v := 7) hx hb dX0_perform_79 cb_7 ?_
    refine lv_icmp_gt (tgt := 186) hx hb dX0_perform_81 (by decide) (fun c_81 => ?_) (fun c_81 => ?_)
    · exact absurd c_81 (by decide)
    refine lv_iload_n hx hb dX0_perform_84 rfl (lv_at hl 2 rfl) ?_
    refine lv_iconst (v := 5) hx hb dX0_perform_85 ci_5 ?_
    refine lv_icmp_ne (tgt := 93) hx hb dX0_perform_86 (by decide) (fun c_86 => ?_) (fun c_86 => by exact absurd c_86 (by decide))
    refine lv_iconst (v := 0) hx hb dX0_perform_93 ci_0 ?_
    refine lv_istore (lv' := [(5, .int 0), (4, .int (nI ((d - 1) * 4 + wd3 (σ.2 3 i)))), (3, .int (nI ((d - 1) * 4 + wd3 (σ.2 2 i)))), (2, .int (nI 7)), (1, .int (nI i)), (0, .ref (q 0))]) hx hb dX0_perform_94 hl (by decide) rfl (fun ls hl => ?_)
    refine lv_iload_n hx hb dX0_perform_96 rfl (lv_at hl 3 rfl) ?_
    refine lv_bipush (v := 6) hx hb dX0_perform_97 cb_6 ?_
    refine lv_icmp_ne (tgt := 138) hx hb dX0_perform_99 (by decide) (fun c_99 => ?_) (fun c_99 => by exact absurd c_99 (by decide))
    refine lv_iload_n hx hb dX0_perform_138 rfl (lv_at hl 3 rfl) ?_
    refine lv_bipush (v := 7) hx hb dX0_perform_139 cb_7 ?_
    refine lv_icmp_ne (tgt := 160) hx hb dX0_perform_141 (by decide) (fun c_141 => ?_) (fun c_141 => ?_)
    · exact absurd c_141 (by decide)
    refine lv_aload_n hx hb dX0_perform_144 rfl (lv_at hl 5 rfl) ?_
    refine x_r19 S J dX0_perform_145 ?_
    refine lv_iload_n hx hb dX0_perform_148 rfl (lv_at hl 2 rfl) ?_
    refine x_l19 (v := σ.2 19 ((d - 1) * 4 + wd3 (σ.2 2 i))) S J ((d - 1) * 4 + wd3 (σ.2 2 i)) (by have := wd3_lt (σ.2 2 i); omega) rfl dX0_perform_149 ?_
    refine lv_if_ne (tgt := 157) hx hb dX0_perform_150 (by decide) (fun c_150 => ?_) (fun c_150 => ?_)
    · refine lv_iconst (v := 0) hx hb dX0_perform_157 ci_0 ?_
      refine lv_istore (lv' := [(5, .int 0), (4, .int (nI ((d - 1) * 4 + wd3 (σ.2 3 i)))), (3, .int (nI ((d - 1) * 4 + wd3 (σ.2 2 i)))), (2, .int (nI 7)), (1, .int (nI i)), (0, .ref (q 0))]) hx hb dX0_perform_158 hl (by decide) rfl (fun ls hl => ?_)
      refine lv_iload hx hb dX0_perform_160 (lv_at hl 0 rfl) ?_
      refine lv_if_eq (tgt := 173) hx hb dX0_perform_162 (by decide) (fun c_162 => ?_) (fun c_162 => absurd (by decide) c_162)
      refine lv_aload_n hx hb dX0_perform_173 rfl (lv_at hl 5 rfl) ?_
      refine lv_dup hx hb dX0_perform_174 rfl ?_
      refine x_g15 (v := nI a) S J ha dX0_perform_175 ?_
      refine lv_iconst (v := 1) hx hb dX0_perform_178 ci_1 ?_
      refine lv_iadd hx hb dX0_perform_179 ?_
      refine wd_top (nI (a + 1)) (nI_1 _) ?_
      refine x_p15 S J dX0_perform_180 (fun H locs J => ?_)
      refine lv_goto (tgt := 252) hx hb dX0_perform_183 (by decide) ?_
      exact x_vret S hr hlk J (by rw [xPerf, if_neg (by decide), if_neg (by decide), if_neg (by decide), if_pos rfl, if_neg c_150]) dX0_perform_252
    · refine lv_iconst (v := 1) hx hb dX0_perform_153 ci_1 ?_
      refine lv_goto (tgt := 158) hx hb dX0_perform_154 (by decide) ?_
      refine lv_istore (lv' := [(5, .int 1), (4, .int (nI ((d - 1) * 4 + wd3 (σ.2 3 i)))), (3, .int (nI ((d - 1) * 4 + wd3 (σ.2 2 i)))), (2, .int (nI 7)), (1, .int (nI i)), (0, .ref (q 0))]) hx hb dX0_perform_158 hl (by decide) rfl (fun ls hl => ?_)
      refine lv_iload hx hb dX0_perform_160 (lv_at hl 0 rfl) ?_
      refine lv_if_eq (tgt := 173) hx hb dX0_perform_162 (by decide) (fun c_162 => ?_) (fun c_162 => ?_)
      · exact absurd c_162 (by decide)
      refine lv_aload_n hx hb dX0_perform_165 rfl (lv_at hl 5 rfl) ?_
      refine lv_iload_n hx hb dX0_perform_166 rfl (lv_at hl 4 rfl) ?_
      refine x_cv S J (xc_jump l D q cI cZ _ (σ) a i ha ha2 hi2) (xk_jump S.2.2.2.2 ⟨Nat.le_of_ble_eq_true rfl, Nat.le_of_ble_eq_true rfl⟩) rfl hl.1 rfl (Nat.le_of_ble_eq_true rfl) dX0_perform_167 ⟨Nat.zero_le _, Nat.zero_le _⟩ (fun s1 H locs w_s1 J => ?_)
      refine lv_goto (tgt := 183) hx hb dX0_perform_170 (by decide) ?_
      refine lv_goto (tgt := 252) hx hb dX0_perform_183 (by decide) ?_
      exact x_vret S hr hlk J (by rw [xPerf, if_neg (by decide), if_neg (by decide), if_neg (by decide), if_pos rfl, if_pos c_150]; exact w_s1) dX0_perform_252
  · refine lv_aload_n hx hb dX0_perform_0 rfl (lv_at hl 0 rfl) ?_
    refine x_r10 S J dX0_perform_1 ?_
    refine lv_aload_n hx hb dX0_perform_4 rfl (lv_at hl 0 rfl) ?_
    refine x_g15 (v := nI a) S J ha dX0_perform_5 ?_
    refine x_l10 (v := nI i) S J a ha2 hi dX0_perform_8 ?_
    refine lv_istore_n (lv' := [(1, .int (nI i)), (0, .ref (q 0))]) hx hb dX0_perform_9 rfl hl (by decide) rfl (fun ls hl => ?_)
    refine lv_aload_n hx hb dX0_perform_10 rfl (lv_at hl 1 rfl) ?_
    refine x_r1 S J dX0_perform_11 ?_
    refine lv_iload_n hx hb dX0_perform_14 rfl (lv_at hl 0 rfl) ?_
    refine x_l1 (v := nI 8) S J i hi2 ho dX0_perform_15 ?_
    refine lv_istore_n (lv' := [(2, .int (nI 8)), (1, .int (nI i)), (0, .ref (q 0))]) hx hb dX0_perform_16 rfl hl (by decide) rfl (fun ls hl => ?_)
    refine lv_aload_n hx hb dX0_perform_17 rfl (lv_at hl 2 rfl) ?_
    refine x_ci S J (xc_base l D q cI cZ _ (σ) d hd hd1) (xk_base S.2.2.2.2 ⟨Nat.le_of_ble_eq_true rfl, Nat.le_of_ble_eq_true rfl⟩) rfl hl.1 rfl (Nat.le_of_ble_eq_true rfl) dX0_perform_18 ⟨Nat.zero_le _, Nat.zero_le _⟩ (fun r_b1 b1 H locs w_b1 J => ?_)
    obtain ⟨e_b1, w_b1⟩ := w_b1
    rw [e_b1] at J
    refine wd_top (nI ((d - 1) * 4)) w_b1 ?_
    refine lv_aload_n hx hb dX0_perform_21 rfl (lv_at hl 2 rfl) ?_
    refine x_r2 S J dX0_perform_22 ?_
    refine lv_iload_n hx hb dX0_perform_25 rfl (lv_at hl 1 rfl) ?_
    refine x_l2 (v := σ.2 2 i) S J i hi2 rfl dX0_perform_26 ?_
    refine lv_iconst (v := 3) hx hb dX0_perform_27 ci_3 ?_
    refine lv_iand hx hb dX0_perform_28 ?_
    refine wd_top (nI (wd3 (σ.2 2 i))) (wd3_e _) ?_
    refine lv_iadd hx hb dX0_perform_29 ?_
    refine wd_top (nI ((d - 1) * 4 + wd3 (σ.2 2 i))) (nI_add _ _) ?_
    refine lv_istore_n (lv' := [(3, .int (nI ((d - 1) * 4 + wd3 (σ.2 2 i)))), (2, .int (nI 8)), (1, .int (nI i)), (0, .ref (q 0))]) hx hb dX0_perform_30 rfl hl (by decide) rfl (fun ls hl => ?_)
    refine lv_aload_n hx hb dX0_perform_31 rfl (lv_at hl 3 rfl) ?_
    refine x_ci S J (xc_base l D q cI cZ _ (σ) d hd hd1) (xk_base S.2.2.2.2 ⟨Nat.le_of_ble_eq_true rfl, Nat.le_of_ble_eq_true rfl⟩) rfl hl.1 rfl (Nat.le_of_ble_eq_true rfl) dX0_perform_32 ⟨Nat.zero_le _, Nat.zero_le _⟩ (fun r_b2 b2 H locs w_b2 J => ?_)
    obtain ⟨e_b2, w_b2⟩ := w_b2
    rw [e_b2] at J
    refine wd_top (nI ((d - 1) * 4)) w_b2 ?_
    refine lv_aload_n hx hb dX0_perform_35 rfl (lv_at hl 3 rfl) ?_
    refine x_r3 S J dX0_perform_36 ?_
    refine lv_iload_n hx hb dX0_perform_39 rfl (lv_at hl 2 rfl) ?_
    refine x_l3 (v := σ.2 3 i) S J i hi2 rfl dX0_perform_40 ?_
    refine lv_iconst (v := 3) hx hb dX0_perform_41 ci_3 ?_
    refine lv_iand hx hb dX0_perform_42 ?_
    refine wd_top (nI (wd3 (σ.2 3 i))) (wd3_e _) ?_
    refine lv_iadd hx hb dX0_perform_43 ?_
    refine wd_top (nI ((d - 1) * 4 + wd3 (σ.2 3 i))) (nI_add _ _) ?_
    refine lv_istore (lv' := [(4, .int (nI ((d - 1) * 4 + wd3 (σ.2 3 i)))), (3, .int (nI ((d - 1) * 4 + wd3 (σ.2 2 i)))), (2, .int (nI 8)), (1, .int (nI i)), (0, .ref (q 0))]) hx hb dX0_perform_44 hl (by decide) rfl (fun ls hl => ?_)
    refine lv_iload_n hx hb dX0_perform_46 rfl (lv_at hl 2 rfl) ?_
    refine lv_iconst (v := 4) hx hb dX0_perform_47 ci_4 ?_
    refine lv_icmp_gt (tgt := 78) hx hb dX0_perform_48 (by decide) (fun c_48 => ?_) (fun c_48 => absurd (by decide) c_48)
    refine lv_iload_n hx hb dX0_perform_78 rfl (lv_at hl 2 rfl) ?_
    refine lv_bipush (v := 7) hx hb dX0_perform_79 cb_7 ?_
    refine lv_icmp_gt (tgt := 186) hx hb dX0_perform_81 (by decide) (fun c_81 => ?_) (fun c_81 => absurd (by decide) c_81)
    refine lv_iload_n hx hb dX0_perform_186 rfl (lv_at hl 2 rfl) ?_
    refine lv_bipush (v := 8) hx hb dX0_perform_187 cb_8 ?_
    refine lv_icmp_ne (tgt := 201) hx hb dX0_perform_189 (by decide) (fun c_189 => ?_) (fun c_189 => ?_)
    · exact absurd c_189 (by decide)
    refine lv_aload_n hx hb dX0_perform_192 rfl (lv_at hl 4 rfl) ?_
    refine lv_iload_n hx hb dX0_perform_193 rfl (lv_at hl 3 rfl) ?_
    refine lv_iload_n hx hb dX0_perform_194 rfl (lv_at hl 1 rfl) ?_
    refine x_cv S J (xc_call l D q cI cZ _ (σ) a i ((d - 1) * 4 + wd3 (σ.2 2 i)) d ha ha2 hi2 (by have := wd3_lt (σ.2 2 i); omega) hd hd1 hd6) (xk_call S.2.2.2.2 ⟨Nat.le_of_ble_eq_true rfl, Nat.le_of_ble_eq_true rfl⟩) rfl hl.1 rfl (Nat.le_of_ble_eq_true rfl) dX0_perform_195 ⟨Nat.zero_le _, Nat.zero_le _⟩ (fun s1 H locs w_s1 J => ?_)
    refine lv_goto (tgt := 252) hx hb dX0_perform_198 (by decide) ?_
    exact x_vret S hr hlk J (by rw [xPerf, if_neg (by decide), if_neg (by decide), if_neg (by decide), if_neg (by decide), if_pos rfl]; exact w_s1) dX0_perform_252
  · refine lv_aload_n hx hb dX0_perform_0 rfl (lv_at hl 0 rfl) ?_
    refine x_r10 S J dX0_perform_1 ?_
    refine lv_aload_n hx hb dX0_perform_4 rfl (lv_at hl 0 rfl) ?_
    refine x_g15 (v := nI a) S J ha dX0_perform_5 ?_
    refine x_l10 (v := nI i) S J a ha2 hi dX0_perform_8 ?_
    refine lv_istore_n (lv' := [(1, .int (nI i)), (0, .ref (q 0))]) hx hb dX0_perform_9 rfl hl (by decide) rfl (fun ls hl => ?_)
    refine lv_aload_n hx hb dX0_perform_10 rfl (lv_at hl 1 rfl) ?_
    refine x_r1 S J dX0_perform_11 ?_
    refine lv_iload_n hx hb dX0_perform_14 rfl (lv_at hl 0 rfl) ?_
    refine x_l1 (v := nI 9) S J i hi2 ho dX0_perform_15 ?_
    refine lv_istore_n (lv' := [(2, .int (nI 9)), (1, .int (nI i)), (0, .ref (q 0))]) hx hb dX0_perform_16 rfl hl (by decide) rfl (fun ls hl => ?_)
    refine lv_aload_n hx hb dX0_perform_17 rfl (lv_at hl 2 rfl) ?_
    refine x_ci S J (xc_base l D q cI cZ _ (σ) d hd hd1) (xk_base S.2.2.2.2 ⟨Nat.le_of_ble_eq_true rfl, Nat.le_of_ble_eq_true rfl⟩) rfl hl.1 rfl (Nat.le_of_ble_eq_true rfl) dX0_perform_18 ⟨Nat.zero_le _, Nat.zero_le _⟩ (fun r_b1 b1 H locs w_b1 J => ?_)
    obtain ⟨e_b1, w_b1⟩ := w_b1
    rw [e_b1] at J
    refine wd_top (nI ((d - 1) * 4)) w_b1 ?_
    refine lv_aload_n hx hb dX0_perform_21 rfl (lv_at hl 2 rfl) ?_
    refine x_r2 S J dX0_perform_22 ?_
    refine lv_iload_n hx hb dX0_perform_25 rfl (lv_at hl 1 rfl) ?_
    refine x_l2 (v := σ.2 2 i) S J i hi2 rfl dX0_perform_26 ?_
    refine lv_iconst (v := 3) hx hb dX0_perform_27 ci_3 ?_
    refine lv_iand hx hb dX0_perform_28 ?_
    refine wd_top (nI (wd3 (σ.2 2 i))) (wd3_e _) ?_
    refine lv_iadd hx hb dX0_perform_29 ?_
    refine wd_top (nI ((d - 1) * 4 + wd3 (σ.2 2 i))) (nI_add _ _) ?_
    refine lv_istore_n (lv' := [(3, .int (nI ((d - 1) * 4 + wd3 (σ.2 2 i)))), (2, .int (nI 9)), (1, .int (nI i)), (0, .ref (q 0))]) hx hb dX0_perform_30 rfl hl (by decide) rfl (fun ls hl => ?_)
    refine lv_aload_n hx hb dX0_perform_31 rfl (lv_at hl 3 rfl) ?_
    refine x_ci S J (xc_base l D q cI cZ _ (σ) d hd hd1) (xk_base S.2.2.2.2 ⟨Nat.le_of_ble_eq_true rfl, Nat.le_of_ble_eq_true rfl⟩) rfl hl.1 rfl (Nat.le_of_ble_eq_true rfl) dX0_perform_32 ⟨Nat.zero_le _, Nat.zero_le _⟩ (fun r_b2 b2 H locs w_b2 J => ?_)
    obtain ⟨e_b2, w_b2⟩ := w_b2
    rw [e_b2] at J
    refine wd_top (nI ((d - 1) * 4)) w_b2 ?_
    refine lv_aload_n hx hb dX0_perform_35 rfl (lv_at hl 3 rfl) ?_
    refine x_r3 S J dX0_perform_36 ?_
    refine lv_iload_n hx hb dX0_perform_39 rfl (lv_at hl 2 rfl) ?_
    refine x_l3 (v := σ.2 3 i) S J i hi2 rfl dX0_perform_40 ?_
    refine lv_iconst (v := 3) hx hb dX0_perform_41 ci_3 ?_
    refine lv_iand hx hb dX0_perform_42 ?_
    refine wd_top (nI (wd3 (σ.2 3 i))) (wd3_e _) ?_
    refine lv_iadd hx hb dX0_perform_43 ?_
    refine wd_top (nI ((d - 1) * 4 + wd3 (σ.2 3 i))) (nI_add _ _) ?_
    refine lv_istore (lv' := [(4, .int (nI ((d - 1) * 4 + wd3 (σ.2 3 i)))), (3, .int (nI ((d - 1) * 4 + wd3 (σ.2 2 i)))), (2, .int (nI 9)), (1, .int (nI i)), (0, .ref (q 0))]) hx hb dX0_perform_44 hl (by decide) rfl (fun ls hl => ?_)
    refine lv_iload_n hx hb dX0_perform_46 rfl (lv_at hl 2 rfl) ?_
    refine lv_iconst (v := 4) hx hb dX0_perform_47 ci_4 ?_
    refine lv_icmp_gt (tgt := 78) hx hb dX0_perform_48 (by decide) (fun c_48 => ?_) (fun c_48 => absurd (by decide) c_48)
    refine lv_iload_n hx hb dX0_perform_78 rfl (lv_at hl 2 rfl) ?_
    refine lv_bipush (v := 7) hx hb dX0_perform_79 cb_7 ?_
    refine lv_icmp_gt (tgt := 186) hx hb dX0_perform_81 (by decide) (fun c_81 => ?_) (fun c_81 => absurd (by decide) c_81)
    refine lv_iload_n hx hb dX0_perform_186 rfl (lv_at hl 2 rfl) ?_
    refine lv_bipush (v := 8) hx hb dX0_perform_187 cb_8 ?_
    refine lv_icmp_ne (tgt := 201) hx hb dX0_perform_189 (by decide) (fun c_189 => ?_) (fun c_189 => by exact absurd c_189 (by decide))
    refine lv_iload_n hx hb dX0_perform_201 rfl (lv_at hl 2 rfl) ?_
    refine lv_bipush (v := 9) hx hb dX0_perform_202 cb_9 ?_
    refine lv_icmp_ne (tgt := 214) hx hb dX0_perform_204 (by decide) (fun c_204 => ?_) (fun c_204 => ?_)
    · exact absurd c_204 (by decide)
    refine lv_aload_n hx hb dX0_perform_207 rfl (lv_at hl 4 rfl) ?_
    refine x_cv S J (xc_giveBack l D q cI cZ _ (σ) d t hd hd1 hd6 ht ht4) (xk_giveBack S.2.2.2.2 ⟨Nat.le_of_ble_eq_true rfl, Nat.le_of_ble_eq_true rfl⟩) rfl hl.1 rfl (Nat.le_of_ble_eq_true rfl) dX0_perform_208 ⟨Nat.zero_le _, Nat.zero_le _⟩ (fun s1 H locs w_s1 J => ?_)
    refine lv_goto (tgt := 252) hx hb dX0_perform_211 (by decide) ?_
    exact x_vret S hr hlk J (by rw [xPerf, if_neg (by decide), if_neg (by decide), if_neg (by decide), if_neg (by decide), if_neg (by decide), if_pos rfl]; exact w_s1) dX0_perform_252
  · refine lv_aload_n hx hb dX0_perform_0 rfl (lv_at hl 0 rfl) ?_
    refine x_r10 S J dX0_perform_1 ?_
    refine lv_aload_n hx hb dX0_perform_4 rfl (lv_at hl 0 rfl) ?_
    refine x_g15 (v := nI a) S J ha dX0_perform_5 ?_
    refine x_l10 (v := nI i) S J a ha2 hi dX0_perform_8 ?_
    refine lv_istore_n (lv' := [(1, .int (nI i)), (0, .ref (q 0))]) hx hb dX0_perform_9 rfl hl (by decide) rfl (fun ls hl => ?_)
    refine lv_aload_n hx hb dX0_perform_10 rfl (lv_at hl 1 rfl) ?_
    refine x_r1 S J dX0_perform_11 ?_
    refine lv_iload_n hx hb dX0_perform_14 rfl (lv_at hl 0 rfl) ?_
    refine x_l1 (v := nI 10) S J i hi2 ho dX0_perform_15 ?_
    refine lv_istore_n (lv' := [(2, .int (nI 10)), (1, .int (nI i)), (0, .ref (q 0))]) hx hb dX0_perform_16 rfl hl (by decide) rfl (fun ls hl => ?_)
    refine lv_aload_n hx hb dX0_perform_17 rfl (lv_at hl 2 rfl) ?_
    refine x_ci S J (xc_base l D q cI cZ _ (σ) d hd hd1) (xk_base S.2.2.2.2 ⟨Nat.le_of_ble_eq_true rfl, Nat.le_of_ble_eq_true rfl⟩) rfl hl.1 rfl (Nat.le_of_ble_eq_true rfl) dX0_perform_18 ⟨Nat.zero_le _, Nat.zero_le _⟩ (fun r_b1 b1 H locs w_b1 J => ?_)
    obtain ⟨e_b1, w_b1⟩ := w_b1
    rw [e_b1] at J
    refine wd_top (nI ((d - 1) * 4)) w_b1 ?_
    refine lv_aload_n hx hb dX0_perform_21 rfl (lv_at hl 2 rfl) ?_
    refine x_r2 S J dX0_perform_22 ?_
    refine lv_iload_n hx hb dX0_perform_25 rfl (lv_at hl 1 rfl) ?_
    refine x_l2 (v := σ.2 2 i) S J i hi2 rfl dX0_perform_26 ?_
    refine lv_iconst (v := 3) hx hb dX0_perform_27 ci_3 ?_
    refine lv_iand hx hb dX0_perform_28 ?_
    refine wd_top (nI (wd3 (σ.2 2 i))) (wd3_e _) ?_
    refine lv_iadd hx hb dX0_perform_29 ?_
    refine wd_top (nI ((d - 1) * 4 + wd3 (σ.2 2 i))) (nI_add _ _) ?_
    refine lv_istore_n (lv' := [(3, .int (nI ((d - 1) * 4 + wd3 (σ.2 2 i)))), (2, .int (nI 10)), (1, .int (nI i)), (0, .ref (q 0))]) hx hb dX0_perform_30 rfl hl (by decide) rfl (fun ls hl => ?_)
    refine lv_aload_n hx hb dX0_perform_31 rfl (lv_at hl 3 rfl) ?_
    refine x_ci S J (xc_base l D q cI cZ _ (σ) d hd hd1) (xk_base S.2.2.2.2 ⟨Nat.le_of_ble_eq_true rfl, Nat.le_of_ble_eq_true rfl⟩) rfl hl.1 rfl (Nat.le_of_ble_eq_true rfl) dX0_perform_32 ⟨Nat.zero_le _, Nat.zero_le _⟩ (fun r_b2 b2 H locs w_b2 J => ?_)
    obtain ⟨e_b2, w_b2⟩ := w_b2
    rw [e_b2] at J
    refine wd_top (nI ((d - 1) * 4)) w_b2 ?_
    refine lv_aload_n hx hb dX0_perform_35 rfl (lv_at hl 3 rfl) ?_
    refine x_r3 S J dX0_perform_36 ?_
    refine lv_iload_n hx hb dX0_perform_39 rfl (lv_at hl 2 rfl) ?_
    refine x_l3 (v := σ.2 3 i) S J i hi2 rfl dX0_perform_40 ?_
    refine lv_iconst (v := 3) hx hb dX0_perform_41 ci_3 ?_
    refine lv_iand hx hb dX0_perform_42 ?_
    refine wd_top (nI (wd3 (σ.2 3 i))) (wd3_e _) ?_
    refine lv_iadd hx hb dX0_perform_43 ?_
    refine wd_top (nI ((d - 1) * 4 + wd3 (σ.2 3 i))) (nI_add _ _) ?_
    refine lv_istore (lv' := [(4, .int (nI ((d - 1) * 4 + wd3 (σ.2 3 i)))), (3, .int (nI ((d - 1) * 4 + wd3 (σ.2 2 i)))), (2, .int (nI 10)), (1, .int (nI i)), (0, .ref (q 0))]) hx hb dX0_perform_44 hl (by decide) rfl (fun ls hl => ?_)
    refine lv_iload_n hx hb dX0_perform_46 rfl (lv_at hl 2 rfl) ?_
    refine lv_iconst (v := 4) hx hb dX0_perform_47 ci_4 ?_
    refine lv_icmp_gt (tgt := 78) hx hb dX0_perform_48 (by decide) (fun c_48 => ?_) (fun c_48 => absurd (by decide) c_48)
    refine lv_iload_n hx hb dX0_perform_78 rfl (lv_at hl 2 rfl) ?_
    refine lv_bipush (v := 7) hx hb dX0_perform_79 cb_7 ?_
    refine lv_icmp_gt (tgt := 186) hx hb dX0_perform_81 (by decide) (fun c_81 => ?_) (fun c_81 => absurd (by decide) c_81)
    refine lv_iload_n hx hb dX0_perform_186 rfl (lv_at hl 2 rfl) ?_
    refine lv_bipush (v := 8) hx hb dX0_perform_187 cb_8 ?_
    refine lv_icmp_ne (tgt := 201) hx hb dX0_perform_189 (by decide) (fun c_189 => ?_) (fun c_189 => by exact absurd c_189 (by decide))
    refine lv_iload_n hx hb dX0_perform_201 rfl (lv_at hl 2 rfl) ?_
    refine lv_bipush (v := 9) hx hb dX0_perform_202 cb_9 ?_
    refine lv_icmp_ne (tgt := 214) hx hb dX0_perform_204 (by decide) (fun c_204 => ?_) (fun c_204 => by exact absurd c_204 (by decide))
    refine lv_aload_n hx hb dX0_perform_214 rfl (lv_at hl 4 rfl) ?_
    refine x_r23 S J dX0_perform_215 ?_
    refine lv_aload_n hx hb dX0_perform_218 rfl (lv_at hl 4 rfl) ?_
    refine x_g22 (v := σ.1 22) S J rfl dX0_perform_219 ?_
    refine lv_bipush (v := 7) hx hb dX0_perform_222 cb_7 ?_
    refine lv_iand hx hb dX0_perform_224 ?_
    refine wd_top (nI (wd7 (σ.1 22))) (wd7_e _) ?_
    refine lv_aload_n hx hb dX0_perform_225 rfl (lv_at hl 4 rfl) ?_
    refine x_r19 S J dX0_perform_226 ?_
    refine lv_iload_n hx hb dX0_perform_229 rfl (lv_at hl 1 rfl) ?_
    refine x_l19 (v := σ.2 19 ((d - 1) * 4 + wd3 (σ.2 2 i))) S J ((d - 1) * 4 + wd3 (σ.2 2 i)) (by have := wd3_lt (σ.2 2 i); omega) rfl dX0_perform_230 ?_
    refine x_s23 S J (wd7 (σ.1 22)) (by have := wd7_lt (σ.1 22); omega) dX0_perform_231 (fun H locs J => ?_)
    refine lv_aload_n hx hb dX0_perform_232 rfl (lv_at hl 4 rfl) ?_
    refine lv_dup hx hb dX0_perform_233 rfl ?_
    refine x_g22 (v := σ.1 22) S J rfl dX0_perform_234 ?_
    refine lv_iconst (v := 1) hx hb dX0_perform_237 ci_1 ?_
    refine lv_iadd hx hb dX0_perform_238 ?_
    refine x_p22 S J dX0_perform_239 (fun H locs J => ?_)
    refine lv_aload_n hx hb dX0_perform_242 rfl (lv_at hl 4 rfl) ?_
    refine lv_dup hx hb dX0_perform_243 rfl ?_
    refine x_g15 (v := nI a) S J ha dX0_perform_244 ?_
    refine lv_iconst (v := 1) hx hb dX0_perform_247 ci_1 ?_
    refine lv_iadd hx hb dX0_perform_248 ?_
    refine wd_top (nI (a + 1)) (nI_1 _) ?_
    refine x_p15 S J dX0_perform_249 (fun H locs J => ?_)
    exact x_vret S hr hlk J (by rw [xPerf, if_neg (by decide), if_neg (by decide), if_neg (by decide), if_neg (by decide), if_neg (by decide), if_neg (by decide)]) dX0_perform_252
end
section
/-! the woven copy, plainly -/
/-- is there a probe ahead of instruction i -/
def wdFl (σ : wdSt) (i : Nat) : Nat := if σ.2 5 i = 0 ∧ σ.2 7 i = 0 then 0 else 1
theorem wdFl_le (σ : wdSt) (i : Nat) : wdFl σ i ≤ 1 := by unfold wdFl; split <;> omega
/-- where instruction i (its probe, if any) stands in the copy -/
def wdE (φ : Nat → Nat) : Nat → Nat
  | 0 => 0
  | i + 1 => wdE φ i + φ i + 1
theorem wdE_le {φ : Nat → Nat} (h : ∀ i, φ i ≤ 1) : ∀ i, wdE φ i ≤ 2 * i
  | 0 => Nat.le_refl _
  | i + 1 => by
    have h1 := wdE_le h i
    have h2 := h i
    show wdE φ i + φ i + 1 ≤ _
    omega
theorem wdE_lt {φ : Nat → Nat} {i j : Nat} (h : i < j) : wdE φ i + φ i < wdE φ j := by
  induction j with
  | zero => omega
  | succ j ih =>
    show _ < wdE φ j + φ j + 1
    by_cases e : i = j
    · subst e
      omega
    · have := ih (by omega)
      omega
theorem wdE_lt0 {φ : Nat → Nat} {i j : Nat} (h : i < j) : wdE φ i < wdE φ j := Nat.lt_of_le_of_lt (Nat.le_add_right _ _) (wdE_lt h)
/-- the copy of the first i instructions, as weave leaves it -/
def wdV (i : Nat) (φ : Nat → Nat) (σ σ1 : wdSt) : Prop :=
  σ1.1 = σ.1 ∧ (∀ k, k ∉ [9, 10, 12, 13] → σ1.2 k = σ.2 k) ∧
  (∀ j, j < i → σ1.2 12 j = nI (wdE φ j)) ∧ (∀ j, j < i → σ1.2 13 j = nI (wdE φ j + φ j)) ∧
  (∀ j, j < i → σ1.2 10 (wdE φ j) = nI j) ∧ (∀ j, j < i → σ1.2 10 (wdE φ j + φ j) = nI j) ∧
  (∀ j, j < i → φ j = 1 → σ1.2 9 (wdE φ j) = 11) ∧ ∀ j, j < i → σ1.2 9 (wdE φ j + φ j) = σ.2 1 j
theorem wdV_0 (φ : Nat → Nat) (σ : wdSt) : wdV 0 φ σ σ :=
  ⟨rfl, fun _ _ => rfl, fun j h => absurd h (Nat.not_lt_zero j), fun j h => absurd h (Nat.not_lt_zero j), fun j h => absurd h (Nat.not_lt_zero j), fun j h => absurd h (Nat.not_lt_zero j), fun j h => absurd h (Nat.not_lt_zero j), fun j h => absurd h (Nat.not_lt_zero j)⟩
/-- one instruction more, without a probe -/
theorem wdV_s0 {i : Nat} {φ : Nat → Nat} {σ σ1 : wdSt} (h : wdV i φ σ σ1) (hf : φ i = 0) :
    wdV (i + 1) φ σ (wdA (wdA (wdA (wdA σ1 12 i (nI (wdE φ i))) 13 i (nI (wdE φ i))) 9 (wdE φ i) (σ1.2 1 i)) 10 (wdE φ i) (nI i)) := by
  obtain ⟨h1, h2, h3, h4, h5, h6, h7, h8⟩ := h
  have g : ∀ j, j < i + 1 → j < i ∨ j = i := fun j hj => by omega
  refine ⟨h1, fun k hk => ?_, fun j hj => ?_, fun j hj => ?_, fun j hj => ?_, fun j hj => ?_, fun j hj e => ?_, fun j hj => ?_⟩
  · have hk9 : ¬ k = 9 := fun e => hk (by simp [e])
    have hk10 : ¬ k = 10 := fun e => hk (by simp [e])
    have hk12 : ¬ k = 12 := fun e => hk (by simp [e])
    have hk13 : ¬ k = 13 := fun e => hk (by simp [e])
    rw [wd2_n _ _ _ hk10, wd2_n _ _ _ hk9, wd2_n _ _ _ hk13, wd2_n _ _ _ hk12]
    exact h2 k hk
  · show upd (σ1.2 12) i _ j = _
    rcases g j hj with e | e
    · rw [upd_n _ _ (by omega)]; exact h3 j e
    · rw [e, upd_s]
  · show upd (σ1.2 13) i _ j = _
    rcases g j hj with e | e
    · rw [upd_n _ _ (by omega)]; exact h4 j e
    · rw [e, upd_s, hf]; rfl
  · show upd (σ1.2 10) _ _ _ = _
    rcases g j hj with e | e
    · rw [upd_n _ _ (Nat.ne_of_lt (wdE_lt0 e))]; exact h5 j e
    · rw [e, upd_s]
  · show upd (σ1.2 10) _ _ _ = _
    rcases g j hj with e | e
    · rw [upd_n _ _ (Nat.ne_of_lt (wdE_lt e))]; exact h6 j e
    · rw [e, hf, Nat.add_zero, upd_s]
  · show upd (σ1.2 9) _ _ _ = _
    rcases g j hj with e2 | e2
    · rw [upd_n _ _ (Nat.ne_of_lt (wdE_lt0 e2))]; exact h7 j e2 e
    · rw [e2, hf] at e; omega
  · show upd (σ1.2 9) _ _ _ = _
    rcases g j hj with e | e
    · rw [upd_n _ _ (Nat.ne_of_lt (wdE_lt e))]; exact h8 j e
    · rw [e, hf, Nat.add_zero, upd_s, h2 1 (by decide)]
/-- one instruction more, behind a probe -/
theorem wdV_s1 {i : Nat} {φ : Nat → Nat} {σ σ1 : wdSt} (h : wdV i φ σ σ1) (hf : φ i = 1) :
    wdV (i + 1) φ σ (wdA (wdA (wdA (wdA (wdA (wdA σ1 12 i (nI (wdE φ i))) 9 (wdE φ i) 11) 10 (wdE φ i) (nI i)) 13 i (nI (wdE φ i + 1))) 9 (wdE φ i + 1) (σ1.2 1 i)) 10 (wdE φ i + 1) (nI i)) := by
  obtain ⟨h1, h2, h3, h4, h5, h6, h7, h8⟩ := h
  have g : ∀ j, j < i + 1 → j < i ∨ j = i := fun j hj => by omega
  refine ⟨h1, fun k hk => ?_, fun j hj => ?_, fun j hj => ?_, fun j hj => ?_, fun j hj => ?_, fun j hj e => ?_, fun j hj => ?_⟩
  · have hk9 : ¬ k = 9 := fun e => hk (by simp [e])
    have hk10 : ¬ k = 10 := fun e => hk (by simp [e])
    have hk12 : ¬ k = 12 := fun e => hk (by simp [e])
    have hk13 : ¬ k = 13 := fun e => hk (by simp [e])
    rw [wd2_n _ _ _ hk10, wd2_n _ _ _ hk9, wd2_n _ _ _ hk13, wd2_n _ _ _ hk10, wd2_n _ _ _ hk9, wd2_n _ _ _ hk12]
    exact h2 k hk
  · show upd (σ1.2 12) i _ j = _
    rcases g j hj with e | e
    · rw [upd_n _ _ (by omega)]; exact h3 j e
    · rw [e, upd_s]
  · show upd (σ1.2 13) i _ j = _
    rcases g j hj with e | e
    · rw [upd_n _ _ (by omega)]; exact h4 j e
    · rw [e, upd_s, hf]
  · show upd (upd (σ1.2 10) _ _) _ _ _ = _
    rcases g j hj with e | e
    · have := wdE_lt0 (φ := φ) e
      rw [upd_n _ _ (by omega), upd_n _ _ (by omega)]; exact h5 j e
    · rw [e, upd_n _ _ (by omega), upd_s]
  · show upd (upd (σ1.2 10) _ _) _ _ _ = _
    rcases g j hj with e | e
    · have := wdE_lt (φ := φ) e
      rw [upd_n _ _ (by omega), upd_n _ _ (by omega)]; exact h6 j e
    · rw [e, hf, upd_s]
  · show upd (upd (σ1.2 9) _ _) _ _ _ = _
    rcases g j hj with e2 | e2
    · have := wdE_lt0 (φ := φ) e2
      rw [upd_n _ _ (by omega), upd_n _ _ (by omega)]; exact h7 j e2 e
    · rw [e2, upd_n _ _ (by omega), upd_s]
  · show upd (upd (σ1.2 9) _ _) _ _ _ = _
    rcases g j hj with e | e
    · have := wdE_lt (φ := φ) e
      rw [upd_n _ _ (by omega), upd_n _ _ (by omega)]; exact h8 j e
    · rw [e, hf, upd_s, h2 1 (by decide)]
/-- the copy but for where its jumps lead -/
def wdWA (L : Nat) (φ : Nat → Nat) (σ : wdSt) : Prop :=
  (∀ j, j ≤ L → σ.2 12 j = nI (wdE φ j)) ∧ (∀ j, j < L → σ.2 13 j = nI (wdE φ j + φ j)) ∧
  (∀ j, j ≤ L → σ.2 10 (wdE φ j) = nI j) ∧ (∀ j, j < L → σ.2 10 (wdE φ j + φ j) = nI j) ∧
  (∀ j, j < L → φ j = 1 → σ.2 9 (wdE φ j) = 11) ∧ (∀ j, j < L → σ.2 9 (wdE φ j + φ j) = σ.2 1 j) ∧ σ.2 9 (wdE φ L) = 12
/-- where the jumps of the first i instructions lead -/
def wdWL (i L : Nat) (φ : Nat → Nat) (σ : wdSt) : Prop :=
  ∀ j, j < i → (∀ g, g < L → σ.2 3 j = nI g → σ.2 11 (wdE φ j + φ j) = nI (wdE φ g)) ∧ ((∀ g, g < L → σ.2 3 j ≠ nI g) → σ.2 11 (wdE φ j + φ j) = -1)
def wdWv (L : Nat) (φ : Nat → Nat) (σ : wdSt) : Prop := wdWA L φ σ ∧ wdWL L L φ σ
theorem wdV_end {L : Nat} {φ : Nat → Nat} {σ σ1 : wdSt} (h : wdV L φ σ σ1) :
    (wdA (wdA (wdA (wdA σ1 12 L (nI (wdE φ L))) 13 L (nI (wdE φ L))) 9 (wdE φ L) 12) 10 (wdE φ L) (nI L)).1 = σ.1 ∧ (∀ k, k ∉ [9, 10, 11, 12, 13] → (wdA (wdA (wdA (wdA σ1 12 L (nI (wdE φ L))) 13 L (nI (wdE φ L))) 9 (wdE φ L) 12) 10 (wdE φ L) (nI L)).2 k = σ.2 k) ∧ wdWA L φ (wdA (wdA (wdA (wdA σ1 12 L (nI (wdE φ L))) 13 L (nI (wdE φ L))) 9 (wdE φ L) 12) 10 (wdE φ L) (nI L)) := by
  obtain ⟨h1, h2, h3, h4, h5, h6, h7, h8⟩ := h
  have g : ∀ j, j ≤ L → j < L ∨ j = L := fun j hj => by omega
  refine ⟨h1, fun k hk => ?_, fun j hj => ?_, fun j hj => ?_, fun j hj => ?_, fun j hj => ?_, fun j hj e => ?_, fun j hj => ?_, ?_⟩
  · have hk9 : ¬ k = 9 := fun e => hk (by simp [e])
    have hk10 : ¬ k = 10 := fun e => hk (by simp [e])
    have hk12 : ¬ k = 12 := fun e => hk (by simp [e])
    have hk13 : ¬ k = 13 := fun e => hk (by simp [e])
    rw [wd2_n _ _ _ hk10, wd2_n _ _ _ hk9, wd2_n _ _ _ hk13, wd2_n _ _ _ hk12]
    exact h2 k (by simp [hk9, hk10, hk12, hk13])
  · show upd (σ1.2 12) L _ j = _
    rcases g j hj with e | e
    · rw [upd_n _ _ (by omega)]; exact h3 j e
    · rw [e, upd_s]
  · show upd (σ1.2 13) L _ j = _
    rw [upd_n _ _ (by omega)]; exact h4 j hj
  · show upd (σ1.2 10) _ _ _ = _
    rcases g j hj with e | e
    · rw [upd_n _ _ (Nat.ne_of_lt (wdE_lt0 e))]; exact h5 j e
    · rw [e, upd_s]
  · show upd (σ1.2 10) _ _ _ = _
    rw [upd_n _ _ (Nat.ne_of_lt (wdE_lt hj))]; exact h6 j hj
  · show upd (σ1.2 9) _ _ _ = _
    rw [upd_n _ _ (Nat.ne_of_lt (wdE_lt0 hj))]; exact h7 j hj e
  · show upd (σ1.2 9) _ _ _ = σ1.2 1 j
    rw [upd_n _ _ (Nat.ne_of_lt (wdE_lt hj)), h8 j hj, h2 1 (by decide)]
  · show upd (σ1.2 9) _ _ _ = _
    rw [upd_s]
theorem wdWA_leads {L : Nat} {φ : Nat → Nat} {σ : wdSt} (i : Nat) (v : Int32) (h : wdWA L φ σ) : wdWA L φ (wdA σ 11 i v) := h
theorem wdWL_0 (L : Nat) (φ : Nat → Nat) (σ : wdSt) : wdWL 0 L φ σ := fun j h => absurd h (Nat.not_lt_zero j)
theorem wdWL_s {i L : Nat} {φ : Nat → Nat} {σ : wdSt} {v : Int32} (h : wdWL i L φ σ) (h1 : ∀ g, g < L → σ.2 3 i = nI g → v = nI (wdE φ g)) (h2 : (∀ g, g < L → σ.2 3 i ≠ nI g) → v = -1) : wdWL (i + 1) L φ (wdA σ 11 (wdE φ i + φ i) v) := by
  intro j hj
  show (∀ g, g < L → σ.2 3 j = nI g → upd (σ.2 11) _ _ _ = nI (wdE φ g)) ∧ ((∀ g, g < L → σ.2 3 j ≠ nI g) → upd (σ.2 11) _ _ _ = -1)
  by_cases e : j = i
  · subst e
    rw [upd_s]
    exact ⟨h1, h2⟩
  · have e2 : j < i := by omega
    have e3 := wdE_lt (φ := φ) e2
    rw [upd_n _ _ (by omega)]
    exact h j e2
theorem wdFl_1 {σ σ1 : wdSt} {i : Nat} (h : ∀ k, k ∉ [9, 10, 12, 13] → σ1.2 k = σ.2 k) (h5 : ¬ σ1.2 5 i = 0) : wdFl σ i = 1 := by
  rw [h 5 (by decide)] at h5
  exact if_neg (fun q => h5 q.1)
theorem wdFl_2 {σ σ1 : wdSt} {i : Nat} (h : ∀ k, k ∉ [9, 10, 12, 13] → σ1.2 k = σ.2 k) (h7 : ¬ σ1.2 7 i = 0) : wdFl σ i = 1 := by
  rw [h 7 (by decide)] at h7
  exact if_neg (fun q => h7 q.2)
theorem wdFl_0 {σ σ1 : wdSt} {i : Nat} (h : ∀ k, k ∉ [9, 10, 12, 13] → σ1.2 k = σ.2 k) (h5 : σ1.2 5 i = 0) (h7 : σ1.2 7 i = 0) : wdFl σ i = 0 := by
  rw [h 5 (by decide)] at h5
  rw [h 7 (by decide)] at h7
  exact if_pos ⟨h5, h7⟩
theorem wdE_s0 {φ : Nat → Nat} {i : Nat} (h : φ i = 0) : wdE φ (i + 1) = wdE φ i + 1 := by show wdE φ i + φ i + 1 = _; rw [h]
theorem wdE_s1 {φ : Nat → Nat} {i : Nat} (h : φ i = 1) : wdE φ (i + 1) = wdE φ i + 1 + 1 := by show wdE φ i + φ i + 1 = _; rw [h]
end
section
/-! weave and reweave: written by gen/gen_weave.py -/
set_option maxHeartbeats 4000000 in
set_option maxRecDepth 100000 in
theorem xl_weave1 {p : Program} {l : Launch} {e : Env} {R : Room} {s : State} {m : MethodId} {args : Array Value} {below : List Frame} {meth : Method} {c : Code} {cells slots : Nat} {Q : State → Prop} {D : va_G} {q : Nat → Nat} {cI cZ : ClassId} {A : Nat → Prop} {σ : wdSt} (L : Nat) (hL : σ.1 0 = nI L) (hL2 : L ≤ 20) (S : CallFix p m c cX0_weave 4 s args lw_all RX0)
    (kk : ∀ (σ1 : wdSt) (H : Heap) (locs : List Loc) (ls : Array Slot), wdV L (wdFl σ) σ σ1 → x_J D q cI cZ A σ1 s H locs → lv_has ls 4 [(0, .ref (q 0)), (1, .int (nI (wdE (wdFl σ) L))), (2, .int (nI L))] → W p l e R s m args below meth c H locs cells slots Q (F0 m 90 ls [])) : ∀ (n i : Nat) (σ1 : wdSt), i + n = L → wdV i (wdFl σ) σ σ1 → ∀ (H : Heap) (locs : List Loc) (ls : Array Slot), x_J D q cI cZ A σ1 s H locs → lv_has ls 4 [(0, .ref (q 0)), (1, .int (nI (wdE (wdFl σ) i))), (2, .int (nI i))] → W p l e R s m args below meth c H locs cells slots Q (F0 m 4 ls []) := by
  have hx := S.1
  have hb := S.2.1
  intro n
  induction n with
  | zero =>
    intro i σ1 hi hV H locs ls J hl
    obtain rfl : i = L := by omega
    have hL3 : σ1.1 0 = nI i := by rw [hV.1]; exact hL
    refine lv_iload_n hx hb dX0_weave_4 rfl (lv_at hl 2 rfl) ?_
    refine lv_aload_n hx hb dX0_weave_5 rfl (lv_at hl 0 rfl) ?_
    refine x_g0 (v := nI i) S J hL3 dX0_weave_6 ?_
    refine lv_icmp_ge (tgt := 90) hx hb dX0_weave_9 (by decide) (fun c_9 => ?_) (fun c_9 => absurd (show nI i ≤ nI i from nI_le (Nat.le_refl _) (by omega)) c_9)
    exact kk σ1 H locs ls hV J hl
  | succ n ih =>
    intro i σ1 hi hV H locs ls J hl
    have hL3 : σ1.1 0 = nI L := by rw [hV.1]; exact hL
    have hE := wdE_le (wdFl_le σ) i
    refine lv_iload_n hx hb dX0_weave_4 rfl (lv_at hl 2 rfl) ?_
    refine lv_aload_n hx hb dX0_weave_5 rfl (lv_at hl 0 rfl) ?_
    refine x_g0 (v := nI L) S J hL3 dX0_weave_6 ?_
    refine lv_icmp_ge (tgt := 90) hx hb dX0_weave_9 (by decide) (fun c_9 => ?_) (fun c_9 => ?_)
    · exact absurd c_9 (fun h => nI_ge (show i < L by omega) (by omega) h)
    refine lv_aload_n hx hb dX0_weave_12 rfl (lv_at hl 0 rfl) ?_
    refine x_r12 S J dX0_weave_13 ?_
    refine lv_iload_n hx hb dX0_weave_16 rfl (lv_at hl 2 rfl) ?_
    refine lv_iload_n hx hb dX0_weave_17 rfl (lv_at hl 1 rfl) ?_
    refine x_s12 S J i (by omega) dX0_weave_18 (fun H locs J => ?_)
    refine lv_aload_n hx hb dX0_weave_19 rfl (lv_at hl 0 rfl) ?_
    refine x_r5 S J dX0_weave_20 ?_
    refine lv_iload_n hx hb dX0_weave_23 rfl (lv_at hl 2 rfl) ?_
    refine x_l5 (v := σ1.2 5 i) S J i (by omega) rfl dX0_weave_24 ?_
    refine lv_if_ne (tgt := 37) hx hb dX0_weave_25 (by decide) (fun c_25 => ?_) (fun c_25 => ?_)
    · refine lv_aload_n hx hb dX0_weave_37 rfl (lv_at hl 0 rfl) ?_
      refine x_r9 S J dX0_weave_38 ?_
      refine lv_iload_n hx hb dX0_weave_41 rfl (lv_at hl 1 rfl) ?_
      refine lv_bipush (v := 11) hx hb dX0_weave_42 cb_11 ?_
      refine x_s9 S J (wdE (wdFl σ) i) (by omega) dX0_weave_44 (fun H locs J => ?_)
      refine lv_aload_n hx hb dX0_weave_45 rfl (lv_at hl 0 rfl) ?_
      refine x_r10 S J dX0_weave_46 ?_
      refine lv_iload_n hx hb dX0_weave_49 rfl (lv_at hl 1 rfl) ?_
      refine lv_iload_n hx hb dX0_weave_50 rfl (lv_at hl 2 rfl) ?_
      refine x_s10 S J (wdE (wdFl σ) i) (by omega) dX0_weave_51 (fun H locs J => ?_)
      refine lv_iinc (v := nI (wdE (wdFl σ) i + 1)) (lv' := [(1, .int (nI (wdE (wdFl σ) i + 1))), (0, .ref (q 0)), (2, .int (nI i))]) hx hb dX0_weave_52 hl (k := 1) rfl (wd_inc _) (by decide) rfl (fun ls hl => ?_)
      refine lv_aload_n hx hb dX0_weave_55 rfl (lv_at hl 1 rfl) ?_
      refine x_r13 S J dX0_weave_56 ?_
      refine lv_iload_n hx hb dX0_weave_59 rfl (lv_at hl 2 rfl) ?_
      refine lv_iload_n hx hb dX0_weave_60 rfl (lv_at hl 0 rfl) ?_
      refine x_s13 S J i (by omega) dX0_weave_61 (fun H locs J => ?_)
      refine lv_aload_n hx hb dX0_weave_62 rfl (lv_at hl 1 rfl) ?_
      refine x_r9 S J dX0_weave_63 ?_
      refine lv_iload_n hx hb dX0_weave_66 rfl (lv_at hl 0 rfl) ?_
      refine lv_aload_n hx hb dX0_weave_67 rfl (lv_at hl 1 rfl) ?_
      refine x_r1 S J dX0_weave_68 ?_
      refine lv_iload_n hx hb dX0_weave_71 rfl (lv_at hl 2 rfl) ?_
      refine x_l1 (v := σ1.2 1 i) S J i (by omega) rfl dX0_weave_72 ?_
      refine x_s9 S J (wdE (wdFl σ) i + 1) (by omega) dX0_weave_73 (fun H locs J => ?_)
      refine lv_aload_n hx hb dX0_weave_74 rfl (lv_at hl 1 rfl) ?_
      refine x_r10 S J dX0_weave_75 ?_
      refine lv_iload_n hx hb dX0_weave_78 rfl (lv_at hl 0 rfl) ?_
      refine lv_iload_n hx hb dX0_weave_79 rfl (lv_at hl 2 rfl) ?_
      refine x_s10 S J (wdE (wdFl σ) i + 1) (by omega) dX0_weave_80 (fun H locs J => ?_)
      refine lv_iinc (v := nI (wdE (wdFl σ) i + 1 + 1)) (lv' := [(1, .int (nI (wdE (wdFl σ) i + 1 + 1))), (0, .ref (q 0)), (2, .int (nI i))]) hx hb dX0_weave_81 hl (k := 0) rfl (wd_inc _) (by decide) rfl (fun ls hl => ?_)
      refine lv_iinc (v := nI (i + 1)) (lv' := [(2, .int (nI (i + 1))), (1, .int (nI (wdE (wdFl σ) i + 1 + 1))), (0, .ref (q 0))]) hx hb dX0_weave_84 hl (k := 2) rfl (wd_inc _) (by decide) rfl (fun ls hl => ?_)
      refine lv_goto (tgt := 4) hx hb dX0_weave_87 (by decide) ?_
      have hf : wdFl σ i = 1 := wdFl_1 hV.2.1 c_25
      exact ih (i + 1) _ (by omega) (wdV_s1 hV hf) H locs ls J (lv_sub hl [2, 1, 0] (by rw [wdE_s1 hf]; rfl))
    · refine lv_aload_n hx hb dX0_weave_28 rfl (lv_at hl 0 rfl) ?_
      refine x_r7 S J dX0_weave_29 ?_
      refine lv_iload_n hx hb dX0_weave_32 rfl (lv_at hl 2 rfl) ?_
      refine x_l7 (v := σ1.2 7 i) S J i (by omega) rfl dX0_weave_33 ?_
      refine lv_if_eq (tgt := 55) hx hb dX0_weave_34 (by decide) (fun c_34 => ?_) (fun c_34 => ?_)
      · refine lv_aload_n hx hb dX0_weave_55 rfl (lv_at hl 0 rfl) ?_
        refine x_r13 S J dX0_weave_56 ?_
        refine lv_iload_n hx hb dX0_weave_59 rfl (lv_at hl 2 rfl) ?_
        refine lv_iload_n hx hb dX0_weave_60 rfl (lv_at hl 1 rfl) ?_
        refine x_s13 S J i (by omega) dX0_weave_61 (fun H locs J => ?_)
        refine lv_aload_n hx hb dX0_weave_62 rfl (lv_at hl 0 rfl) ?_
        refine x_r9 S J dX0_weave_63 ?_
        refine lv_iload_n hx hb dX0_weave_66 rfl (lv_at hl 1 rfl) ?_
        refine lv_aload_n hx hb dX0_weave_67 rfl (lv_at hl 0 rfl) ?_
        refine x_r1 S J dX0_weave_68 ?_
        refine lv_iload_n hx hb dX0_weave_71 rfl (lv_at hl 2 rfl) ?_
        refine x_l1 (v := σ1.2 1 i) S J i (by omega) rfl dX0_weave_72 ?_
        refine x_s9 S J (wdE (wdFl σ) i) (by omega) dX0_weave_73 (fun H locs J => ?_)
        refine lv_aload_n hx hb dX0_weave_74 rfl (lv_at hl 0 rfl) ?_
        refine x_r10 S J dX0_weave_75 ?_
        refine lv_iload_n hx hb dX0_weave_78 rfl (lv_at hl 1 rfl) ?_
        refine lv_iload_n hx hb dX0_weave_79 rfl (lv_at hl 2 rfl) ?_
        refine x_s10 S J (wdE (wdFl σ) i) (by omega) dX0_weave_80 (fun H locs J => ?_)
        refine lv_iinc (v := nI (wdE (wdFl σ) i + 1)) (lv' := [(1, .int (nI (wdE (wdFl σ) i + 1))), (0, .ref (q 0)), (2, .int (nI i))]) hx hb dX0_weave_81 hl (k := 1) rfl (wd_inc _) (by decide) rfl (fun ls hl => ?_)
        refine lv_iinc (v := nI (i + 1)) (lv' := [(2, .int (nI (i + 1))), (1, .int (nI (wdE (wdFl σ) i + 1))), (0, .ref (q 0))]) hx hb dX0_weave_84 hl (k := 2) rfl (wd_inc _) (by decide) rfl (fun ls hl => ?_)
        refine lv_goto (tgt := 4) hx hb dX0_weave_87 (by decide) ?_
        have hf : wdFl σ i = 0 := wdFl_0 hV.2.1 c_25 c_34
        exact ih (i + 1) _ (by omega) (wdV_s0 hV hf) H locs ls J (lv_sub hl [2, 1, 0] (by rw [wdE_s0 hf]; rfl))
      · refine lv_aload_n hx hb dX0_weave_37 rfl (lv_at hl 0 rfl) ?_
        refine x_r9 S J dX0_weave_38 ?_
        refine lv_iload_n hx hb dX0_weave_41 rfl (lv_at hl 1 rfl) ?_
        refine lv_bipush (v := 11) hx hb dX0_weave_42 cb_11 ?_
        refine x_s9 S J (wdE (wdFl σ) i) (by omega) dX0_weave_44 (fun H locs J => ?_)
        refine lv_aload_n hx hb dX0_weave_45 rfl (lv_at hl 0 rfl) ?_
        refine x_r10 S J dX0_weave_46 ?_
        refine lv_iload_n hx hb dX0_weave_49 rfl (lv_at hl 1 rfl) ?_
        refine lv_iload_n hx hb dX0_weave_50 rfl (lv_at hl 2 rfl) ?_
        refine x_s10 S J (wdE (wdFl σ) i) (by omega) dX0_weave_51 (fun H locs J => ?_)
        refine lv_iinc (v := nI (wdE (wdFl σ) i + 1)) (lv' := [(1, .int (nI (wdE (wdFl σ) i + 1))), (0, .ref (q 0)), (2, .int (nI i))]) hx hb dX0_weave_52 hl (k := 1) rfl (wd_inc _) (by decide) rfl (fun ls hl => ?_)
        refine lv_aload_n hx hb dX0_weave_55 rfl (lv_at hl 1 rfl) ?_
        refine x_r13 S J dX0_weave_56 ?_
        refine lv_iload_n hx hb dX0_weave_59 rfl (lv_at hl 2 rfl) ?_
        refine lv_iload_n hx hb dX0_weave_60 rfl (lv_at hl 0 rfl) ?_
        refine x_s13 S J i (by omega) dX0_weave_61 (fun H locs J => ?_)
        refine lv_aload_n hx hb dX0_weave_62 rfl (lv_at hl 1 rfl) ?_
        refine x_r9 S J dX0_weave_63 ?_
        refine lv_iload_n hx hb dX0_weave_66 rfl (lv_at hl 0 rfl) ?_
        refine lv_aload_n hx hb dX0_weave_67 rfl (lv_at hl 1 rfl) ?_
        refine x_r1 S J dX0_weave_68 ?_
        refine lv_iload_n hx hb dX0_weave_71 rfl (lv_at hl 2 rfl) ?_
        refine x_l1 (v := σ1.2 1 i) S J i (by omega) rfl dX0_weave_72 ?_
        refine x_s9 S J (wdE (wdFl σ) i + 1) (by omega) dX0_weave_73 (fun H locs J => ?_)
        refine lv_aload_n hx hb dX0_weave_74 rfl (lv_at hl 1 rfl) ?_
        refine x_r10 S J dX0_weave_75 ?_
        refine lv_iload_n hx hb dX0_weave_78 rfl (lv_at hl 0 rfl) ?_
        refine lv_iload_n hx hb dX0_weave_79 rfl (lv_at hl 2 rfl) ?_
        refine x_s10 S J (wdE (wdFl σ) i + 1) (by omega) dX0_weave_80 (fun H locs J => ?_)
        refine lv_iinc (v := nI (wdE (wdFl σ) i + 1 + 1)) (lv' := [(1, .int (nI (wdE (wdFl σ) i + 1 + 1))), (0, .ref (q 0)), (2, .int (nI i))]) hx hb dX0_weave_81 hl (k := 0) rfl (wd_inc _) (by decide) rfl (fun ls hl => ?_)
        refine lv_iinc (v := nI (i + 1)) (lv' := [(2, .int (nI (i + 1))), (1, .int (nI (wdE (wdFl σ) i + 1 + 1))), (0, .ref (q 0))]) hx hb dX0_weave_84 hl (k := 2) rfl (wd_inc _) (by decide) rfl (fun ls hl => ?_)
        refine lv_goto (tgt := 4) hx hb dX0_weave_87 (by decide) ?_
        have hf : wdFl σ i = 1 := wdFl_2 hV.2.1 c_34
        exact ih (i + 1) _ (by omega) (wdV_s1 hV hf) H locs ls J (lv_sub hl [2, 1, 0] (by rw [wdE_s1 hf]; rfl))
set_option maxHeartbeats 4000000 in
set_option maxRecDepth 100000 in
theorem xl_weave2 {p : Program} {l : Launch} {e : Env} {R : Room} {s : State} {m : MethodId} {args : Array Value} {below : List Frame} {meth : Method} {c : Code} {cells slots : Nat} {Q : State → Prop} {D : va_G} {q : Nat → Nat} {cI cZ : ClassId} {A : Nat → Prop} {σ : wdSt} (L : Nat) (φ : Nat → Nat) (hφ : ∀ i, φ i ≤ 1) (hL : σ.1 0 = nI L) (hL2 : L ≤ 20) (S : CallFix p m c cX0_weave 4 s args lw_all RX0) (hR : 0 + 1 ≤ R.frames ∧ 8 + (2 + 11) + 0 ≤ R.locals) (hcs : cells ≤ R.cells ∧ slots ≤ R.slots)
    (kk : ∀ (σ1 : wdSt) (H : Heap) (locs : List Loc) (ls : Array Slot), (σ1.1 = σ.1 ∧ (∀ k, k ∉ [9, 10, 11, 12, 13] → σ1.2 k = σ.2 k) ∧ wdWA L φ σ1 ∧ wdWL L L φ σ1) → x_J D q cI cZ A σ1 s H locs → W p l e R s m args below meth c H locs cells slots Q (F0 m 185 ls [])) : ∀ (n i : Nat) (σ1 : wdSt), i + n = L → (σ1.1 = σ.1 ∧ (∀ k, k ∉ [9, 10, 11, 12, 13] → σ1.2 k = σ.2 k) ∧ wdWA L φ σ1 ∧ wdWL i L φ σ1) → ∀ (H : Heap) (locs : List Loc) (ls : Array Slot), x_J D q cI cZ A σ1 s H locs → lv_has ls 4 [(0, .ref (q 0)), (2, .int (nI i))] → W p l e R s m args below meth c H locs cells slots Q (F0 m 130 ls []) := by
  have hx := S.1
  have hb := S.2.1
  intro n
  induction n with
  | zero =>
    intro i σ1 hi hV H locs ls J hl
    obtain rfl : i = L := by omega
    have hL3 : σ1.1 0 = nI i := by rw [hV.1]; exact hL
    refine lv_iload_n hx hb dX0_weave_130 rfl (lv_at hl 1 rfl) ?_
    refine lv_aload_n hx hb dX0_weave_131 rfl (lv_at hl 0 rfl) ?_
    refine x_g0 (v := nI i) S J hL3 dX0_weave_132 ?_
    refine lv_icmp_ge (tgt := 185) hx hb dX0_weave_135 (by decide) (fun c_135 => ?_) (fun c_135 => absurd (show nI i ≤ nI i from nI_le (Nat.le_refl _) (by omega)) c_135)
    exact kk σ1 H locs ls hV J
  | succ n ih =>
    intro i σ1 hi hV H locs ls J hl
    have hL3 : σ1.1 0 = nI L := by rw [hV.1]; exact hL
    have hE := wdE_le hφ i
    have hf := hφ i
    obtain ⟨hV1, hV2, hVA, hVL⟩ := id hV
    refine lv_iload_n hx hb dX0_weave_130 rfl (lv_at hl 1 rfl) ?_
    refine lv_aload_n hx hb dX0_weave_131 rfl (lv_at hl 0 rfl) ?_
    refine x_g0 (v := nI L) S J hL3 dX0_weave_132 ?_
    refine lv_icmp_ge (tgt := 185) hx hb dX0_weave_135 (by decide) (fun c_135 => ?_) (fun c_135 => ?_)
    · exact absurd c_135 (fun h => nI_ge (show i < L by omega) (by omega) h)
    refine lv_aload_n hx hb dX0_weave_138 rfl (lv_at hl 0 rfl) ?_
    refine lv_aload_n hx hb dX0_weave_139 rfl (lv_at hl 0 rfl) ?_
    refine x_r3 S J dX0_weave_140 ?_
    refine lv_iload_n hx hb dX0_weave_143 rfl (lv_at hl 1 rfl) ?_
    refine x_l3 (v := σ1.2 3 i) S J i (by omega) rfl dX0_weave_144 ?_
    refine x_ci S J (xc_noInstruction l D q cI cZ _ (σ1) L hL3 hL2 (σ1.2 3 i)) (xk_noInstruction S.2.2.2.2 hR) rfl hl.1 rfl (Nat.le_of_ble_eq_true rfl) dX0_weave_145 hcs (fun r_s1 s1 H locs w_s1 J => ?_)
    obtain ⟨e_s1, w_s1⟩ := w_s1
    rw [e_s1] at J
    refine lv_istore_n (lv' := [(3, .int r_s1), (0, .ref (q 0)), (2, .int (nI i))]) hx hb dX0_weave_148 rfl hl (by decide) rfl (fun ls hl => ?_)
    refine lv_aload_n hx hb dX0_weave_149 rfl (lv_at hl 1 rfl) ?_
    refine x_r11 S J dX0_weave_150 ?_
    refine lv_aload_n hx hb dX0_weave_153 rfl (lv_at hl 1 rfl) ?_
    refine x_r13 S J dX0_weave_154 ?_
    refine lv_iload_n hx hb dX0_weave_157 rfl (lv_at hl 2 rfl) ?_
    refine x_l13 (v := nI (wdE φ i + φ i)) S J i (by omega) (hVA.2.1 i (by omega)) dX0_weave_158 ?_
    refine lv_iload_n hx hb dX0_weave_159 rfl (lv_at hl 0 rfl) ?_
    refine lv_if_eq (tgt := 167) hx hb dX0_weave_160 (by decide) (fun c_160 => ?_) (fun c_160 => ?_)
    · obtain ⟨j, hj, ej⟩ := wdNI_z w_s1 c_160
      refine lv_aload_n hx hb dX0_weave_167 rfl (lv_at hl 1 rfl) ?_
      refine x_r12 S J dX0_weave_168 ?_
      refine lv_aload_n hx hb dX0_weave_171 rfl (lv_at hl 1 rfl) ?_
      refine x_r3 S J dX0_weave_172 ?_
      refine lv_iload_n hx hb dX0_weave_175 rfl (lv_at hl 2 rfl) ?_
      refine x_l3 (v := nI j) S J i (by omega) ej dX0_weave_176 ?_
      refine x_l12 (v := nI (wdE φ j)) S J j (by omega) (hVA.1 j (by omega)) dX0_weave_177 ?_
      refine x_s11 S J (wdE φ i + φ i) (by omega) dX0_weave_178 (fun H locs J => ?_)
      refine lv_iinc (v := nI (i + 1)) (lv' := [(2, .int (nI (i + 1))), (3, .int r_s1), (0, .ref (q 0))]) hx hb dX0_weave_179 hl (k := 2) rfl (wd_inc _) (by decide) rfl (fun ls hl => ?_)
      refine lv_goto (tgt := 130) hx hb dX0_weave_182 (by decide) ?_
      exact ih (i + 1) (wdA σ1 11 (wdE φ i + φ i) (nI (wdE φ j))) (by omega) ⟨hV1, fun k hk => (wd2_n _ _ _ (fun e => hk (by simp [e]))).trans (hV2 k hk), hVA, wdWL_s hVL (fun g hg e => by rw [ej] at e; rw [(nI_eq (by omega) (by omega)).mp e]) (fun h => absurd ej (h j hj))⟩ H locs ls J (lv_sub hl [2, 0] rfl)
    · refine lv_iconst (v := -1) hx hb dX0_weave_163 ci_m1 ?_
      refine lv_goto (tgt := 178) hx hb dX0_weave_164 (by decide) ?_
      refine x_s11 S J (wdE φ i + φ i) (by omega) dX0_weave_178 (fun H locs J => ?_)
      refine lv_iinc (v := nI (i + 1)) (lv' := [(2, .int (nI (i + 1))), (3, .int r_s1), (0, .ref (q 0))]) hx hb dX0_weave_179 hl (k := 2) rfl (wd_inc _) (by decide) rfl (fun ls hl => ?_)
      refine lv_goto (tgt := 130) hx hb dX0_weave_182 (by decide) ?_
      exact ih (i + 1) (wdA σ1 11 (wdE φ i + φ i) (-1)) (by omega) ⟨hV1, fun k hk => (wd2_n _ _ _ (fun e => hk (by simp [e]))).trans (hV2 k hk), hVA, wdWL_s hVL (fun g hg e => absurd e ((wdNI_1 w_s1 c_160).2 g hg)) (fun _ => rfl)⟩ H locs ls J (lv_sub hl [2, 0] rfl)
set_option maxHeartbeats 4000000 in
set_option maxRecDepth 100000 in
theorem xc_weave (l : Launch) (D : va_G) (q : Nat → Nat) (cI cZ : ClassId) (sz : Nat) (σ : wdSt) (L : Nat) (hL : σ.1 0 = nI L) (hL2 : L ≤ 20) : x_MV l yX0_weave cX0_weave 4 1 21 D q cI cZ sz σ [] (fun σ' => σ'.1 = σ.1 ∧ (∀ k, k ∉ [9, 10, 11, 12, 13] → σ'.2 k = σ.2 k) ∧ wdWv L (wdFl σ) σ') := by
  refine x_open (by decide) rfl (Nat.le_of_ble_eq_true rfl) ?_
  intro p e s m below meth c S hr hlk J ls hl
  have hx := S.1
  have hb := S.2.1
  have hl : lv_has ls 4 [(0, .ref (q 0))] := hl
  generalize s.heap = H at J ⊢
  generalize ([] : List Loc) = locs at J ⊢
  refine lv_iconst (v := 0) hx hb dX0_weave_0 ci_0 ?_
  refine lv_istore_n (lv' := [(1, .int 0), (0, .ref (q 0))]) hx hb dX0_weave_1 rfl hl (by decide) rfl (fun ls hl => ?_)
  refine lv_iconst (v := 0) hx hb dX0_weave_2 ci_0 ?_
  refine lv_istore_n (lv' := [(2, .int 0), (1, .int 0), (0, .ref (q 0))]) hx hb dX0_weave_3 rfl hl (by decide) rfl (fun ls hl => ?_)
  refine xl_weave1 L hL hL2 S (fun σ1 H locs ls hV J hl => ?_) L 0 σ (by omega) (wdV_0 _ _) H locs ls J (lv_sub hl [2, 1, 0] rfl)
  have hL3 : σ1.1 0 = nI L := by rw [hV.1]; exact hL
  have hE := wdE_le (wdFl_le σ) L
  refine lv_aload_n hx hb dX0_weave_90 rfl (lv_at hl 0 rfl) ?_
  refine x_r12 S J dX0_weave_91 ?_
  refine lv_aload_n hx hb dX0_weave_94 rfl (lv_at hl 0 rfl) ?_
  refine x_g0 (v := nI L) S J hL3 dX0_weave_95 ?_
  refine lv_iload_n hx hb dX0_weave_98 rfl (lv_at hl 1 rfl) ?_
  refine x_s12 S J L (by omega) dX0_weave_99 (fun H locs J => ?_)
  refine lv_aload_n hx hb dX0_weave_100 rfl (lv_at hl 0 rfl) ?_
  refine x_r13 S J dX0_weave_101 ?_
  refine lv_aload_n hx hb dX0_weave_104 rfl (lv_at hl 0 rfl) ?_
  refine x_g0 (v := nI L) S J hL3 dX0_weave_105 ?_
  refine lv_iload_n hx hb dX0_weave_108 rfl (lv_at hl 1 rfl) ?_
  refine x_s13 S J L (by omega) dX0_weave_109 (fun H locs J => ?_)
  refine lv_aload_n hx hb dX0_weave_110 rfl (lv_at hl 0 rfl) ?_
  refine x_r9 S J dX0_weave_111 ?_
  refine lv_iload_n hx hb dX0_weave_114 rfl (lv_at hl 1 rfl) ?_
  refine lv_bipush (v := 12) hx hb dX0_weave_115 cb_12 ?_
  refine x_s9 S J (wdE (wdFl σ) L) (by omega) dX0_weave_117 (fun H locs J => ?_)
  refine lv_aload_n hx hb dX0_weave_118 rfl (lv_at hl 0 rfl) ?_
  refine x_r10 S J dX0_weave_119 ?_
  refine lv_iload_n hx hb dX0_weave_122 rfl (lv_at hl 1 rfl) ?_
  refine lv_aload_n hx hb dX0_weave_123 rfl (lv_at hl 0 rfl) ?_
  refine x_g0 (v := nI L) S J hL3 dX0_weave_124 ?_
  refine x_s10 S J (wdE (wdFl σ) L) (by omega) dX0_weave_127 (fun H locs J => ?_)
  refine lv_iconst (v := 0) hx hb dX0_weave_128 ci_0 ?_
  refine lv_istore_n (lv' := [(2, .int 0), (0, .ref (q 0)), (1, .int (nI (wdE (wdFl σ) L)))]) hx hb dX0_weave_129 rfl hl (by decide) rfl (fun ls hl => ?_)
  obtain ⟨hV1, hV2, hVA⟩ := wdV_end hV
  refine xl_weave2 (σ := σ) L (wdFl σ) (wdFl_le σ) hL hL2 S ⟨Nat.le_of_ble_eq_true rfl, Nat.le_of_ble_eq_true rfl⟩ ⟨Nat.zero_le _, Nat.zero_le _⟩ (fun σ2 H locs ls hW J => ?_) L 0 _ (by omega) ⟨hV1, hV2, hVA, wdWL_0 _ _ _⟩ H locs ls J (lv_sub hl [1, 0] rfl)
  exact x_vret S hr hlk J (⟨hW.1, hW.2.1, hW.2.2.1, hW.2.2.2⟩) dX0_weave_185
set_option maxHeartbeats 4000000 in
set_option maxRecDepth 100000 in
theorem xl_rw1 {p : Program} {l : Launch} {e : Env} {R : Room} {s : State} {m : MethodId} {args : Array Value} {below : List Frame} {meth : Method} {c : Code} {cells slots : Nat} {Q : State → Prop} {D : va_G} {q : Nat → Nat} {cI cZ : ClassId} {A : Nat → Prop} {σ : wdSt} (d : Nat) (b G : Nat → Nat) (hd : σ.1 18 = nI d) (hd6 : d ≤ 6) (hb1 : ∀ j, 1 ≤ j → j < d → σ.2 20 j = nI (b j)) (hb2 : ∀ j, 1 ≤ j → j < d → b j < 48) (hb3 : ∀ j, 1 ≤ j → j < d → σ.2 10 (b j) = nI (G j)) (S : CallFix p m c cX0_reweave 2 s args lw_all RX0)
    (kk : ∀ (σ1 : wdSt) (H : Heap) (locs : List Loc) (ls : Array Slot), (σ1.1 = σ.1 ∧ (∀ k, k ≠ 20 → σ1.2 k = σ.2 k) ∧ (∀ j, 1 ≤ j → j < d → σ1.2 20 j = nI (G j)) ∧ ∀ j, d ≤ j → σ1.2 20 j = σ.2 20 j) → x_J D q cI cZ A σ1 s H locs → lv_has ls 2 [(0, .ref (q 0))] → W p l e R s m args below meth c H locs cells slots Q (F0 m 54 ls [])) : ∀ (n i : Nat) (σ1 : wdSt), i + n = d → 1 ≤ i → (σ1.1 = σ.1 ∧ (∀ k, k ≠ 20 → σ1.2 k = σ.2 k) ∧ (∀ j, 1 ≤ j → j < i → σ1.2 20 j = nI (G j)) ∧ ∀ j, i ≤ j → σ1.2 20 j = σ.2 20 j) → ∀ (H : Heap) (locs : List Loc) (ls : Array Slot), x_J D q cI cZ A σ1 s H locs → lv_has ls 2 [(0, .ref (q 0)), (1, .int (nI i))] → W p l e R s m args below meth c H locs cells slots Q (F0 m 23 ls []) := by
  have hx := S.1
  have hb := S.2.1
  intro n
  induction n with
  | zero =>
    intro i σ1 hi h1i hV H locs ls J hl
    obtain rfl : i = d := by omega
    have hd3 : σ1.1 18 = nI i := by rw [hV.1]; exact hd
    refine lv_iload_n hx hb dX0_reweave_23 rfl (lv_at hl 1 rfl) ?_
    refine lv_aload_n hx hb dX0_reweave_24 rfl (lv_at hl 0 rfl) ?_
    refine x_g18 (v := nI i) S J hd3 dX0_reweave_25 ?_
    refine lv_icmp_ge (tgt := 54) hx hb dX0_reweave_28 (by decide) (fun c_28 => ?_) (fun c_28 => absurd (show nI i ≤ nI i from nI_le (Nat.le_refl _) (by omega)) c_28)
    exact kk σ1 H locs ls hV J (lv_sub hl [0] rfl)
  | succ n ih =>
    intro i σ1 hi h1i hV H locs ls J hl
    have hd3 : σ1.1 18 = nI d := by rw [hV.1]; exact hd
    have hid : i < d := by omega
    have e1 : σ1.2 20 i = nI (b i) := (hV.2.2.2 i (Nat.le_refl _)).trans (hb1 i h1i hid)
    have e2 : σ1.2 10 (b i) = nI (G i) := by rw [hV.2.1 10 (by decide)]; exact hb3 i h1i hid
    have e3 := hb2 i h1i hid
    refine lv_iload_n hx hb dX0_reweave_23 rfl (lv_at hl 1 rfl) ?_
    refine lv_aload_n hx hb dX0_reweave_24 rfl (lv_at hl 0 rfl) ?_
    refine x_g18 (v := nI d) S J hd3 dX0_reweave_25 ?_
    refine lv_icmp_ge (tgt := 54) hx hb dX0_reweave_28 (by decide) (fun c_28 => ?_) (fun c_28 => ?_)
    · exact absurd c_28 (fun h => nI_ge hid (by omega) h)
    refine lv_aload_n hx hb dX0_reweave_31 rfl (lv_at hl 0 rfl) ?_
    refine x_r20 S J dX0_reweave_32 ?_
    refine lv_iload_n hx hb dX0_reweave_35 rfl (lv_at hl 1 rfl) ?_
    refine lv_aload_n hx hb dX0_reweave_36 rfl (lv_at hl 0 rfl) ?_
    refine x_r10 S J dX0_reweave_37 ?_
    refine lv_aload_n hx hb dX0_reweave_40 rfl (lv_at hl 0 rfl) ?_
    refine x_r20 S J dX0_reweave_41 ?_
    refine lv_iload_n hx hb dX0_reweave_44 rfl (lv_at hl 1 rfl) ?_
    refine x_l20 (v := nI (b i)) S J i (by omega) e1 dX0_reweave_45 ?_
    refine x_l10 (v := nI (G i)) S J (b i) (by omega) e2 dX0_reweave_46 ?_
    refine x_s20 S J i (by omega) dX0_reweave_47 (fun H locs J => ?_)
    refine lv_iinc (v := nI (i + 1)) (lv' := [(1, .int (nI (i + 1))), (0, .ref (q 0))]) hx hb dX0_reweave_48 hl (k := 1) rfl (wd_inc _) (by decide) rfl (fun ls hl => ?_)
    refine lv_goto (tgt := 23) hx hb dX0_reweave_51 (by decide) ?_
    refine ih (i + 1) (wdA σ1 20 i (nI (G i))) (by omega) (by omega) ⟨hV.1, fun k hk => (wd2_n _ _ _ hk).trans (hV.2.1 k hk), fun j hj1 hj2 => ?_, fun j hj => ?_⟩ H locs ls J (lv_sub hl [1, 0] rfl)
    · rw [wd2_a]
      by_cases e : j = i
      · rw [e, upd_s]
      · rw [upd_n _ _ e]
        exact hV.2.2.1 j hj1 (by omega)
    · rw [wd2_a, upd_n _ _ (by omega)]
      exact hV.2.2.2 j (by omega)
set_option maxHeartbeats 4000000 in
set_option maxRecDepth 100000 in
theorem xl_rw2 {p : Program} {l : Launch} {e : Env} {R : Room} {s : State} {m : MethodId} {args : Array Value} {below : List Frame} {meth : Method} {c : Code} {cells slots : Nat} {Q : State → Prop} {D : va_G} {q : Nat → Nat} {cI cZ : ClassId} {A : Nat → Prop} {σ : wdSt} (d : Nat) (b G : Nat → Nat) (hd : σ.1 18 = nI d) (hd6 : d ≤ 6) (hb1 : ∀ j, 1 ≤ j → j < d → σ.2 20 j = nI (b j)) (hb2 : ∀ j, 1 ≤ j → j < d → b j < 21) (hb3 : ∀ j, 1 ≤ j → j < d → σ.2 12 (b j) = nI (G j)) (S : CallFix p m c cX0_reweave 2 s args lw_all RX0)
    (kk : ∀ (σ1 : wdSt) (H : Heap) (locs : List Loc) (ls : Array Slot), (σ1.1 = σ.1 ∧ (∀ k, k ≠ 20 → σ1.2 k = σ.2 k) ∧ (∀ j, 1 ≤ j → j < d → σ1.2 20 j = nI (G j)) ∧ ∀ j, d ≤ j → σ1.2 20 j = σ.2 20 j) → x_J D q cI cZ A σ1 s H locs → lv_has ls 2 [(0, .ref (q 0))] → W p l e R s m args below meth c H locs cells slots Q (F0 m 104 ls [])) : ∀ (n i : Nat) (σ1 : wdSt), i + n = d → 1 ≤ i → (σ1.1 = σ.1 ∧ (∀ k, k ≠ 20 → σ1.2 k = σ.2 k) ∧ (∀ j, 1 ≤ j → j < i → σ1.2 20 j = nI (G j)) ∧ ∀ j, i ≤ j → σ1.2 20 j = σ.2 20 j) → ∀ (H : Heap) (locs : List Loc) (ls : Array Slot), x_J D q cI cZ A σ1 s H locs → lv_has ls 2 [(0, .ref (q 0)), (1, .int (nI i))] → W p l e R s m args below meth c H locs cells slots Q (F0 m 73 ls []) := by
  have hx := S.1
  have hb := S.2.1
  intro n
  induction n with
  | zero =>
    intro i σ1 hi h1i hV H locs ls J hl
    obtain rfl : i = d := by omega
    have hd3 : σ1.1 18 = nI i := by rw [hV.1]; exact hd
    refine lv_iload_n hx hb dX0_reweave_73 rfl (lv_at hl 1 rfl) ?_
    refine lv_aload_n hx hb dX0_reweave_74 rfl (lv_at hl 0 rfl) ?_
    refine x_g18 (v := nI i) S J hd3 dX0_reweave_75 ?_
    refine lv_icmp_ge (tgt := 104) hx hb dX0_reweave_78 (by decide) (fun c_78 => ?_) (fun c_78 => absurd (show nI i ≤ nI i from nI_le (Nat.le_refl _) (by omega)) c_78)
    exact kk σ1 H locs ls hV J (lv_sub hl [0] rfl)
  | succ n ih =>
    intro i σ1 hi h1i hV H locs ls J hl
    have hd3 : σ1.1 18 = nI d := by rw [hV.1]; exact hd
    have hid : i < d := by omega
    have e1 : σ1.2 20 i = nI (b i) := (hV.2.2.2 i (Nat.le_refl _)).trans (hb1 i h1i hid)
    have e2 : σ1.2 12 (b i) = nI (G i) := by rw [hV.2.1 12 (by decide)]; exact hb3 i h1i hid
    have e3 := hb2 i h1i hid
    refine lv_iload_n hx hb dX0_reweave_73 rfl (lv_at hl 1 rfl) ?_
    refine lv_aload_n hx hb dX0_reweave_74 rfl (lv_at hl 0 rfl) ?_
    refine x_g18 (v := nI d) S J hd3 dX0_reweave_75 ?_
    refine lv_icmp_ge (tgt := 104) hx hb dX0_reweave_78 (by decide) (fun c_78 => ?_) (fun c_78 => ?_)
    · exact absurd c_78 (fun h => nI_ge hid (by omega) h)
    refine lv_aload_n hx hb dX0_reweave_81 rfl (lv_at hl 0 rfl) ?_
    refine x_r20 S J dX0_reweave_82 ?_
    refine lv_iload_n hx hb dX0_reweave_85 rfl (lv_at hl 1 rfl) ?_
    refine lv_aload_n hx hb dX0_reweave_86 rfl (lv_at hl 0 rfl) ?_
    refine x_r12 S J dX0_reweave_87 ?_
    refine lv_aload_n hx hb dX0_reweave_90 rfl (lv_at hl 0 rfl) ?_
    refine x_r20 S J dX0_reweave_91 ?_
    refine lv_iload_n hx hb dX0_reweave_94 rfl (lv_at hl 1 rfl) ?_
    refine x_l20 (v := nI (b i)) S J i (by omega) e1 dX0_reweave_95 ?_
    refine x_l12 (v := nI (G i)) S J (b i) (by omega) e2 dX0_reweave_96 ?_
    refine x_s20 S J i (by omega) dX0_reweave_97 (fun H locs J => ?_)
    refine lv_iinc (v := nI (i + 1)) (lv' := [(1, .int (nI (i + 1))), (0, .ref (q 0))]) hx hb dX0_reweave_98 hl (k := 1) rfl (wd_inc _) (by decide) rfl (fun ls hl => ?_)
    refine lv_goto (tgt := 73) hx hb dX0_reweave_101 (by decide) ?_
    refine ih (i + 1) (wdA σ1 20 i (nI (G i))) (by omega) (by omega) ⟨hV.1, fun k hk => (wd2_n _ _ _ hk).trans (hV.2.1 k hk), fun j hj1 hj2 => ?_, fun j hj => ?_⟩ H locs ls J (lv_sub hl [1, 0] rfl)
    · rw [wd2_a]
      by_cases e : j = i
      · rw [e, upd_s]
      · rw [upd_n _ _ e]
        exact hV.2.2.1 j hj1 (by omega)
    · rw [wd2_a, upd_n _ _ (by omega)]
      exact hV.2.2.2 j (by omega)
theorem rw_fin1 {σ σ1 s2 σ3 : wdSt} {v u : Int32} (h3 : σ3.1 = (wdS s2 15 u).1) (h2 : s2.1 = σ1.1) (h1 : σ1.1 = (wdS σ 15 v).1) : σ3.1 = upd σ.1 15 u := by
  rw [h3]
  show upd s2.1 15 u = _
  rw [h2, h1]
  funext z
  show upd (upd σ.1 15 v) 15 u z = _
  by_cases e : z = 15
  · rw [e, upd_s, upd_s]
  · rw [upd_n _ _ e, upd_n _ _ e, upd_n _ _ e]
theorem wdWv_20 {L : Nat} {φ : Nat → Nat} {σ1 σ2 : wdSt} (h : ∀ k, k ≠ 20 → σ2.2 k = σ1.2 k) (hw : wdWv L φ σ1) : wdWv L φ σ2 := by
  unfold wdWv wdWA wdWL at *
  rw [h 12 (by decide), h 13 (by decide), h 10 (by decide), h 9 (by decide), h 1 (by decide), h 3 (by decide), h 11 (by decide)]
  exact hw
set_option maxHeartbeats 4000000 in
set_option maxRecDepth 100000 in
/-- reweave(): the place g and the return places G move along -/
theorem xc_reweave (l : Launch) (D : va_G) (q : Nat → Nat) (cI cZ : ClassId) (sz : Nat) (σ : wdSt) (L : Nat) (hL : σ.1 0 = nI L) (hL2 : L ≤ 20) (a g d : Nat) (b G : Nat → Nat) (hpre : ¬ σ.1 14 = 0 → σ.1 15 = nI a ∧ a < 48 ∧ σ.2 10 a = nI g ∧ g ≤ L ∧ σ.1 18 = nI d ∧ 1 ≤ d ∧ d ≤ 6 ∧ (∀ j, 1 ≤ j → j < d → σ.2 20 j = nI (b j) ∧ b j < 48 ∧ σ.2 10 (b j) = nI (G j) ∧ G j ≤ L)) : x_MV l yX0_reweave cX0_reweave 2 2 44 D q cI cZ sz σ [] (fun σ' => (σ.1 14 = 0 ∧ σ' = σ) ∨ (¬ σ.1 14 = 0 ∧ σ'.1 = upd σ.1 15 (nI (wdE (wdFl σ) g)) ∧ (∀ k, k ∉ [9, 10, 11, 12, 13, 20] → σ'.2 k = σ.2 k) ∧ wdWv L (wdFl σ) σ' ∧ ∀ j, 1 ≤ j → j < d → σ'.2 20 j = nI (wdE (wdFl σ) (G j)))) := by
  refine x_open (by decide) rfl (Nat.le_of_ble_eq_true rfl) ?_
  intro p e s m below meth c S hr hlk J ls hl
  have hx := S.1
  have hb := S.2.1
  have hl : lv_has ls 2 [(0, .ref (q 0))] := hl
  generalize s.heap = H at J ⊢
  generalize ([] : List Loc) = locs at J ⊢
  refine lv_aload_n hx hb dX0_reweave_0 rfl (lv_at hl 0 rfl) ?_
  refine x_g14 (v := σ.1 14) S J rfl dX0_reweave_1 ?_
  refine lv_if_ne (tgt := 8) hx hb dX0_reweave_4 (by decide) (fun c_4 => ?_) (fun c_4 => ?_)
  · obtain ⟨ha, ha2, hg, hg2, hd, hd1, hd6, hG⟩ := hpre c_4
    refine lv_aload_n hx hb dX0_reweave_8 rfl (lv_at hl 0 rfl) ?_
    refine lv_aload_n hx hb dX0_reweave_9 rfl (lv_at hl 0 rfl) ?_
    refine x_r10 S J dX0_reweave_10 ?_
    refine lv_aload_n hx hb dX0_reweave_13 rfl (lv_at hl 0 rfl) ?_
    refine x_g15 (v := nI a) S J ha dX0_reweave_14 ?_
    refine x_l10 (v := nI g) S J a ha2 hg dX0_reweave_17 ?_
    refine x_p15 S J dX0_reweave_18 (fun H locs J => ?_)
    refine lv_iconst (v := 1) hx hb dX0_reweave_21 ci_1 ?_
    refine lv_istore_n (lv' := [(1, .int 1), (0, .ref (q 0))]) hx hb dX0_reweave_22 rfl hl (by decide) rfl (fun ls hl => ?_)
    refine xl_rw1 (σ := wdS σ 15 (nI g)) d b G hd hd6 (fun j h1 h2 => (hG j h1 h2).1) (fun j h1 h2 => (hG j h1 h2).2.1) (fun j h1 h2 => (hG j h1 h2).2.2.1) S (fun σ1 H locs ls hV J hl => ?_) (d - 1) 1 _ (by omega) (Nat.le_refl _) ⟨rfl, fun _ _ => rfl, fun j h1 h2 => absurd h2 (by omega), fun _ _ => rfl⟩ H locs ls J (lv_sub hl [1, 0] rfl)
    have e14 : σ1.1 0 = nI L := by rw [hV.1]; exact hL
    refine lv_aload_n hx hb dX0_reweave_54 rfl (lv_at hl 0 rfl) ?_
    refine x_cv S J (xc_weave l D q cI cZ _ (σ1) L e14 hL2) (xk_weave S.2.2.2.2 ⟨Nat.le_of_ble_eq_true rfl, Nat.le_of_ble_eq_true rfl⟩) rfl hl.1 rfl (Nat.le_of_ble_eq_true rfl) dX0_reweave_55 ⟨Nat.zero_le _, Nat.zero_le _⟩ (fun s2 H locs w_s2 J => ?_)
    obtain ⟨w1, w2, w3⟩ := w_s2
    have ef : wdFl σ1 = wdFl σ := by funext z; unfold wdFl; rw [hV.2.1 5 (by decide), hV.2.1 7 (by decide)]; rfl
    rw [ef] at w3
    have e15 : s2.1 15 = nI g := by rw [w1, hV.1]; exact wd1_s _ _ _
    have e18 : s2.1 18 = nI d := by rw [w1, hV.1]; exact hd
    refine lv_aload_n hx hb dX0_reweave_58 rfl (lv_at hl 0 rfl) ?_
    refine lv_aload_n hx hb dX0_reweave_59 rfl (lv_at hl 0 rfl) ?_
    refine x_r12 S J dX0_reweave_60 ?_
    refine lv_aload_n hx hb dX0_reweave_63 rfl (lv_at hl 0 rfl) ?_
    refine x_g15 (v := nI g) S J e15 dX0_reweave_64 ?_
    refine x_l12 (v := nI (wdE (wdFl σ) g)) S J g (by omega) (w3.1.1 g hg2) dX0_reweave_67 ?_
    refine x_p15 S J dX0_reweave_68 (fun H locs J => ?_)
    refine lv_iconst (v := 1) hx hb dX0_reweave_71 ci_1 ?_
    refine lv_istore_n (lv' := [(1, .int 1), (0, .ref (q 0))]) hx hb dX0_reweave_72 rfl hl (by decide) rfl (fun ls hl => ?_)
    refine xl_rw2 (σ := wdS s2 15 (nI (wdE (wdFl σ) g))) d G (fun j => wdE (wdFl σ) (G j)) e18 hd6 (fun j h1 h2 => ?_) (fun j h1 h2 => ?_) (fun j h1 h2 => w3.1.1 _ (hG j h1 h2).2.2.2) S (fun σ3 H locs ls hV3 J hl => ?_) (d - 1) 1 _ (by omega) (Nat.le_refl _) ⟨rfl, fun _ _ => rfl, fun j h1 h2 => absurd h2 (by omega), fun _ _ => rfl⟩ H locs ls J (lv_sub hl [1, 0] rfl)
    · show s2.2 20 j = _
      rw [w2 20 (by decide)]
      exact hV.2.2.1 j h1 h2
    · have := (hG j h1 h2).2.2.2
      omega
    exact x_vret S hr hlk J (Or.inr ⟨c_4, rw_fin1 hV3.1 w1 hV.1, fun k hk => (hV3.2.1 k (fun e => hk (by simp [e]))).trans ((w2 k (fun e => hk (by simp at e ⊢; omega))).trans (hV.2.1 k (fun e => hk (by simp [e])))), wdWv_20 (fun k hk => hV3.2.1 k hk) w3, hV3.2.2.1⟩) dX0_reweave_104
  · exact x_vret S hr hlk J (Or.inl ⟨c_4, rfl⟩) dX0_reweave_7
end
section
/-! the debugger against the model: what ties their states -/
/-- the parts that don't concern the place: L instructions, d frames -/
def wdRS (L d : Nat) (σ τ : wdSt) : Prop :=
  (σ.1 0 = nI L ∧ τ.1 3 = nI L ∧ L ≤ 20) ∧ (σ.1 18 = nI d ∧ τ.1 6 = nI d ∧ d ≤ 6) ∧
  (σ.2 1 = τ.2 0 ∧ σ.2 2 = τ.2 1 ∧ σ.2 3 = τ.2 2 ∧ ∀ i, i < L → ∃ o, o ≤ 10 ∧ τ.2 0 i = nI o) ∧
  ((∀ i, i < 20 → (σ.2 5 i = 1 ∧ σ.2 6 i = τ.2 4 i ∧ 0 ≤ τ.2 4 i) ∨ (σ.2 5 i = 0 ∧ τ.2 4 i = -1)) ∧ σ.1 4 = nI (yBr (τ.2 4) 20)) ∧
  σ.2 19 = τ.2 7 ∧
  (σ.1 22 = τ.1 11 ∧ ∀ b, b < 8 → nI b < τ.1 11 → σ.2 23 (wd7 (τ.1 11 - 1 - nI b)) = τ.2 12 b) ∧
  ((∀ f, f + 1 < d → σ.2 21 (f + 1) = τ.2 9 f) ∧ ∀ f, f < 6 → ∃ g, g < 4 ∧ τ.2 9 f = nI g)
/-- the return places -/
def wdGo (L d : Nat) (φ : Nat → Nat) (σ τ : wdSt) : Prop := ∀ f, f + 1 < d → ∃ g, g ≤ L ∧ τ.2 8 f = nI g ∧ σ.2 20 (f + 1) = nI (wdE φ g)
/-- the place, or a lost counter -/
def wdPl (L : Nat) (φ : Nat → Nat) (σ τ : wdSt) : Prop := ∃ g, g ≤ L ∧ (σ.1 15 = nI (wdE φ g) ∨ (g < L ∧ σ.1 15 = nI (wdE φ g + φ g))) ∧ ((σ.1 16 = 0 ∧ τ.1 10 = nI g ∧ g < L) ∨ (σ.1 16 = 1 ∧ τ.1 10 = σ.1 17 ∧ τ.1 5 = 6))
def wdPd (L d : Nat) (φ : Nat → Nat) (σ τ : wdSt) : Prop := 1 ≤ d ∧ wdWv L φ σ ∧ wdGo L d φ σ τ ∧ wdPl L φ σ τ
/-- what the run leaves -/
def wdEnd (L d : Nat) (σ τ : wdSt) : Prop := wdRS L d σ τ ∧ σ.1 14 = τ.1 5 ∧ ¬ τ.1 5 = 0 ∧ wdPd L d (wdFl σ) σ τ
/-- between two calls -/
def wdR (L d : Nat) (σ τ : wdSt) : Prop := wdRS L d σ τ ∧ σ.1 14 = τ.1 5 ∧ (∀ i, i < 20 → σ.2 7 i = 0) ∧ ((τ.1 5 = 0 ∧ d = 0) ∨ (¬ τ.1 5 = 0 ∧ wdPd L d (wdFl σ) σ τ))
/-- within an instruction c of a run, ahead of its step to another place -/
def wdMid (L d c : Nat) (σ τ : wdSt) : Prop := wdRS L d σ τ ∧ 1 ≤ d ∧ c < L ∧ wdWv L (wdFl σ) σ ∧ wdGo L d (wdFl σ) σ τ ∧ σ.1 15 = nI (wdE (wdFl σ) c + wdFl σ c) ∧ σ.1 14 = 1 ∧ σ.1 16 = 0
/-- at the run's head -/
def wdHd (L d c : Nat) (σ τ : wdSt) : Prop := wdMid L d c σ τ ∧ τ.1 10 = nI c
/-- just arrived at instruction g; z: the model's state before -/
def wdArv (L d g : Nat) (z : Int32) (σ τ : wdSt) : Prop := wdRS L d σ τ ∧ 1 ≤ d ∧ g ≤ L ∧ σ.1 15 = nI (wdE (wdFl σ) g) ∧ τ.1 10 = nI g ∧ (g < L → τ.1 5 = z) ∧ (g = L → τ.1 5 = 6) ∧ wdWv L (wdFl σ) σ ∧ wdGo L d (wdFl σ) σ τ ∧ σ.1 14 = 1 ∧ σ.1 16 = 0
/-- stopped within an instruction -/
def wdStop (L d : Nat) (σ τ : wdSt) : Prop := (τ.1 5 = 5 ∨ τ.1 5 = 6) ∧ wdEnd L d σ τ
theorem wdE48 {L g : Nat} {σ : wdSt} (hL : L ≤ 20) (hg : g ≤ L) : wdE (wdFl σ) g ≤ 40 := by
  have := wdE_le (wdFl_le σ) g
  omega
/-- the model goes on at nI g, the debugger at the entry of g -/
theorem wd_arr {L d c g : Nat} {σ τ : wdSt} (h : wdMid L d c σ τ) (hg : g ≤ L) : wdArv L d g (τ.1 5) (wdS σ 15 (nI (wdE (wdFl σ) g))) (yNext L (nI g) τ) := by
  obtain ⟨hRS, hd, hc, hW, hG, ha, h14, h16⟩ := h
  have hL2 : L ≤ 20 := hRS.1.2.2
  by_cases e : g < L
  · rw [yNext, if_neg (wdBad_in hL2 e)]
    exact ⟨hRS, hd, hg, rfl, rfl, fun _ => rfl, fun q => absurd e (by omega), hW, hG, h14, h16⟩
  · have e2 : g = L := by omega
    subst e2
    rw [yNext, if_pos (Or.inr (fun q => nI_nlt (Nat.le_refl g) (by omega) q))]
    exact ⟨hRS, hd, hg, rfl, rfl, fun q => absurd q e, fun _ => rfl, hW, hG, h14, h16⟩
theorem wd_fall {L d c : Nat} {σ τ : wdSt} (h : wdMid L d c σ τ) : wdArv L d (c + 1) (τ.1 5) (wdS σ 15 (nI (wdE (wdFl σ) c + wdFl σ c + 1))) (yNext L (nI (c + 1)) τ) := wd_arr h h.2.2.1
theorem wd_jump {L d c : Nat} {σ τ : wdSt} (h : wdMid L d c σ τ) : (wdStop L d (wdJump (wdE (wdFl σ) c + wdFl σ c) c σ) (yNext L (τ.2 2 c) τ)) ∨ ∃ g, wdArv L d g (τ.1 5) (wdJump (wdE (wdFl σ) c + wdFl σ c) c σ) (yNext L (τ.2 2 c) τ) := by
  obtain ⟨hRS, hd, hc, hW, hG, ha, h14, h16⟩ := id h
  have hL2 : L ≤ 20 := hRS.1.2.2
  have h3 : σ.2 3 = τ.2 2 := hRS.2.2.1.2.2.1
  by_cases hb : τ.2 2 c < 0 ∨ ¬ τ.2 2 c < nI L
  · left
    have hl : σ.2 11 (wdE (wdFl σ) c + wdFl σ c) = -1 := (hW.2 c hc).2 (by rw [h3]; exact wdBad_no hL2 hb)
    rw [wdJump, if_pos (by rw [hl]; decide), yNext, if_pos hb]
    refine ⟨Or.inr rfl, hRS, rfl, (show ¬ (6 : Int32) = 0 by decide), hd, hW, hG, c, Nat.le_of_lt hc, Or.inr ⟨hc, ha⟩, Or.inr ⟨rfl, ?_, rfl⟩⟩
    show τ.2 2 c = σ.2 3 c
    rw [h3]
  · right
    obtain ⟨g, hg, e⟩ := wdBad_ex hL2 hb
    have hl : σ.2 11 (wdE (wdFl σ) c + wdFl σ c) = nI (wdE (wdFl σ) g) := (hW.2 c hc).1 g hg (by rw [h3]; exact e)
    have hE := wdE48 (σ := σ) hL2 (Nat.le_of_lt hg)
    refine ⟨g, ?_⟩
    rw [wdJump, hl, if_neg (nI_pos (by omega)), e]
    exact wd_arr h (Nat.le_of_lt hg)
end
section
/-! one instruction: the debugger's perform against the model's carryOut -/
theorem wdMid_loc {L d c : Nat} {σ τ : wdSt} (x : Nat) (v : Int32) (h : wdMid L d c σ τ) : wdMid L d c (wdA σ 19 x v) (wdA τ 7 x v) := by
  obtain ⟨⟨h1, h2, h3, h4, h5, h6, h7⟩, h⟩ := h
  refine ⟨⟨h1, h2, h3, h4, ?_, h6, h7⟩, h⟩
  show upd (σ.2 19) x v = upd (τ.2 7) x v
  rw [h5]
theorem wd7_sub {w : Int32} {b : Nat} (hb : b < 7) : ¬ wd7 (w - 1 - nI b) = wd7 w := by
  unfold wd7
  rw [Int32.toBitVec_sub, Int32.toBitVec_sub, BitVec.toNat_sub, BitVec.toNat_sub, pk_tn (by omega)]
  have h1 : (1 : Int32).toBitVec.toNat = 1 := by decide
  rw [h1]
  have := w.toBitVec.isLt
  omega
theorem wd_w1 (w : Int32) (b : Nat) : w + 1 - 1 - nI (b + 1) = w - 1 - nI b := by
  have h : nI (b + 1) = nI b + 1 := (nI_1 b).symm
  rw [h]
  grind
theorem wd_w0 (w : Int32) : w + 1 - 1 - nI 0 = w := by
  rw [nI_0]
  grind
theorem wd_wlt {w : Int32} {b : Nat} (hb : b < 7) (h : nI (b + 1) < w + 1) : nI b < w := by
  refine Classical.byContradiction (fun hn => ?_)
  have h1 : w ≤ nI b := Int32.not_lt.mp hn
  rw [Int32.le_iff_toInt_le, nI_toInt (by omega)] at h1
  rw [Int32.lt_iff_toInt_lt, nI_toInt (by omega), Int32.toInt_add] at h
  have e1 : (1 : Int32).toInt = 1 := by decide
  have lo := w.le_toInt
  rw [e1, Int.bmod_eq_of_le (by omega) (by omega)] at h
  omega
theorem wdMid_out {L d c : Nat} {σ τ : wdSt} (v : Int32) (h : wdMid L d c σ τ) : wdMid L d c (wdS (wdA σ 23 (wd7 (σ.1 22)) v) 22 (σ.1 22 + 1)) (yOut v τ) := by
  obtain ⟨⟨h1, h2, h3, h4, h5, ⟨h6, h6'⟩, h7⟩, h⟩ := h
  refine ⟨⟨h1, h2, h3, h4, h5, ⟨?_, ?_⟩, h7⟩, h⟩
  · show σ.1 22 + 1 = τ.1 11 + 1
    rw [h6]
  · intro b hb hlt
    show upd (σ.2 23) (wd7 (σ.1 22)) v (wd7 (τ.1 11 + 1 - 1 - nI b)) = _
    have hlt : nI b < τ.1 11 + 1 := hlt
    rw [h6]
    cases b with
    | zero =>
      rw [wd_w0, upd_s]
      rfl
    | succ b =>
      rw [wd_w1, upd_n _ _ (wd7_sub (by omega)), h6' b (by omega) (wd_wlt (by omega) hlt)]
      rcases (show b = 0 ∨ b = 1 ∨ b = 2 ∨ b = 3 ∨ b = 4 ∨ b = 5 ∨ b = 6 by omega) with rfl | rfl | rfl | rfl | rfl | rfl | rfl <;> rfl
theorem wd_callL (f : Nat → Int32) (d x : Nat) (hd : 1 ≤ d) : upd (upd (upd (upd (upd f (d * 4 + 0) 0) (d * 4 + 1) 0) (d * 4 + 2) 0) (d * 4 + 3) 0) (d * 4) (f x) = upd (upd (upd (upd f ((d - 1) * 4 + 4) (f x)) ((d - 1) * 4 + 5) 0) ((d - 1) * 4 + 6) 0) ((d - 1) * 4 + 7) 0 := by
  have e4 : (d - 1) * 4 + 4 = d * 4 := by omega
  have e5 : (d - 1) * 4 + 5 = d * 4 + 1 := by omega
  have e6 : (d - 1) * 4 + 6 = d * 4 + 2 := by omega
  have e7 : (d - 1) * 4 + 7 = d * 4 + 3 := by omega
  rw [e4, e5, e6, e7]
  funext j
  by_cases h0 : j = d * 4
  · rw [h0, upd_s, upd_n _ _ (by omega), upd_n _ _ (by omega), upd_n _ _ (by omega), upd_s]
  · rw [upd_n _ _ h0]
    by_cases h3 : j = d * 4 + 3
    · rw [h3, upd_s, upd_s]
    · rw [upd_n _ _ h3, upd_n _ _ h3]
      by_cases h2 : j = d * 4 + 2
      · rw [h2, upd_s, upd_s]
      · rw [upd_n _ _ h2, upd_n _ _ h2]
        by_cases h1 : j = d * 4 + 1
        · rw [h1, upd_s, upd_s]
        · rw [upd_n _ _ h1, upd_n _ _ h1, upd_n _ _ (by omega), upd_n _ _ h0]
theorem wdMid_call {L d c : Nat} {σ τ : wdSt} (x : Nat) (h : wdMid L d c σ τ) (hd6 : d < 6) : wdMid L (d + 1) c (wdCall0 (wdE (wdFl σ) c + wdFl σ c) c x d σ) (yCall c d x τ) := by
  obtain ⟨⟨h1, h2, h3, h4, h5, h6, ⟨h7, h8⟩⟩, hd, hc, hW, hG, h⟩ := h
  refine ⟨⟨h1, ⟨rfl, rfl, by omega⟩, h3, h4, ?_, h6, ⟨?_, ?_⟩⟩, by omega, hc, hW, ?_, h⟩
  · show upd (upd (upd (upd (upd (σ.2 19) (d * 4 + 0) 0) (d * 4 + 1) 0) (d * 4 + 2) 0) (d * 4 + 3) 0) (d * 4) (σ.2 19 x) = upd (upd (upd (upd (τ.2 7) ((d - 1) * 4 + 4) (τ.2 7 x)) ((d - 1) * 4 + 5) 0) ((d - 1) * 4 + 6) 0) ((d - 1) * 4 + 7) 0
    rw [h5]
    exact wd_callL _ _ _ hd
  · intro f hf
    show upd (σ.2 21) d (nI (wd3 (σ.2 2 c))) (f + 1) = upd (τ.2 9) (d - 1) (nI (wd3 (τ.2 1 c))) f
    by_cases e : f + 1 = d
    · rw [e, upd_s, show f = d - 1 by omega, upd_s, h3.2.1]
    · rw [upd_n _ _ e, upd_n _ _ (by omega)]
      exact h7 f (by omega)
  · intro f hf
    show ∃ g, g < 4 ∧ upd (τ.2 9) (d - 1) (nI (wd3 (τ.2 1 c))) f = nI g
    by_cases e : f = d - 1
    · rw [e, upd_s]
      exact ⟨_, wd3_lt _, rfl⟩
    · rw [upd_n _ _ e]
      exact h8 f hf
  · intro f hf
    show ∃ g, g ≤ L ∧ upd (τ.2 8) (d - 1) (nI (c + 1)) f = nI g ∧ upd (σ.2 20) d (nI (wdE (wdFl σ) c + wdFl σ c + 1)) (f + 1) = nI (wdE (wdFl σ) g)
    by_cases e : f + 1 = d
    · rw [e, upd_s, show f = d - 1 by omega, upd_s]
      exact ⟨c + 1, hc, rfl, rfl⟩
    · rw [upd_n _ _ e, upd_n _ _ (by omega)]
      exact hG f (by omega)
theorem wdMid_ret {L d c : Nat} {σ τ : wdSt} (t : Nat) (h : wdMid L d c σ τ) (hd2 : 2 ≤ d) : wdMid L (d - 1) c (wdA (wdS σ 18 (nI (d - 1))) 19 ((d - 1 - 1) * 4 + t) (σ.2 19 ((d - 1) * 4))) (yRet d t τ) := by
  obtain ⟨⟨h1, h2, h3, h4, h5, h6, ⟨h7, h8⟩⟩, hd, hc, hW, hG, h⟩ := h
  refine ⟨⟨h1, ⟨rfl, rfl, by have := h2.2.2; omega⟩, h3, h4, ?_, h6, ⟨fun f hf => h7 f (by omega), h8⟩⟩, by omega, hc, hW, fun f hf => hG f (by omega), h⟩
  show upd (σ.2 19) ((d - 1 - 1) * 4 + t) (σ.2 19 ((d - 1) * 4)) = upd (τ.2 7) ((d - 1) * 4 - 4 + t) (τ.2 7 ((d - 1) * 4))
  rw [h5, show (d - 1) * 4 - 4 + t = (d - 1 - 1) * 4 + t by omega]
theorem wd_ne {k j : Nat} {x y : Int32} (hx : x = nI k) (hy : nI j = y) (h : ¬ k = j) (hk : k < 2 ^ 31) (hj : j < 2 ^ 31) : ¬ x = y := by
  rw [hx, ← hy]
  exact fun e => h ((nI_eq hk hj).mp e)
/-- one instruction -/
theorem wd_perf {L d c t k : Nat} {σ τ : wdSt} (h : wdHd L d c σ τ) (hk : τ.2 0 c = nI k) (hk2 : k ≤ 10) (ht : 2 ≤ d → τ.2 9 (d - 1 - 1) = nI t) (ht4 : t < 4) :
    (∃ d', wdStop L d' (xPerf (wdE (wdFl σ) c + wdFl σ c) c d t k σ) (yCarry L c d τ)) ∨ ∃ d' g, wdArv L d' g (τ.1 5) (xPerf (wdE (wdFl σ) c + wdFl σ c) c d t k σ) (yCarry L c d τ) := by
  obtain ⟨hM, hcn⟩ := h
  have hf : σ.2 2 = τ.2 1 := hM.1.2.2.1.2.1
  have hs : σ.2 3 = τ.2 2 := hM.1.2.2.1.2.2.1
  have hl : σ.2 19 = τ.2 7 := hM.1.2.2.2.2.1
  have n0 : ∀ {j : Nat} {y : Int32}, nI j = y → j < 2 ^ 31 → ¬ k = j → ¬ τ.2 0 c = y := fun hy hj hne => wd_ne hk hy hne (by omega) hj
  rcases (show k = 0 ∨ k = 1 ∨ k = 2 ∨ k = 3 ∨ k = 4 ∨ k = 5 ∨ k = 6 ∨ k = 7 ∨ k = 8 ∨ k = 9 ∨ k = 10 by omega) with rfl | rfl | rfl | rfl | rfl | rfl | rfl | rfl | rfl | rfl | rfl
  · right
    rw [xPerf, if_pos (by decide), yCarry, if_pos (show τ.2 0 c = 0 from hk), hf, hs, hl]
    exact ⟨d, c + 1, wd_fall (wdMid_loc _ _ hM)⟩
  · right
    rw [xPerf, if_pos (by decide), yCarry, if_neg (n0 (j := 0) (y := 0) rfl (by decide) (by decide)), if_pos (show τ.2 0 c = 1 from hk), hf, hs, hl]
    exact ⟨d, c + 1, wd_fall (wdMid_loc _ _ hM)⟩
  · right
    rw [xPerf, if_pos (by decide), yCarry, if_neg (n0 (j := 0) (y := 0) rfl (by decide) (by decide)), if_neg (n0 (j := 1) (y := 1) rfl (by decide) (by decide)), if_pos (show τ.2 0 c = 2 from hk), hf, hs, hl]
    exact ⟨d, c + 1, wd_fall (wdMid_loc _ _ hM)⟩
  · right
    rw [xPerf, if_pos (by decide), yCarry, if_neg (n0 (j := 0) (y := 0) rfl (by decide) (by decide)), if_neg (n0 (j := 1) (y := 1) rfl (by decide) (by decide)), if_neg (n0 (j := 2) (y := 2) rfl (by decide) (by decide)), if_pos (show τ.2 0 c = 3 from hk), hf, hs, hl]
    exact ⟨d, c + 1, wd_fall (wdMid_loc _ _ hM)⟩
  · right
    rw [xPerf, if_pos (by decide), yCarry, if_neg (n0 (j := 0) (y := 0) rfl (by decide) (by decide)), if_neg (n0 (j := 1) (y := 1) rfl (by decide) (by decide)), if_neg (n0 (j := 2) (y := 2) rfl (by decide) (by decide)), if_neg (n0 (j := 3) (y := 3) rfl (by decide) (by decide)), if_pos (show τ.2 0 c = 4 from hk), hf, hs, hl]
    exact ⟨d, c + 1, wd_fall (wdMid_loc _ _ hM)⟩
  · rw [xPerf, if_neg (by decide), if_pos rfl, yCarry, if_neg (n0 (j := 0) (y := 0) rfl (by decide) (by decide)), if_neg (n0 (j := 1) (y := 1) rfl (by decide) (by decide)), if_neg (n0 (j := 2) (y := 2) rfl (by decide) (by decide)), if_neg (n0 (j := 3) (y := 3) rfl (by decide) (by decide)), if_neg (n0 (j := 4) (y := 4) rfl (by decide) (by decide)), if_pos (show τ.2 0 c = 5 from hk)]
    rcases wd_jump hM with h | ⟨g, h⟩
    · exact Or.inl ⟨d, h⟩
    · exact Or.inr ⟨d, g, h⟩
  · rw [xPerf, if_neg (by decide), if_neg (by decide), if_pos rfl, yCarry, if_neg (n0 (j := 0) (y := 0) rfl (by decide) (by decide)), if_neg (n0 (j := 1) (y := 1) rfl (by decide) (by decide)), if_neg (n0 (j := 2) (y := 2) rfl (by decide) (by decide)), if_neg (n0 (j := 3) (y := 3) rfl (by decide) (by decide)), if_neg (n0 (j := 4) (y := 4) rfl (by decide) (by decide)), if_neg (n0 (j := 5) (y := 5) rfl (by decide) (by decide)), if_pos (show τ.2 0 c = 6 from hk), hf, hl]
    by_cases hz : τ.2 7 ((d - 1) * 4 + wd3 (τ.2 1 c >>> ((2 : Int32) &&& 31))) ≤ τ.2 7 ((d - 1) * 4 + wd3 (τ.2 1 c))
    · rw [if_pos hz, if_pos hz]
      exact Or.inr ⟨d, c + 1, wd_fall hM⟩
    · rw [if_neg hz, if_neg hz]
      rcases wd_jump hM with h | ⟨g, h⟩
      · exact Or.inl ⟨d, h⟩
      · exact Or.inr ⟨d, g, h⟩
  · rw [xPerf, if_neg (by decide), if_neg (by decide), if_neg (by decide), if_pos rfl, yCarry, if_neg (n0 (j := 0) (y := 0) rfl (by decide) (by decide)), if_neg (n0 (j := 1) (y := 1) rfl (by decide) (by decide)), if_neg (n0 (j := 2) (y := 2) rfl (by decide) (by decide)), if_neg (n0 (j := 3) (y := 3) rfl (by decide) (by decide)), if_neg (n0 (j := 4) (y := 4) rfl (by decide) (by decide)), if_neg (n0 (j := 5) (y := 5) rfl (by decide) (by decide)), if_neg (n0 (j := 6) (y := 6) rfl (by decide) (by decide)), if_pos (show τ.2 0 c = 7 from hk), hf, hl]
    by_cases hz : τ.2 7 ((d - 1) * 4 + wd3 (τ.2 1 c)) = 0
    · rw [if_pos hz, if_pos hz]
      rcases wd_jump hM with h | ⟨g, h⟩
      · exact Or.inl ⟨d, h⟩
      · exact Or.inr ⟨d, g, h⟩
    · rw [if_neg hz, if_neg hz]
      exact Or.inr ⟨d, c + 1, wd_fall hM⟩
  · rw [xPerf, if_neg (by decide), if_neg (by decide), if_neg (by decide), if_neg (by decide), if_pos rfl, yCarry, if_neg (n0 (j := 0) (y := 0) rfl (by decide) (by decide)), if_neg (n0 (j := 1) (y := 1) rfl (by decide) (by decide)), if_neg (n0 (j := 2) (y := 2) rfl (by decide) (by decide)), if_neg (n0 (j := 3) (y := 3) rfl (by decide) (by decide)), if_neg (n0 (j := 4) (y := 4) rfl (by decide) (by decide)), if_neg (n0 (j := 5) (y := 5) rfl (by decide) (by decide)), if_neg (n0 (j := 6) (y := 6) rfl (by decide) (by decide)), if_neg (n0 (j := 7) (y := 7) rfl (by decide) (by decide)), if_pos (show τ.2 0 c = 8 from hk), hf]
    have hd6 : d ≤ 6 := hM.1.2.1.2.2
    by_cases h6 : d = 6
    · rw [if_pos h6, wdCall, if_pos (by omega)]
      obtain ⟨hRS, hd, hc, hW, hG, ha, h14, h16⟩ := hM
      exact Or.inl ⟨d, Or.inr rfl, hRS, rfl, (show ¬ (6 : Int32) = 0 by decide), hd, hW, hG, c, Nat.le_of_lt hc, Or.inr ⟨hc, ha⟩, Or.inl ⟨h16, hcn, hc⟩⟩
    · rw [if_neg h6, wdCall, if_neg (by omega)]
      rcases wd_jump (wdMid_call ((d - 1) * 4 + wd3 (τ.2 1 c)) hM (by omega)) with h | ⟨g, h⟩
      · exact Or.inl ⟨d + 1, h⟩
      · exact Or.inr ⟨d + 1, g, h⟩
  · rw [xPerf, if_neg (by decide), if_neg (by decide), if_neg (by decide), if_neg (by decide), if_neg (by decide), if_pos rfl, yCarry, if_neg (n0 (j := 0) (y := 0) rfl (by decide) (by decide)), if_neg (n0 (j := 1) (y := 1) rfl (by decide) (by decide)), if_neg (n0 (j := 2) (y := 2) rfl (by decide) (by decide)), if_neg (n0 (j := 3) (y := 3) rfl (by decide) (by decide)), if_neg (n0 (j := 4) (y := 4) rfl (by decide) (by decide)), if_neg (n0 (j := 5) (y := 5) rfl (by decide) (by decide)), if_neg (n0 (j := 6) (y := 6) rfl (by decide) (by decide)), if_neg (n0 (j := 7) (y := 7) rfl (by decide) (by decide)), if_neg (n0 (j := 8) (y := 8) rfl (by decide) (by decide)), if_pos (show τ.2 0 c = 9 from hk)]
    by_cases h1 : d = 1
    · rw [if_pos h1, wdGive, if_pos h1]
      obtain ⟨hRS, hd, hc, hW, hG, ha, h14, h16⟩ := hM
      exact Or.inl ⟨d, Or.inl rfl, hRS, rfl, (show ¬ (5 : Int32) = 0 by decide), hd, hW, hG, c, Nat.le_of_lt hc, Or.inr ⟨hc, ha⟩, Or.inl ⟨h16, hcn, hc⟩⟩
    · rw [if_neg h1, wdGive, if_neg h1]
      have hd1 : 1 ≤ d := hM.2.1
      obtain ⟨g, hg, e8, e20⟩ := hM.2.2.2.2.1 (d - 1 - 1) (by omega)
      rw [show d - 1 - 1 + 1 = d - 1 by omega] at e20
      rw [ht (by omega), nI_clamp (by omega), e8, e20]
      exact Or.inr ⟨d - 1, g, wd_arr (wdMid_ret t hM (by omega)) hg⟩
  · rw [xPerf, if_neg (by decide), if_neg (by decide), if_neg (by decide), if_neg (by decide), if_neg (by decide), if_neg (by decide), yCarry, if_neg (n0 (j := 0) (y := 0) rfl (by decide) (by decide)), if_neg (n0 (j := 1) (y := 1) rfl (by decide) (by decide)), if_neg (n0 (j := 2) (y := 2) rfl (by decide) (by decide)), if_neg (n0 (j := 3) (y := 3) rfl (by decide) (by decide)), if_neg (n0 (j := 4) (y := 4) rfl (by decide) (by decide)), if_neg (n0 (j := 5) (y := 5) rfl (by decide) (by decide)), if_neg (n0 (j := 6) (y := 6) rfl (by decide) (by decide)), if_neg (n0 (j := 7) (y := 7) rfl (by decide) (by decide)), if_neg (n0 (j := 8) (y := 8) rfl (by decide) (by decide)), if_neg (n0 (j := 9) (y := 9) rfl (by decide) (by decide)), hf, hl]
    exact Or.inr ⟨d, c + 1, wd_fall (wdMid_out _ hM)⟩
end
section
/-! arriving: the debugger's probe against the model's look-up -/
theorem wdCnt_congr {P P' : Nat → Bool} (n : Nat) (h : ∀ i, i < n → P i = P' i) : wdCnt P n = wdCnt P' n := by
  induction n with
  | zero => rfl
  | succ n ih =>
    have ih := ih (fun i hi => h i (by omega))
    have hn := h n (by omega)
    simp only [wdCnt, ih, hn]
theorem yBr_congr {f f' : Nat → Int32} (n : Nat) (h : ∀ i, i < n → (0 ≤ f i ↔ 0 ≤ f' i)) : yBr f n = yBr f' n := by
  unfold yBr
  refine wdCnt_congr n (fun i hi => ?_)
  by_cases e : 0 ≤ f i
  · rw [decide_eq_true e, decide_eq_true ((h i hi).mp e)]
  · rw [decide_eq_false e, decide_eq_false (fun q => e ((h i hi).mpr q))]
theorem wd_skip {x : Int32} (h0 : 0 ≤ x) (h1 : ¬ x = 0) : ¬ x ≤ 0 ∧ 0 ≤ x - 1 := by
  obtain ⟨j, hj, rfl⟩ := nI_of (Int32.not_lt.mpr h0)
  have hj1 : 1 ≤ j := Nat.pos_of_ne_zero (fun e => h1 (by rw [e]; rfl))
  refine ⟨fun q => ?_, ?_⟩
  · exact nI_nle (by omega) hj q
  · rw [wd_pred hj1]
    exact nI_pos' (by omega)
theorem wdFl_z {σ : wdSt} {i : Nat} (h : wdFl σ i = 0) : σ.2 5 i = 0 ∧ σ.2 7 i = 0 := by
  unfold wdFl at h
  by_cases e : σ.2 5 i = 0 ∧ σ.2 7 i = 0
  · exact e
  · rw [if_neg e] at h
    omega
theorem wdFl_o {σ : wdSt} {i : Nat} (h : ¬ wdFl σ i = 0) : wdFl σ i = 1 ∧ ¬ (σ.2 5 i = 0 ∧ σ.2 7 i = 0) := by
  unfold wdFl at h ⊢
  by_cases e : σ.2 5 i = 0 ∧ σ.2 7 i = 0
  · rw [if_pos e] at h
    omega
  · rw [if_neg e]
    exact ⟨rfl, e⟩
theorem wd_op11 {k : Nat} (h : k ≤ 10) : ¬ nI k = 12 ∧ ¬ nI k = 11 := ⟨fun e => absurd ((wd_eq k 12 12 (by omega) (by decide) rfl).mp e) (by omega), fun e => absurd ((wd_eq k 11 11 (by omega) (by decide) rfl).mp e) (by omega)⟩
theorem wdArr_fr (a g : Nat) (σ : wdSt) : (wdArr a g σ).2 7 = σ.2 7 ∧ (wdArr a g σ).1 8 = σ.1 8 := by
  unfold wdArr
  by_cases h1 : σ.2 9 a = 12
  · rw [if_pos h1]; exact ⟨rfl, rfl⟩
  rw [if_neg h1]
  by_cases h2 : σ.2 9 a = 11
  · rw [if_pos h2]
    by_cases h3 : ¬ σ.2 7 g = 0 ∧ ¬ σ.1 8 < σ.1 18
    · rw [if_pos h3]; exact ⟨rfl, rfl⟩
    rw [if_neg h3]
    by_cases h4 : ¬ σ.2 5 g = 0 ∧ σ.2 6 g = 0
    · rw [if_pos h4]; exact ⟨rfl, rfl⟩
    rw [if_neg h4]
    by_cases h5 : ¬ σ.2 5 g = 0
    · rw [if_pos h5]; exact ⟨rfl, rfl⟩
    · rw [if_neg h5]; exact ⟨rfl, rfl⟩
  · rw [if_neg h2]; exact ⟨rfl, rfl⟩
theorem wdJump_fr (a j : Nat) (σ : wdSt) : (wdJump a j σ).2 7 = σ.2 7 ∧ (wdJump a j σ).1 8 = σ.1 8 := by
  unfold wdJump
  by_cases h : σ.2 11 a < 0
  · rw [if_pos h]; exact ⟨rfl, rfl⟩
  · rw [if_neg h]; exact ⟨rfl, rfl⟩
theorem xPerf_fr (a i d t o : Nat) (σ : wdSt) : (xPerf a i d t o σ).2 7 = σ.2 7 ∧ (xPerf a i d t o σ).1 8 = σ.1 8 := by
  unfold xPerf
  by_cases h1 : o ≤ 4
  · rw [if_pos h1]; exact ⟨rfl, rfl⟩
  rw [if_neg h1]
  by_cases h2 : o = 5
  · rw [if_pos h2]; exact wdJump_fr _ _ _
  rw [if_neg h2]
  by_cases h3 : o = 6
  · rw [if_pos h3]
    by_cases h : σ.2 19 ((d - 1) * 4 + wd3 (σ.2 2 i >>> ((2 : Int32) &&& 31))) ≤ σ.2 19 ((d - 1) * 4 + wd3 (σ.2 2 i))
    · rw [if_pos h]; exact ⟨rfl, rfl⟩
    · rw [if_neg h]; exact wdJump_fr _ _ _
  rw [if_neg h3]
  by_cases h4 : o = 7
  · rw [if_pos h4]
    by_cases h : σ.2 19 ((d - 1) * 4 + wd3 (σ.2 2 i)) = 0
    · rw [if_pos h]; exact wdJump_fr _ _ _
    · rw [if_neg h]; exact ⟨rfl, rfl⟩
  rw [if_neg h4]
  by_cases h5 : o = 8
  · rw [if_pos h5, wdCall]
    by_cases h : 6 ≤ d
    · rw [if_pos h]; exact ⟨rfl, rfl⟩
    · rw [if_neg h]; exact wdJump_fr _ _ (wdCall0 a i ((d - 1) * 4 + wd3 (σ.2 2 i)) d σ)
  rw [if_neg h5]
  by_cases h6 : o = 9
  · rw [if_pos h6, wdGive]
    by_cases h : d = 1
    · rw [if_pos h]; exact ⟨rfl, rfl⟩
    · rw [if_neg h]; exact ⟨rfl, rfl⟩
  · rw [if_neg h6]; exact ⟨rfl, rfl⟩
/-- the place just reached -/
theorem wd_arrive {L d g : Nat} {z G : Int32} {σ τ : wdSt} (most : Int32) (n : Nat) (h : wdArv L d g z σ τ) (hz : ¬ (z = 0 ∨ z = 5 ∨ z = 6)) (hag : g < L → (¬ G < τ.1 6 ↔ ¬ σ.2 7 g = 0 ∧ ¬ σ.1 8 < σ.1 18)) :
    (wdEnd L d (wdArr (wdE (wdFl σ) g) g σ) (yAft G most n τ).2 ∧ (yAft G most n τ).1 = true ∧ ¬ (wdArr (wdE (wdFl σ) g) g σ).1 14 = 1) ∨
    ∃ τ2, g < L ∧ wdHd L d g (wdArr (wdE (wdFl σ) g) g σ) τ2 ∧ τ2.1 = τ.1 ∧ (∀ k, ¬ k = 4 → τ2.2 k = τ.2 k) ∧ G < τ.1 6 ∧ yAft G most n τ = if nI n = most then (true, wdS τ2 5 4) else (false, τ2) := by
  obtain ⟨hRS, hd, hg, ha, hcn, h5a, h5b, hW, hG, h14, h16⟩ := h
  have hL2 : L ≤ 20 := hRS.1.2.2
  by_cases e : g < L
  · have hz2 := h5a e
    have hno : ¬ (τ.1 5 = 5 ∨ τ.1 5 = 6) := by rw [hz2]; exact fun q => hz (Or.inr q)
    have hcl : (τ.1 10).toNatClampNeg = g := by rw [hcn]; exact nI_clamp (by omega)
    have hag := hag e
    have hB := hRS.2.2.2.1.1 g (by omega)
    by_cases hf : wdFl σ g = 0
    · right
      obtain ⟨f5, f7⟩ := wdFl_z hf
      obtain ⟨o, ho, eo⟩ := hRS.2.2.1.2.2.2 g e
      have e9 : σ.2 9 (wdE (wdFl σ) g) = nI o := by
        have := hW.1.2.2.2.2.2.1 g e
        rw [hf, Nat.add_zero] at this
        rw [this, hRS.2.2.1.1]
        exact eo
      rw [wdArr, e9, if_neg (wd_op11 ho).1, if_neg (wd_op11 ho).2]
      have hGd : G < τ.1 6 := Classical.byContradiction (fun q => (hag.mp q).1 f7)
      have e4 : τ.2 4 g = -1 := by
        rcases hB with hB | hB
        · exact absurd (hB.1.symm.trans f5) (by decide)
        · exact hB.2
      refine ⟨τ, e, ⟨⟨hRS, hd, e, hW, hG, ?_, h14, h16⟩, hcn⟩, rfl, fun _ _ => rfl, hGd, ?_⟩
      · rw [hf]
        exact ha
      · rw [yAft, if_neg hno, if_neg (not_not_intro hGd), hcl, e4, if_neg (by decide), if_pos (by decide)]
    · obtain ⟨f1, f2⟩ := wdFl_o hf
      have e9 : σ.2 9 (wdE (wdFl σ) g) = 11 := hW.1.2.2.2.2.1 g e f1
      rw [wdArr, e9, if_neg (by decide), if_pos rfl]
      by_cases c1 : ¬ σ.2 7 g = 0 ∧ ¬ σ.1 8 < σ.1 18
      · left
        rw [if_pos c1, yAft, if_neg hno, if_pos (hag.mpr c1)]
        exact ⟨⟨hRS, rfl, (show ¬ (2 : Int32) = 0 by decide), hd, hW, hG, g, hg, Or.inl ha, Or.inl ⟨h16, hcn, e⟩⟩, rfl, (show ¬ (2 : Int32) = 1 by decide)⟩
      · have hGd : G < τ.1 6 := Classical.byContradiction (fun q => c1 (hag.mp q))
        rw [if_neg c1]
        rcases hB with ⟨b5, b6, b0⟩ | ⟨b5, b4⟩
        · have n5 : ¬ σ.2 5 g = 0 := by rw [b5]; decide
          by_cases c2 : σ.2 6 g = 0
          · left
            rw [if_pos ⟨n5, c2⟩, yAft, if_neg hno, if_neg (not_not_intro hGd), hcl, if_pos (b6.symm.trans c2)]
            exact ⟨⟨hRS, rfl, (show ¬ (3 : Int32) = 0 by decide), hd, hW, hG, g, hg, Or.inl ha, Or.inl ⟨h16, hcn, e⟩⟩, rfl, (show ¬ (3 : Int32) = 1 by decide)⟩
          · right
            have c3 : ¬ τ.2 4 g = 0 := fun q => c2 (b6.trans q)
            obtain ⟨s1, s2⟩ := wd_skip b0 c3
            rw [if_neg (fun q => c2 q.2), if_pos n5, b6]
            refine ⟨wdA τ 4 g (τ.2 4 g - 1), e, ⟨⟨⟨hRS.1, hRS.2.1, hRS.2.2.1, ⟨?_, ?_⟩, hRS.2.2.2.2⟩, hd, e, hW, hG, ?_, h14, h16⟩, hcn⟩, rfl, fun k hk => wd2_n _ _ _ hk, hGd, ?_⟩
            · intro i hi
              show (σ.2 5 i = 1 ∧ upd (σ.2 6) g (τ.2 4 g - 1) i = upd (τ.2 4) g (τ.2 4 g - 1) i ∧ 0 ≤ upd (τ.2 4) g (τ.2 4 g - 1) i) ∨ (σ.2 5 i = 0 ∧ upd (τ.2 4) g (τ.2 4 g - 1) i = -1)
              by_cases q : i = g
              · rw [q, upd_s, upd_s]
                exact Or.inl ⟨b5, rfl, s2⟩
              · rw [upd_n _ _ q, upd_n _ _ q]
                exact hRS.2.2.2.1.1 i hi
            · show σ.1 4 = nI (yBr (upd (τ.2 4) g (τ.2 4 g - 1)) 20)
              rw [hRS.2.2.2.1.2]
              refine congrArg nI (yBr_congr 20 (fun i hi => ?_))
              by_cases q : i = g
              · rw [q, upd_s]
                exact ⟨fun _ => s2, fun _ => b0⟩
              · rw [upd_n _ _ q]
            · show nI (wdE (wdFl σ) g + 1) = nI (wdE (wdFl σ) g + wdFl σ g)
              rw [f1]
            · rw [yAft, if_neg hno, if_neg (not_not_intro hGd), hcl, if_neg c3, if_neg s1]
        · right
          rw [if_neg (fun q => q.1 b5), if_neg (not_not_intro b5)]
          refine ⟨τ, e, ⟨⟨hRS, hd, e, hW, hG, ?_, h14, h16⟩, hcn⟩, rfl, fun _ _ => rfl, hGd, ?_⟩
          · show nI (wdE (wdFl σ) g + 1) = nI (wdE (wdFl σ) g + wdFl σ g)
            rw [f1]
          · rw [yAft, if_neg hno, if_neg (not_not_intro hGd), hcl, b4, if_neg (by decide), if_pos (by decide)]
  · left
    have e2 : g = L := by omega
    subst e2
    have h6 := h5b rfl
    rw [wdArr, if_pos hW.1.2.2.2.2.2.2, yAft, if_pos (Or.inr h6)]
    refine ⟨⟨hRS, h6.symm, (show ¬ τ.1 5 = 0 by rw [h6]; decide), hd, hW, hG, g, Nat.le_refl g, Or.inl ha, Or.inr ⟨rfl, ?_, h6⟩⟩, rfl, (show ¬ (6 : Int32) = 1 by decide)⟩
    show τ.1 10 = σ.1 0
    rw [hcn, hRS.1.1]
end
section
/-! run, against the model: written by gen/gen_run.py -/
/-- the probes that are planted (pl, with the goal gd) are where the model's goal G is met, all through a run out of K -/
def wdK (L : Nat) (pl : Nat → Int32) (gd G : Int32) (K : wdSt → Prop) : Prop := ∀ τ, K τ → yI L τ → ∀ g, g < L → (yC L τ).1 10 = nI g → ¬ ((yC L τ).1 5 = 5 ∨ (yC L τ).1 5 = 6) → (¬ G < (yC L τ).1 6 ↔ ¬ pl g = 0 ∧ ¬ gd < (yC L τ).1 6) ∧ (G < (yC L τ).1 6 → ∀ τ2 : wdSt, τ2.1 = (yC L τ).1 → (∀ k, ¬ k = 4 → τ2.2 k = (yC L τ).2 k) → K τ2)
theorem wdHd_yI {L d c : Nat} {σ τ : wdSt} (h : wdHd L d c σ τ) : yI L τ := ⟨h.1.1.1.2.1, h.1.1.1.2.2, ⟨d, h.1.2.1, h.1.1.2.1.2.2, h.1.1.2.1.2.1⟩, ⟨c, h.1.2.2.1, h.2⟩, h.1.1.2.2.2.2.2.2.2⟩
theorem wd_g20 {L g : Nat} {φ : Nat → Nat} {σ : wdSt} (hL : L ≤ 20) (hg : g ≤ L) (hW : wdWv L φ σ) : σ.2 9 (wdE φ g) = 11 → g < 20 := by
  intro h
  refine Classical.byContradiction (fun q => ?_)
  have e : g = L := by omega
  rw [e, hW.1.2.2.2.2.2.2] at h
  exact absurd h (by decide)
theorem wdHd_pause {L d c : Nat} {σ τ : wdSt} (h : wdHd L d c σ τ) : wdEnd L d (wdS σ 14 4) (wdS τ 5 4) := by
  obtain ⟨⟨hRS, hd1, hc0, hW, hGo, h15, h14, h16⟩, hcn⟩ := h
  exact ⟨hRS, rfl, (show ¬ (4 : Int32) = 0 by decide), hd1, hW, hGo, c, Nat.le_of_lt hc0, Or.inr ⟨hc0, h15⟩, Or.inl ⟨h16, hcn, hc0⟩⟩
set_option maxHeartbeats 4000000 in
set_option maxRecDepth 100000 in
theorem xl_run {p : Program} {l : Launch} {e : Env} {s : State} {m : MethodId} {args : Array Value} {below : List Frame} {meth : Method} {c : Code} {D : va_G} {q : Nat → Nat} {cI cZ : ClassId} {sz : Nat} (L : Nat) (pl : Nat → Int32) (gd G : Int32) (K : wdSt → Prop) (hK : wdK L pl gd G K) (mx : Nat) (hmx : mx ≤ 300) (res : Int32 × wdSt) (S : CallFix p m c cX0_run 3 s args lw_all RX0) (hr : meth.sig.returnType = some .int) (hlk : meth.locks = false) : ∀ (k j : Nat) (σ τ : wdSt) (d c0 : Nat), j + k = 300 → j < mx → wdHd L d c0 σ τ → σ.2 7 = pl → σ.1 8 = gd → K τ → ¬ (τ.1 5 = 0 ∨ τ.1 5 = 5 ∨ τ.1 5 = 6) → yLoop L G (nI mx) k (j + 1) τ = res → ∀ (H : Heap) (locs : List Loc) (ls : Array Slot), x_J D q cI cZ (x_A q sz) σ s H locs → lv_has ls 3 [(0, .ref (q 0)), (1, .int (nI mx)), (2, .int (nI j))] → W p l e (wdRm 3 70) s m args below meth c H locs 0 0 (MQ below (va_Qi (fun r σ' => r = res.1 ∧ (∃ d', wdEnd L d' σ' res.2) ∧ σ'.2 7 = pl) (x_B D q cI cZ) (x_A q sz)) args s 0 0 (x_A q sz)) (F0 m 25 ls []) := by
  have hx := S.1
  have hb := S.2.1
  intro k
  induction k with
  | zero =>
    intro j σ τ d c0 hj1 hj2
    exact absurd hj2 (by omega)
  | succ k ih =>
    intro j σ τ d c0 hj1 hj2 hH hpl hgd hKt hz hres H locs ls J hl
    obtain ⟨⟨hRS, hd1, hc0, hW, hGo, h15, h14, h16⟩, hcn⟩ := id hH
    have hL2 : L ≤ 20 := hRS.1.2.2
    have hd6 : d ≤ 6 := hRS.2.1.2.2
    have hE := wdE48 (σ := σ) hL2 (Nat.le_of_lt hc0)
    have hF := wdFl_le σ c0
    obtain ⟨o, ho, eo⟩ := hRS.2.2.1.2.2.2 c0 hc0
    obtain ⟨t, ht4, ht⟩ := hRS.2.2.2.2.2.2.2 (d - 1 - 1) (by omega)
    have htk : 2 ≤ d → σ.2 21 (d - 1) = nI t := fun h2 => by have h3 := hRS.2.2.2.2.2.2.1 (d - 1 - 1) (by omega); rw [show d - 1 - 1 + 1 = d - 1 by omega] at h3; rw [h3]; exact ht
    have hp := wd_perf hH eo ho (fun _ => ht) ht4
    rw [← yC_e hcn (by omega) hRS.2.1.2.1 (by omega)] at hp
    have hfr := xPerf_fr (wdE (wdFl σ) c0 + wdFl σ c0) c0 d t o σ
    rw [yLoop] at hres
    refine lv_aload_n hx hb dX0_run_25 rfl (lv_at hl 0 rfl) ?_
    refine x_g14 (v := 1) S J h14 dX0_run_26 ?_
    refine lv_iconst (v := 1) hx hb dX0_run_29 ci_1 ?_
    refine lv_icmp_ne (tgt := 78) hx hb dX0_run_30 (by decide) (fun c_30 => ?_) (fun c_30 => ?_)
    · exact absurd c_30 (by decide)
    refine lv_iload_n hx hb dX0_run_33 rfl (lv_at hl 2 rfl) ?_
    refine lv_iload_n hx hb dX0_run_34 rfl (lv_at hl 1 rfl) ?_
    refine lv_icmp_ge (tgt := 78) hx hb dX0_run_35 (by decide) (fun c_35 => ?_) (fun c_35 => ?_)
    · exact absurd c_35 (fun h => nI_ge hj2 (by omega) h)
    refine lv_aload_n hx hb dX0_run_38 rfl (lv_at hl 0 rfl) ?_
    refine x_cv S J (xc_perform l D q cI cZ _ (σ) (wdE (wdFl σ) c0 + wdFl σ c0) c0 d t o h15 (by omega) (hW.1.2.2.2.1 c0 hc0) (by omega) (by rw [hRS.2.2.1.1]; exact eo) ho hRS.2.1.1 hd1 hd6 htk ht4) (xk_perform S.2.2.2.2 ⟨Nat.le_of_ble_eq_true rfl, Nat.le_of_ble_eq_true rfl⟩) rfl hl.1 rfl (Nat.le_of_ble_eq_true rfl) dX0_run_39 ⟨Nat.zero_le _, Nat.zero_le _⟩ (fun s1 H locs w_s1 J => ?_)
    rw [← w_s1] at hp hfr
    rcases hp with ⟨d', hs⟩ | ⟨d', g, hv⟩
    · have hy : yAft G (nI mx) (j + 1) (yC L τ) = (true, yC L τ) := by rw [yAft, if_pos hs.1]
      rw [hy] at hres
      have hres : (nI (j + 1), yC L τ) = res := hres
      have hne : ¬ s1.1 14 = 1 := by rw [hs.2.2.1]; rcases hs.1 with e | e <;> rw [e] <;> decide
      refine lv_iinc (v := nI (j + 1)) (lv' := [(2, .int (nI (j + 1))), (0, .ref (q 0)), (1, .int (nI mx))]) hx hb dX0_run_42 hl (k := 2) rfl (wd_inc _) (by decide) rfl (fun ls hl => ?_)
      refine lv_aload_n hx hb dX0_run_45 rfl (lv_at hl 1 rfl) ?_
      refine x_g14 (v := s1.1 14) S J rfl dX0_run_46 ?_
      refine lv_iconst (v := 1) hx hb dX0_run_49 ci_1 ?_
      refine lv_icmp_ne (tgt := 57) hx hb dX0_run_50 (by decide) (fun c_50 => ?_) (fun c_50 => by exact absurd c_50 hne)
      refine lv_aload_n hx hb dX0_run_57 rfl (lv_at hl 1 rfl) ?_
      refine x_g14 (v := s1.1 14) S J rfl dX0_run_58 ?_
      refine lv_iconst (v := 1) hx hb dX0_run_61 ci_1 ?_
      refine lv_icmp_ne (tgt := 25) hx hb dX0_run_62 (by decide) (fun c_62 => ?_) (fun c_62 => by exact absurd c_62 hne)
      refine lv_aload_n hx hb dX0_run_25 rfl (lv_at hl 1 rfl) ?_
      refine x_g14 (v := s1.1 14) S J rfl dX0_run_26 ?_
      refine lv_iconst (v := 1) hx hb dX0_run_29 ci_1 ?_
      refine lv_icmp_ne (tgt := 78) hx hb dX0_run_30 (by decide) (fun c_30 => ?_) (fun c_30 => by exact absurd c_30 hne)
      refine lv_iload_n hx hb dX0_run_78 rfl (lv_at hl 0 rfl) ?_
      exact x_iret (v := nI (j + 1)) S hr hlk J (by rw [← hres]; exact ⟨rfl, ⟨d', hs.2⟩, by rw [hfr.1]; exact hpl⟩) dX0_run_79
    · obtain ⟨vRS, vd, vg, va, vcn, v5a, v5b, vW, vG, v14, v16⟩ := id hv
      refine lv_iinc (v := nI (j + 1)) (lv' := [(2, .int (nI (j + 1))), (0, .ref (q 0)), (1, .int (nI mx))]) hx hb dX0_run_42 hl (k := 2) rfl (wd_inc _) (by decide) rfl (fun ls hl => ?_)
      refine lv_aload_n hx hb dX0_run_45 rfl (lv_at hl 1 rfl) ?_
      refine x_g14 (v := 1) S J v14 dX0_run_46 ?_
      refine lv_iconst (v := 1) hx hb dX0_run_49 ci_1 ?_
      refine lv_icmp_ne (tgt := 57) hx hb dX0_run_50 (by decide) (fun c_50 => ?_) (fun c_50 => ?_)
      · exact absurd c_50 (by decide)
      refine lv_aload_n hx hb dX0_run_53 rfl (lv_at hl 1 rfl) ?_
      refine x_cv S J (xc_arrive l D q cI cZ _ (s1) (wdE (wdFl s1) g) g va (Nat.lt_of_le_of_lt (wdE48 hL2 vg) (by decide)) (fun _ => vW.1.2.2.1 g vg) (wd_g20 hL2 vg vW)) (xk_arrive S.2.2.2.2 ⟨Nat.le_of_ble_eq_true rfl, Nat.le_of_ble_eq_true rfl⟩) rfl hl.1 rfl (Nat.le_of_ble_eq_true rfl) dX0_run_54 ⟨Nat.zero_le _, Nat.zero_le _⟩ (fun s2 H locs w_s2 J => ?_)
      have hag : g < L → (¬ G < (yC L τ).1 6 ↔ ¬ s1.2 7 g = 0 ∧ ¬ s1.1 8 < s1.1 18) := by
        intro hgL
        have h1 := (hK τ hKt (wdHd_yI hH) g hgL vcn (by rw [v5a hgL]; exact fun q => hz (Or.inr q))).1
        rw [hfr.1, hfr.2, hpl, hgd, vRS.2.1.1, ← vRS.2.1.2.1]
        exact h1
      have hfr2 := wdArr_fr (wdE (wdFl s1) g) g s1
      have ha := wd_arrive (nI mx) (j + 1) hv hz hag
      rw [← w_s2] at ha hfr2
      rcases ha with ⟨hE2, hy, hne⟩ | ⟨τ2, hgL, hH2, et, ea, hGd, hy⟩
      · rw [if_pos hy] at hres
        refine lv_aload_n hx hb dX0_run_57 rfl (lv_at hl 1 rfl) ?_
        refine x_g14 (v := s2.1 14) S J rfl dX0_run_58 ?_
        refine lv_iconst (v := 1) hx hb dX0_run_61 ci_1 ?_
        refine lv_icmp_ne (tgt := 25) hx hb dX0_run_62 (by decide) (fun c_62 => ?_) (fun c_62 => by exact absurd c_62 hne)
        refine lv_aload_n hx hb dX0_run_25 rfl (lv_at hl 1 rfl) ?_
        refine x_g14 (v := s2.1 14) S J rfl dX0_run_26 ?_
        refine lv_iconst (v := 1) hx hb dX0_run_29 ci_1 ?_
        refine lv_icmp_ne (tgt := 78) hx hb dX0_run_30 (by decide) (fun c_30 => ?_) (fun c_30 => by exact absurd c_30 hne)
        refine lv_iload_n hx hb dX0_run_78 rfl (lv_at hl 0 rfl) ?_
        exact x_iret (v := nI (j + 1)) S hr hlk J (by rw [← hres]; exact ⟨rfl, ⟨d', hE2⟩, by rw [hfr2.1, hfr.1]; exact hpl⟩) dX0_run_79
      · have u14 : s2.1 14 = 1 := hH2.1.2.2.2.2.2.2.1
        rw [hy] at hres
        refine lv_aload_n hx hb dX0_run_57 rfl (lv_at hl 1 rfl) ?_
        refine x_g14 (v := 1) S J u14 dX0_run_58 ?_
        refine lv_iconst (v := 1) hx hb dX0_run_61 ci_1 ?_
        refine lv_icmp_ne (tgt := 25) hx hb dX0_run_62 (by decide) (fun c_62 => ?_) (fun c_62 => ?_)
        · exact absurd c_62 (by decide)
        refine lv_iload_n hx hb dX0_run_65 rfl (lv_at hl 0 rfl) ?_
        refine lv_iload_n hx hb dX0_run_66 rfl (lv_at hl 2 rfl) ?_
        refine lv_icmp_ne (tgt := 25) hx hb dX0_run_67 (by decide) (fun c_67 => ?_) (fun c_67 => ?_)
        · rw [if_neg c_67] at hres
          have hv5 : τ2.1 5 = τ.1 5 := by rw [et]; exact v5a hgL
          have hK2 : K τ2 := (hK τ hKt (wdHd_yI hH) g hgL vcn (by rw [v5a hgL]; exact fun q => hz (Or.inr q))).2 hGd τ2 et ea
          exact ih (j + 1) s2 τ2 d' g (by omega) (Nat.lt_of_le_of_ne hj2 (fun q => c_67 (by rw [q]))) hH2 (by rw [hfr2.1, hfr.1]; exact hpl) (by rw [hfr2.2, hfr.2]; exact hgd) hK2 (by rw [hv5]; exact hz) hres _ _ _ J (lv_sub hl [1, 2, 0] rfl)
        · rw [if_pos c_67] at hres
          have hres : (nI (j + 1), wdS τ2 5 4) = res := hres
          refine lv_aload_n hx hb dX0_run_70 rfl (lv_at hl 1 rfl) ?_
          refine lv_iconst (v := 4) hx hb dX0_run_71 ci_4 ?_
          refine x_p14 S J dX0_run_72 (fun H locs J => ?_)
          refine lv_goto (tgt := 25) hx hb dX0_run_75 (by decide) ?_
          refine lv_aload_n hx hb dX0_run_25 rfl (lv_at hl 1 rfl) ?_
          refine x_g14 (v := 4) S J rfl dX0_run_26 ?_
          refine lv_iconst (v := 1) hx hb dX0_run_29 ci_1 ?_
          refine lv_icmp_ne (tgt := 78) hx hb dX0_run_30 (by decide) (fun c_30 => ?_) (fun c_30 => by exact absurd c_30 (by decide))
          refine lv_iload_n hx hb dX0_run_78 rfl (lv_at hl 0 rfl) ?_
          exact x_iret (v := nI (j + 1)) S hr hlk J (by rw [← hres]; exact ⟨rfl, ⟨d', wdHd_pause hH2⟩, (show s2.2 7 = pl by rw [hfr2.1, hfr.1]; exact hpl)⟩) dX0_run_79
/-- where a place that isn't lost stands -/
theorem wdPl_at {L d c0 : Nat} {σ τ : wdSt} (hL2 : L ≤ 20) (h : wdPd L d (wdFl σ) σ τ) (hlo : σ.1 16 = 0) (hcn : τ.1 10 = nI c0) (hc0 : c0 < L) : ∃ a, σ.1 15 = nI a ∧ a < 48 ∧ σ.2 10 a = nI c0 := by
  obtain ⟨hd1, hW, hG, g, hg, hp, hq⟩ := h
  rcases hq with ⟨-, e, hgL⟩ | ⟨e, -⟩
  · have e2 : g = c0 := (nI_eq (by omega) (by omega)).mp (e.symm.trans hcn)
    subst e2
    have hE := wdE48 (σ := σ) hL2 hg
    have hF := wdFl_le σ g
    rcases hp with hp | ⟨-, hp⟩
    · exact ⟨_, hp, by omega, hW.1.2.2.1 g hg⟩
    · exact ⟨_, hp, by omega, hW.1.2.2.2.1 g hgL⟩
  · rw [hlo] at e
    exact absurd e (by decide)
set_option maxHeartbeats 4000000 in
set_option maxRecDepth 100000 in
/-- run(max) -/
theorem xc_run (l : Launch) (D : va_G) (q : Nat → Nat) (cI cZ : ClassId) (sz : Nat) (σ : wdSt) (L d c0 : Nat) (τ : wdSt) (gd G : Int32) (K : wdSt → Prop) (hK : wdK L (σ.2 7) gd G K) (mx : Nat) (hmx : mx ≤ 300) (hmx1 : 1 ≤ mx) (hRS : wdRS L d σ τ) (hPd : wdPd L d (wdFl σ) σ τ) (hlo : σ.1 16 = 0) (hcn : τ.1 10 = nI c0) (hc0 : c0 < L) (hgd : σ.1 8 = gd) (hKt : K τ) (hz : ¬ (τ.1 5 = 0 ∨ τ.1 5 = 5 ∨ τ.1 5 = 6)) : x_MI l yX0_run cX0_run 3 .int 3 70 D q cI cZ sz σ [.int (nI mx)] (fun r σ' => r = (yLoop L G (nI mx) 300 1 τ).1 ∧ (∃ d', wdEnd L d' σ' (yLoop L G (nI mx) 300 1 τ).2) ∧ σ'.2 7 = σ.2 7) := by
  refine x_open (by decide) rfl (Nat.le_of_ble_eq_true rfl) ?_
  intro p e s m below meth c S hr hlk J ls hl
  have hx := S.1
  have hb := S.2.1
  have hl : lv_has ls 3 [(0, .ref (q 0)), (1, .int (nI mx))] := hl
  generalize s.heap = H at J ⊢
  generalize ([] : List Loc) = locs at J ⊢
  obtain ⟨a, ha, ha2, hg⟩ := wdPl_at hRS.1.2.2 hPd hlo hcn hc0
  refine lv_aload_n hx hb dX0_run_0 rfl (lv_at hl 0 rfl) ?_
  refine lv_iconst (v := 1) hx hb dX0_run_1 ci_1 ?_
  refine x_p14 S J dX0_run_2 (fun H locs J => ?_)
  refine lv_aload_n hx hb dX0_run_5 rfl (lv_at hl 0 rfl) ?_
  refine lv_aload_n hx hb dX0_run_6 rfl (lv_at hl 0 rfl) ?_
  refine x_r13 S J dX0_run_7 ?_
  refine lv_aload_n hx hb dX0_run_10 rfl (lv_at hl 0 rfl) ?_
  refine x_r10 S J dX0_run_11 ?_
  refine lv_aload_n hx hb dX0_run_14 rfl (lv_at hl 0 rfl) ?_
  refine x_g15 (v := nI a) S J ha dX0_run_15 ?_
  refine x_l10 (v := nI c0) S J a ha2 hg dX0_run_18 ?_
  refine x_l13 (v := nI (wdE (wdFl σ) c0 + wdFl σ c0)) S J c0 (by have := hRS.1.2.2; omega) (hPd.2.1.1.2.1 c0 hc0) dX0_run_19 ?_
  refine x_p15 S J dX0_run_20 (fun H locs J => ?_)
  refine lv_iconst (v := 0) hx hb dX0_run_23 ci_0 ?_
  refine lv_istore_n (lv' := [(2, .int 0), (0, .ref (q 0)), (1, .int (nI mx))]) hx hb dX0_run_24 rfl hl (by decide) rfl (fun ls hl => ?_)
  exact xl_run L (σ.2 7) gd G K hK mx hmx _ S hr hlk 300 0 (wdS (wdS σ 14 1) 15 (nI (wdE (wdFl σ) c0 + wdFl σ c0))) τ d c0 rfl hmx1 ⟨⟨hRS, hPd.1, hc0, hPd.2.1, hPd.2.2.1, rfl, rfl, hlo⟩, hcn⟩ rfl hgd hKt hz rfl _ _ _ J (lv_sub hl [1, 2, 0] rfl)
end
section
/-! moving along, and where the goals are met -/
theorem wdRS_congr {L d : Nat} {σ σ' τ : wdSt} (h1 : ∀ k, k ∈ [0, 4, 18, 22] → σ'.1 k = σ.1 k) (h2 : ∀ k, k ∈ [1, 2, 3, 5, 6, 19, 21, 23] → σ'.2 k = σ.2 k) (h : wdRS L d σ τ) : wdRS L d σ' τ := by
  unfold wdRS at *
  rw [h1 0 (by decide), h1 4 (by decide), h1 18 (by decide), h1 22 (by decide), h2 1 (by decide), h2 2 (by decide), h2 3 (by decide), h2 5 (by decide), h2 6 (by decide), h2 19 (by decide), h2 21 (by decide), h2 23 (by decide)]
  exact h
theorem wdPd_congr {L d : Nat} {φ : Nat → Nat} {σ σ' τ : wdSt} (h1 : ∀ k, k ∈ [15, 16, 17] → σ'.1 k = σ.1 k) (h2 : ∀ k, k ∈ [1, 3, 9, 10, 11, 12, 13, 20] → σ'.2 k = σ.2 k) (h : wdPd L d φ σ τ) : wdPd L d φ σ' τ := by
  unfold wdPd wdWv wdWA wdWL wdGo wdPl at *
  rw [h1 15 (by decide), h1 16 (by decide), h1 17 (by decide), h2 1 (by decide), h2 3 (by decide), h2 9 (by decide), h2 10 (by decide), h2 11 (by decide), h2 12 (by decide), h2 13 (by decide), h2 20 (by decide)]
  exact h
theorem wdFl_congr {σ σ' : wdSt} (h5 : σ'.2 5 = σ.2 5) (h7 : σ'.2 7 = σ.2 7) : wdFl σ' = wdFl σ := by
  funext z
  unfold wdFl
  rw [h5, h7]
/-- what reweave asks -/
def wdRWp (L a g d : Nat) (b G : Nat → Nat) (σ : wdSt) : Prop := σ.1 15 = nI a ∧ a < 48 ∧ σ.2 10 a = nI g ∧ g ≤ L ∧ σ.1 18 = nI d ∧ 1 ≤ d ∧ d ≤ 6 ∧ ∀ j, 1 ≤ j → j < d → σ.2 20 j = nI (b j) ∧ b j < 48 ∧ σ.2 10 (b j) = nI (G j) ∧ G j ≤ L
theorem rw_pre {L d : Nat} {φ : Nat → Nat} {σ τ : wdSt} (hφ : ∀ i, φ i ≤ 1) (hL2 : L ≤ 20) (hd : σ.1 18 = nI d) (hd6 : d ≤ 6) (h : wdPd L d φ σ τ) :
    ∃ (a g : Nat) (b G : Nat → Nat), wdRWp L a g d b G σ ∧ ((σ.1 16 = 0 ∧ τ.1 10 = nI g ∧ g < L) ∨ (σ.1 16 = 1 ∧ τ.1 10 = σ.1 17 ∧ τ.1 5 = 6)) ∧ ∀ j, 1 ≤ j → j < d → τ.2 8 (j - 1) = nI (G j) := by
  obtain ⟨hd1, hW, hG, g, hg, hp, hq⟩ := h
  have hE : ∀ x, x ≤ L → wdE φ x ≤ 40 := fun x hx => by
    have := wdE_le hφ x
    omega
  have hb : ∀ j, 1 ≤ j → j < d → σ.2 20 j = nI (wdE φ (τ.2 8 (j - 1)).toNatClampNeg) ∧ wdE φ (τ.2 8 (j - 1)).toNatClampNeg < 48 ∧ σ.2 10 (wdE φ (τ.2 8 (j - 1)).toNatClampNeg) = nI (τ.2 8 (j - 1)).toNatClampNeg ∧ (τ.2 8 (j - 1)).toNatClampNeg ≤ L ∧ τ.2 8 (j - 1) = nI (τ.2 8 (j - 1)).toNatClampNeg := by
    intro j h1 h2
    obtain ⟨x, hx, e8, e20⟩ := hG (j - 1) (by omega)
    rw [show j - 1 + 1 = j by omega] at e20
    have ec : (τ.2 8 (j - 1)).toNatClampNeg = x := by rw [e8]; exact nI_clamp (by omega)
    rw [ec]
    exact ⟨e20, Nat.lt_of_le_of_lt (hE x hx) (by decide), hW.1.2.2.1 x hx, hx, e8⟩
  have hF := hφ g
  have hEg := hE g hg
  rcases hp with hp | ⟨hgL, hp⟩
  · exact ⟨wdE φ g, g, fun j => wdE φ (τ.2 8 (j - 1)).toNatClampNeg, fun j => (τ.2 8 (j - 1)).toNatClampNeg, ⟨hp, by omega, hW.1.2.2.1 g hg, hg, hd, hd1, hd6, fun j h1 h2 => ⟨(hb j h1 h2).1, (hb j h1 h2).2.1, (hb j h1 h2).2.2.1, (hb j h1 h2).2.2.2.1⟩⟩, hq, fun j h1 h2 => (hb j h1 h2).2.2.2.2⟩
  · exact ⟨wdE φ g + φ g, g, fun j => wdE φ (τ.2 8 (j - 1)).toNatClampNeg, fun j => (τ.2 8 (j - 1)).toNatClampNeg, ⟨hp, by omega, hW.1.2.2.2.1 g hgL, hg, hd, hd1, hd6, fun j h1 h2 => ⟨(hb j h1 h2).1, (hb j h1 h2).2.1, (hb j h1 h2).2.2.1, (hb j h1 h2).2.2.2.1⟩⟩, hq, fun j h1 h2 => (hb j h1 h2).2.2.2.2⟩
/-- what reweave leaves -/
def wdRWq (L g d : Nat) (G : Nat → Nat) (σ σ' : wdSt) : Prop := σ'.1 = upd σ.1 15 (nI (wdE (wdFl σ) g)) ∧ (∀ k, k ∉ [9, 10, 11, 12, 13, 20] → σ'.2 k = σ.2 k) ∧ wdWv L (wdFl σ) σ' ∧ ∀ j, 1 ≤ j → j < d → σ'.2 20 j = nI (wdE (wdFl σ) (G j))
theorem rw_post {L d a g : Nat} {b G : Nat → Nat} {σ σ' τ : wdSt} (hp : wdRWp L a g d b G σ) (hq : (σ.1 16 = 0 ∧ τ.1 10 = nI g ∧ g < L) ∨ (σ.1 16 = 1 ∧ τ.1 10 = σ.1 17 ∧ τ.1 5 = 6)) (hg : ∀ j, 1 ≤ j → j < d → τ.2 8 (j - 1) = nI (G j)) (h : wdRWq L g d G σ σ') : wdFl σ' = wdFl σ ∧ wdPd L d (wdFl σ') σ' τ ∧ (∀ k, ¬ k = 15 → σ'.1 k = σ.1 k) := by
  obtain ⟨h1, h2, h3, h4⟩ := h
  have ef : wdFl σ' = wdFl σ := wdFl_congr (h2 5 (by decide)) (h2 7 (by decide))
  have hk : ∀ k, ¬ k = 15 → σ'.1 k = σ.1 k := fun k hk => by rw [h1]; exact upd_n _ _ hk
  rw [ef]
  refine ⟨rfl, ⟨hp.2.2.2.2.2.1, h3, fun f hf => ?_, g, hp.2.2.2.1, Or.inl (by rw [h1]; exact upd_s _ _ _), ?_⟩, hk⟩
  · exact ⟨G (f + 1), (hp.2.2.2.2.2.2.2 (f + 1) (by omega) hf).2.2.2, hg (f + 1) (by omega) hf, h4 (f + 1) (by omega) hf⟩
  · rw [hk 16 (by decide), hk 17 (by decide)]
    exact hq
/-- the kinds of step of the model -/
theorem yNext_1 (L : Nat) (v : Int32) (τ : wdSt) : (yNext L v τ).1 6 = τ.1 6 ∧ (yNext L v τ).2 = τ.2 ∧ (yNext L v τ).1 10 = v := by
  unfold yNext
  by_cases h : v < 0 ∨ ¬ v < nI L
  · rw [if_pos h]; exact ⟨rfl, rfl, rfl⟩
  · rw [if_neg h]; exact ⟨rfl, rfl, rfl⟩
theorem yCarry_kinds {L c d : Nat} {τ : wdSt} (hd : τ.1 6 = nI d) :
    ((yCarry L c d τ).1 5 = 5 ∨ (yCarry L c d τ).1 5 = 6) ∨
    (¬ τ.2 0 c = 9 ∧ ¬ τ.2 0 c = 8 ∧ (yCarry L c d τ).1 6 = nI d ∧ (yCarry L c d τ).2 8 = τ.2 8 ∧ ((yCarry L c d τ).1 10 = nI (c + 1) ∨ ((τ.2 0 c = 5 ∨ τ.2 0 c = 6 ∨ τ.2 0 c = 7) ∧ (yCarry L c d τ).1 10 = τ.2 2 c))) ∨
    (τ.2 0 c = 8 ∧ ¬ d = 6 ∧ (yCarry L c d τ).1 6 = nI (d + 1) ∧ (yCarry L c d τ).2 8 = upd (τ.2 8) (d - 1) (nI (c + 1)) ∧ (yCarry L c d τ).1 10 = τ.2 2 c) ∨
    (τ.2 0 c = 9 ∧ ¬ d = 1 ∧ (yCarry L c d τ).1 6 = nI (d - 1) ∧ (yCarry L c d τ).2 8 = τ.2 8 ∧ (yCarry L c d τ).1 10 = τ.2 8 (d - 1 - 1)) := by
  unfold yCarry
  by_cases e0 : τ.2 0 c = 0
  · rw [if_pos e0]
    refine Or.inr (Or.inl ⟨by rw [e0]; decide, by rw [e0]; decide, ?_, ?_, Or.inl (yNext_1 _ _ _).2.2⟩)
    · rw [(yNext_1 _ _ _).1]; exact hd
    · rw [(yNext_1 _ _ _).2.1]; rfl
  rw [if_neg e0]
  by_cases e1 : τ.2 0 c = 1
  · rw [if_pos e1]
    refine Or.inr (Or.inl ⟨by rw [e1]; decide, by rw [e1]; decide, ?_, ?_, Or.inl (yNext_1 _ _ _).2.2⟩)
    · rw [(yNext_1 _ _ _).1]; exact hd
    · rw [(yNext_1 _ _ _).2.1]; rfl
  rw [if_neg e1]
  by_cases e2 : τ.2 0 c = 2
  · rw [if_pos e2]
    refine Or.inr (Or.inl ⟨by rw [e2]; decide, by rw [e2]; decide, ?_, ?_, Or.inl (yNext_1 _ _ _).2.2⟩)
    · rw [(yNext_1 _ _ _).1]; exact hd
    · rw [(yNext_1 _ _ _).2.1]; rfl
  rw [if_neg e2]
  by_cases e3 : τ.2 0 c = 3
  · rw [if_pos e3]
    refine Or.inr (Or.inl ⟨by rw [e3]; decide, by rw [e3]; decide, ?_, ?_, Or.inl (yNext_1 _ _ _).2.2⟩)
    · rw [(yNext_1 _ _ _).1]; exact hd
    · rw [(yNext_1 _ _ _).2.1]; rfl
  rw [if_neg e3]
  by_cases e4 : τ.2 0 c = 4
  · rw [if_pos e4]
    refine Or.inr (Or.inl ⟨by rw [e4]; decide, by rw [e4]; decide, ?_, ?_, Or.inl (yNext_1 _ _ _).2.2⟩)
    · rw [(yNext_1 _ _ _).1]; exact hd
    · rw [(yNext_1 _ _ _).2.1]; rfl
  rw [if_neg e4]
  by_cases e5 : τ.2 0 c = 5
  · rw [if_pos e5]
    refine Or.inr (Or.inl ⟨by rw [e5]; decide, by rw [e5]; decide, ?_, ?_, Or.inr ⟨Or.inl e5, (yNext_1 _ _ _).2.2⟩⟩)
    · rw [(yNext_1 _ _ _).1]; exact hd
    · rw [(yNext_1 _ _ _).2.1]
  rw [if_neg e5]
  by_cases e6 : τ.2 0 c = 6
  · rw [if_pos e6]
    by_cases h : τ.2 7 ((d - 1) * 4 + wd3 (τ.2 1 c >>> ((2 : Int32) &&& 31))) ≤ τ.2 7 ((d - 1) * 4 + wd3 (τ.2 1 c))
    · rw [if_pos h]
      refine Or.inr (Or.inl ⟨by rw [e6]; decide, by rw [e6]; decide, ?_, ?_, Or.inl (yNext_1 _ _ _).2.2⟩)
      · rw [(yNext_1 _ _ _).1]; exact hd
      · rw [(yNext_1 _ _ _).2.1]
    · rw [if_neg h]
      refine Or.inr (Or.inl ⟨by rw [e6]; decide, by rw [e6]; decide, ?_, ?_, Or.inr ⟨Or.inr (Or.inl e6), (yNext_1 _ _ _).2.2⟩⟩)
      · rw [(yNext_1 _ _ _).1]; exact hd
      · rw [(yNext_1 _ _ _).2.1]
  rw [if_neg e6]
  by_cases e7 : τ.2 0 c = 7
  · rw [if_pos e7]
    by_cases h : τ.2 7 ((d - 1) * 4 + wd3 (τ.2 1 c)) = 0
    · rw [if_pos h]
      refine Or.inr (Or.inl ⟨by rw [e7]; decide, by rw [e7]; decide, ?_, ?_, Or.inr ⟨Or.inr (Or.inr e7), (yNext_1 _ _ _).2.2⟩⟩)
      · rw [(yNext_1 _ _ _).1]; exact hd
      · rw [(yNext_1 _ _ _).2.1]
    · rw [if_neg h]
      refine Or.inr (Or.inl ⟨by rw [e7]; decide, by rw [e7]; decide, ?_, ?_, Or.inl (yNext_1 _ _ _).2.2⟩)
      · rw [(yNext_1 _ _ _).1]; exact hd
      · rw [(yNext_1 _ _ _).2.1]
  rw [if_neg e7]
  by_cases e8 : τ.2 0 c = 8
  · rw [if_pos e8]
    by_cases h : d = 6
    · rw [if_pos h]
      exact Or.inl (Or.inr rfl)
    · rw [if_neg h]
      refine Or.inr (Or.inr (Or.inl ⟨e8, h, ?_, ?_, (yNext_1 _ _ _).2.2⟩))
      · rw [(yNext_1 _ _ _).1]; rfl
      · rw [(yNext_1 _ _ _).2.1]; rfl
  rw [if_neg e8]
  by_cases e9 : τ.2 0 c = 9
  · rw [if_pos e9]
    by_cases h : d = 1
    · rw [if_pos h]
      exact Or.inl (Or.inl rfl)
    · rw [if_neg h]
      refine Or.inr (Or.inr (Or.inr ⟨e9, h, ?_, ?_, (yNext_1 _ _ _).2.2⟩))
      · rw [(yNext_1 _ _ _).1]; rfl
      · rw [(yNext_1 _ _ _).2.1]; rfl
  rw [if_neg e9]
  refine Or.inr (Or.inl ⟨e9, e8, ?_, ?_, Or.inl (yNext_1 _ _ _).2.2⟩)
  · rw [(yNext_1 _ _ _).1]; exact hd
  · rw [(yNext_1 _ _ _).2.1]; rfl
/-- no goal, no probe planted -/
theorem wdK_none {L : Nat} {pl : Nat → Int32} {gd : Int32} (hpl : ∀ i, i < 20 → pl i = 0) : wdK L pl gd 0 (fun _ => True) := by
  intro τ _ hI g hg hc hns
  obtain ⟨-, hL2, ⟨d, hd1, hd6, hd⟩, -⟩ := (yI_carry hI).resolve_left hns
  refine ⟨⟨fun h => absurd (show (0 : Int32) < (yC L τ).1 6 by rw [hd]; exact nI_lt (a := 0) (by omega) (by omega)) h, fun h => absurd (hpl g (by omega)) h.1⟩, fun _ _ _ _ => trivial⟩
/-- above the goal's frames: the place where they go on is planted -/
def wdDeep (L G0 : Nat) (pl : Nat → Int32) (τ : wdSt) : Prop := ∃ d, τ.1 6 = nI d ∧ G0 < d ∧ d ≤ 6 ∧ ∃ g, g ≤ L ∧ τ.2 8 (G0 - 1) = nI g ∧ (g < L → ¬ pl g = 0)
theorem wd_goal {a b : Nat} (ha : a ≤ 6) (hb : b ≤ 6) : nI a < nI b ↔ a < b := nI_ltI (by omega) (by omega)
theorem wdDeep_step {L G0 : Nat} {pl : Nat → Int32} {τ : wdSt} (h1 : 1 ≤ G0) (hD : wdDeep L G0 pl τ) (hI : yI L τ) {g : Nat} (hg : g < L) (hc : (yC L τ).1 10 = nI g) (hns : ¬ ((yC L τ).1 5 = 5 ∨ (yC L τ).1 5 = 6)) :
    (¬ nI G0 < (yC L τ).1 6 ↔ ¬ pl g = 0 ∧ ¬ nI G0 < (yC L τ).1 6) ∧ (nI G0 < (yC L τ).1 6 → ∀ τ2 : wdSt, τ2.1 = (yC L τ).1 → (∀ k, ¬ k = 4 → τ2.2 k = (yC L τ).2 k) → wdDeep L G0 pl τ2) := by
  obtain ⟨d, hd, hGd, hd6, x, hx, e8, hpx⟩ := hD
  obtain ⟨-, hL2, -, ⟨c, hc2, hcn⟩, -⟩ := hI
  rw [yC_e hcn (by omega) hd (by omega)] at *
  rcases yCarry_kinds (L := L) (c := c) hd with h | ⟨n9, n8, k6, k8, k10⟩ | ⟨o8, n6, k6, k8, k10⟩ | ⟨o9, n1, k6, k8, k10⟩
  · exact absurd h hns
  · have hlt : nI G0 < (yCarry L c d τ).1 6 := by rw [k6]; exact (wd_goal (by omega) hd6).mpr hGd
    refine ⟨⟨fun h => absurd hlt h, fun h => h.2⟩, fun _ τ2 q1 q2 => ⟨d, by rw [q1]; exact k6, hGd, hd6, x, hx, by rw [q2 8 (by decide), k8]; exact e8, hpx⟩⟩
  · have hlt : nI G0 < (yCarry L c d τ).1 6 := by rw [k6]; exact (wd_goal (by omega) (by omega)).mpr (by omega)
    refine ⟨⟨fun h => absurd hlt h, fun h => h.2⟩, fun _ τ2 q1 q2 => ⟨d + 1, by rw [q1]; exact k6, by omega, by omega, x, hx, by rw [q2 8 (by decide), k8, upd_n _ _ (by omega)]; exact e8, hpx⟩⟩
  · refine ⟨⟨fun h => ⟨?_, h⟩, fun h => h.2⟩, fun hlt τ2 q1 q2 => ?_⟩
    · rw [k6, wd_goal (by omega) (by omega)] at h
      have e : d - 1 - 1 = G0 - 1 := by omega
      rw [k10, e, e8] at hc
      have e2 : x = g := (nI_eq (by omega) (by omega)).mp hc
      subst e2
      exact hpx hg
    · rw [k6, wd_goal (by omega) (by omega)] at hlt
      exact ⟨d - 1, by rw [q1]; exact k6, hlt, by omega, x, hx, by rw [q2 8 (by decide), k8]; exact e8, hpx⟩
theorem wdK_deep {L G0 : Nat} {pl : Nat → Int32} (h1 : 1 ≤ G0) : wdK L pl (nI G0) (nI G0) (wdDeep L G0 pl) := fun _ hD hI _ hg hc hns => wdDeep_step h1 hD hI hg hc hns
/-- the first step: where it can lead is planted; ii: into callees too -/
def wdFst (L c0 d0 : Nat) (ii : Prop) (pl : Nat → Int32) (τ : wdSt) : Prop := τ.1 10 = nI c0 ∧ τ.1 6 = nI d0 ∧ (¬ τ.2 0 c0 = 9 → c0 + 1 < L → ¬ pl (c0 + 1) = 0) ∧ ((τ.2 0 c0 = 5 ∨ τ.2 0 c0 = 6 ∨ τ.2 0 c0 = 7 ∨ (τ.2 0 c0 = 8 ∧ ii)) → ∀ j, j < L → τ.2 2 c0 = nI j → ¬ pl j = 0) ∧ (τ.2 0 c0 = 9 → 2 ≤ d0 → ∀ j, j < L → τ.2 8 (d0 - 1 - 1) = nI j → ¬ pl j = 0)
theorem wdK_over {L c0 d0 : Nat} {pl : Nat → Int32} (hc0 : c0 < L) (h1 : 1 ≤ d0) (h6 : d0 ≤ 6) : wdK L pl (nI d0) (nI d0) (fun τ => wdFst L c0 d0 False pl τ ∨ wdDeep L d0 pl τ) := by
  intro τ hD hI g hg hc hns
  rcases hD with hF | hD
  · obtain ⟨hcn, hd, f1, f2, f3⟩ := hF
    have hL2 : L ≤ 20 := hI.2.1
    rw [yC_e hcn (by omega) hd (by omega)] at *
    rcases yCarry_kinds (L := L) (c := c0) hd with h | ⟨n9, n8, k6, k8, k10⟩ | ⟨o8, n6, k6, k8, k10⟩ | ⟨o9, n1, k6, k8, k10⟩
    · exact absurd h hns
    · have hlt : ¬ nI d0 < (yCarry L c0 d0 τ).1 6 := by rw [k6, wd_goal h6 h6]; omega
      refine ⟨⟨fun h => ⟨?_, h⟩, fun h => h.2⟩, fun h => absurd h hlt⟩
      rcases k10 with k | ⟨ko, k⟩
      · have e2 : c0 + 1 = g := (nI_eq (by omega) (by omega)).mp (k.symm.trans hc)
        subst e2
        exact f1 n9 hg
      · refine f2 ?_ g hg (k.symm.trans hc)
        rcases ko with q | q | q
        · exact Or.inl q
        · exact Or.inr (Or.inl q)
        · exact Or.inr (Or.inr (Or.inl q))
    · have hlt : nI d0 < (yCarry L c0 d0 τ).1 6 := by rw [k6, wd_goal h6 (by omega)]; omega
      refine ⟨⟨fun h => absurd hlt h, fun h => h.2⟩, fun _ τ2 q1 q2 => Or.inr ⟨d0 + 1, by rw [q1]; exact k6, by omega, by omega, c0 + 1, hc0, by rw [q2 8 (by decide), k8, upd_s], fun q => f1 (by rw [o8]; decide) q⟩⟩
    · have hlt : ¬ nI d0 < (yCarry L c0 d0 τ).1 6 := by rw [k6, wd_goal h6 (by omega)]; omega
      exact ⟨⟨fun h => ⟨f3 o9 (by omega) g hg (k10.symm.trans hc), h⟩, fun h => h.2⟩, fun h => absurd h hlt⟩
  · have h := wdDeep_step h1 hD hI hg hc hns
    exact ⟨h.1, fun q τ2 q1 q2 => Or.inr (h.2 q τ2 q1 q2)⟩
theorem wdK_into {L c0 d0 : Nat} {pl : Nat → Int32} (hc0 : c0 < L) (h1 : 1 ≤ d0) (h6 : d0 ≤ 6) : wdK L pl 6 6 (wdFst L c0 d0 True pl) := by
  intro τ hF hI g hg hc hns
  obtain ⟨hcn, hd, f1, f2, f3⟩ := hF
  have hL2 : L ≤ 20 := hI.2.1
  obtain ⟨-, -, ⟨d', hd1', hd6', hd'⟩, -⟩ := (yI_carry hI).resolve_left hns
  have hlt : ¬ (6 : Int32) < (yC L τ).1 6 := by rw [hd']; exact fun q => absurd ((wd_gt d' 6 6 (by omega) (by decide) rfl).mp q) (by omega)
  refine ⟨⟨fun h => ⟨?_, h⟩, fun h => h.2⟩, fun h => absurd h hlt⟩
  rw [yC_e hcn (by omega) hd (by omega)] at *
  rcases yCarry_kinds (L := L) (c := c0) hd with h | ⟨n9, n8, k6, k8, k10⟩ | ⟨o8, n6, k6, k8, k10⟩ | ⟨o9, n1, k6, k8, k10⟩
  · exact absurd h hns
  · rcases k10 with k | ⟨ko, k⟩
    · have e2 : c0 + 1 = g := (nI_eq (by omega) (by omega)).mp (k.symm.trans hc)
      subst e2
      exact f1 n9 hg
    · refine f2 ?_ g hg (k.symm.trans hc)
      rcases ko with q | q | q
      · exact Or.inl q
      · exact Or.inr (Or.inl q)
      · exact Or.inr (Or.inr (Or.inl q))
  · exact f2 (Or.inr (Or.inr (Or.inr ⟨o8, trivial⟩))) g hg (k10.symm.trans hc)
  · exact f3 o9 (by omega) g hg (k10.symm.trans hc)
end
section
/-! planting -/
def wdPt (L : Nat) (v : Int32) (σ σ' : wdSt) : Prop := σ'.1 = σ.1 ∧ (∀ k, ¬ k = 7 → σ'.2 k = σ.2 k) ∧ (∀ j, j < L → v = nI j → ¬ σ'.2 7 j = 0) ∧ ∀ j, ¬ σ.2 7 j = 0 → ¬ σ'.2 7 j = 0
theorem wdPt_of {L : Nat} {v : Int32} {σ σ' : wdSt} (hL2 : L ≤ 20) (h : (∃ j, j < L ∧ v = nI j ∧ σ' = wdA σ 7 j 1) ∨ ((∀ j, j < L → v ≠ nI j) ∧ σ' = σ)) : wdPt L v σ σ' := by
  rcases h with ⟨j, hj, e, rfl⟩ | ⟨h, rfl⟩
  · refine ⟨rfl, fun k hk => wd2_n _ _ _ hk, fun i hi ei => ?_, fun i hi => ?_⟩
    · have e2 : j = i := (nI_eq (by omega) (by omega)).mp (e.symm.trans ei)
      rw [wd2_a, e2, upd_s]
      decide
    · rw [wd2_a]
      by_cases q : i = j
      · rw [q, upd_s]
        decide
      · rw [upd_n _ _ q]
        exact hi
  · exact ⟨rfl, fun _ _ => rfl, fun j hj e => absurd e (h j hj), fun _ h => h⟩
/-- plantNext(into) at instruction c0 with operation k, d frames; g: where the frame below goes on -/
def xPlN (L c0 d k g : Nat) (into : Int32) (σ σ' : wdSt) : Prop := σ'.1 = σ.1 ∧ (∀ j, ¬ j = 7 → σ'.2 j = σ.2 j) ∧ (k = 9 → 2 ≤ d → g < L → ¬ σ'.2 7 g = 0) ∧ (¬ k = 9 → c0 + 1 < L → ¬ σ'.2 7 (c0 + 1) = 0) ∧ (((5 ≤ k ∧ k ≤ 7) ∨ (k = 8 ∧ ¬ into = 0)) → ∀ j, j < L → σ.2 3 c0 = nI j → ¬ σ'.2 7 j = 0)
theorem xPlN_90 {L c0 d g : Nat} {into : Int32} {σ : wdSt} (hd : ¬ 2 ≤ d) : xPlN L c0 d 9 g into σ σ := ⟨rfl, fun _ _ => rfl, fun _ h => absurd h hd, fun h => absurd rfl h, fun h => by omega⟩
theorem xPlN_9 {L c0 d g : Nat} {into : Int32} {σ σ' : wdSt} (h : wdPt L (nI g) σ σ') : xPlN L c0 d 9 g into σ σ' := ⟨h.1, h.2.1, fun _ _ hg => h.2.2.1 g hg rfl, fun h => absurd rfl h, fun h => by omega⟩
theorem xPlN_1 {L c0 d k g : Nat} {into : Int32} {σ σ' : wdSt} (h : wdPt L (nI (c0 + 1)) σ σ') (h9 : ¬ k = 9) (h5 : ¬ ((5 ≤ k ∧ k ≤ 7) ∨ (k = 8 ∧ ¬ into = 0))) : xPlN L c0 d k g into σ σ' := ⟨h.1, h.2.1, fun q => absurd q h9, fun _ q => h.2.2.1 _ q rfl, fun q => absurd q h5⟩
theorem xPlN_2 {L c0 d k g : Nat} {into : Int32} {σ σ1 σ' : wdSt} (h : wdPt L (nI (c0 + 1)) σ σ1) (h2 : wdPt L (σ.2 3 c0) σ1 σ') (h9 : ¬ k = 9) : xPlN L c0 d k g into σ σ' := ⟨h2.1.trans h.1, fun j hj => (h2.2.1 j hj).trans (h.2.1 j hj), fun q => absurd q h9, fun _ q => h2.2.2.2 _ (h.2.2.1 _ q rfl), fun _ j hj e => h2.2.2.1 j hj e⟩
theorem wd_keq {k j : Nat} {x y : Int32} (hx : x = nI k) (hk : k ≤ 10) (hj : j ≤ 10) (hy : nI j = y) : x = y ↔ k = j := by
  rw [hx, ← hy]
  exact nI_eq (by omega) (by omega)
theorem xPlN_fst {L c0 d k g : Nat} {into : Int32} {σ σ' τ : wdSt} {ii : Prop} (h : xPlN L c0 d k g into σ σ') (hii : ii → ¬ into = 0) (hk : τ.2 0 c0 = nI k) (hk2 : k ≤ 10) (hcn : τ.1 10 = nI c0) (hd : τ.1 6 = nI d) (hg : 2 ≤ d → g ≤ L ∧ τ.2 8 (d - 1 - 1) = nI g) (hs : σ.2 3 = τ.2 2) (hL2 : L ≤ 20) : wdFst L c0 d ii (σ'.2 7) τ := by
  obtain ⟨-, -, h9, hn, hj⟩ := h
  refine ⟨hcn, hd, fun q => hn (fun e => q ((wd_keq hk hk2 (j := 9) (by omega) rfl).mpr e)), fun q => ?_, fun q h2 j hjL e => ?_⟩
  · rw [← hs]
    refine hj ?_
    rcases q with q | q | q | ⟨q, qi⟩
    · have := (wd_keq hk hk2 (j := 5) (by omega) rfl).mp q
      omega
    · have := (wd_keq hk hk2 (j := 6) (by omega) rfl).mp q
      omega
    · have := (wd_keq hk hk2 (j := 7) (by omega) rfl).mp q
      omega
    · exact Or.inr ⟨(wd_keq hk hk2 (j := 8) (by omega) rfl).mp q, hii qi⟩
  · obtain ⟨g1, g2⟩ := hg h2
    have e2 : g = j := (nI_eq (by omega) (by omega)).mp (g2.symm.trans e)
    subst e2
    exact h9 ((wd_keq hk hk2 (j := 9) (by omega) rfl).mp q) h2 hjL
/-- where the frame below goes on -/
theorem wdGo_top {L d : Nat} {σ τ : wdSt} (hL2 : L ≤ 20) (h : wdPd L d (wdFl σ) σ τ) : ∃ b g, (2 ≤ d → σ.2 20 (d - 1) = nI b ∧ b < 48 ∧ σ.2 10 b = nI g) ∧ (2 ≤ d → g ≤ L ∧ τ.2 8 (d - 1 - 1) = nI g) := by
  by_cases h2 : 2 ≤ d
  · obtain ⟨g, hg, e8, e20⟩ := h.2.2.1 (d - 1 - 1) (by omega)
    rw [show d - 1 - 1 + 1 = d - 1 by omega] at e20
    exact ⟨wdE (wdFl σ) g, g, fun _ => ⟨e20, Nat.lt_of_le_of_lt (wdE48 hL2 hg) (by decide), h.2.1.1.2.2.1 g hg⟩, fun _ => ⟨hg, e8⟩⟩
  · exact ⟨0, 0, fun q => absurd q h2, fun q => absurd q h2⟩
/-- a debugger that can run -/
theorem wdR_run {L d : Nat} {σ τ : wdSt} (h : wdR L d σ τ) (hz : ¬ (τ.1 5 = 0 ∨ τ.1 5 = 5 ∨ τ.1 5 = 6)) : wdPd L d (wdFl σ) σ τ ∧ σ.1 16 = 0 ∧ ∃ c0, c0 < L ∧ τ.1 10 = nI c0 := by
  obtain ⟨hRS, h14, hpl, hq⟩ := h
  rcases hq with hq | ⟨-, hPd⟩
  · exact absurd (Or.inl hq.1) hz
  · obtain ⟨-, -, -, g, hg, -, hl⟩ := id hPd
    rcases hl with ⟨h16, hc, hgL⟩ | ⟨-, -, h6⟩
    · exact ⟨hPd, h16, g, hgL, hc⟩
    · exact absurd (Or.inr (Or.inr h6)) hz
theorem wdEnd_R {L d : Nat} {σ τ : wdSt} (h : wdEnd L d σ τ) (hpl : ∀ i, i < 20 → σ.2 7 i = 0) : wdR L d σ τ := ⟨h.1, h.2.1, hpl, Or.inr ⟨h.2.2.1, h.2.2.2⟩⟩
theorem wdRS_rw {L d a g : Nat} {b G : Nat → Nat} {σ σ' τ : wdSt} (_ : wdRWp L a g d b G σ) (hk : ∀ k, ¬ k = 15 → σ'.1 k = σ.1 k) (h : wdRWq L g d G σ σ') (hRS : wdRS L d σ τ) : wdRS L d σ' τ :=
  wdRS_congr (fun k hm => hk k (fun e => by subst e; simp at hm)) (fun k hm => h.2.1 k (by simp at hm ⊢; omega)) hRS
/-- from a running model by its relation -/
theorem wdR_yI {L d : Nat} {σ τ : wdSt} (h : wdR L d σ τ) (hz : ¬ (τ.1 5 = 0 ∨ τ.1 5 = 5 ∨ τ.1 5 = 6)) : yI L τ := by
  obtain ⟨hPd, -, c0, hc0, hcn⟩ := wdR_run h hz
  exact ⟨h.1.1.2.1, h.1.1.2.2, ⟨d, hPd.1, h.1.2.1.2.2, h.1.2.1.2.1⟩, ⟨c0, hc0, hcn⟩, h.1.2.2.2.2.2.2.2⟩
end
section
/-! the steps: written by gen/gen_step.py -/
set_option maxHeartbeats 4000000 in
set_option maxRecDepth 100000 in
/-- plantNext(into) -/
theorem xc_plantNext (l : Launch) (D : va_G) (q : Nat → Nat) (cI cZ : ClassId) (sz : Nat) (σ : wdSt) (L : Nat) (hL : σ.1 0 = nI L) (hL2 : L ≤ 20) (a c0 d k b g : Nat) (ha : σ.1 15 = nI a) (ha2 : a < 48) (hi : σ.2 10 a = nI c0) (hc0 : c0 < L) (ho : σ.2 1 c0 = nI k) (hk : k ≤ 10) (hd : σ.1 18 = nI d) (hd1 : 1 ≤ d) (hd6 : d ≤ 6) (hb2 : 2 ≤ d → σ.2 20 (d - 1) = nI b ∧ b < 48 ∧ σ.2 10 b = nI g) (p1 : Int32) : x_MV l yX0_plantNext cX0_plantNext 4 2 43 D q cI cZ sz σ [.int p1] (fun σ' => xPlN L c0 d k g p1 σ σ') := by
  refine x_open (by decide) rfl (Nat.le_of_ble_eq_true rfl) ?_
  intro p e s m below meth c S hr hlk J ls hl
  have hx := S.1
  have hb := S.2.1
  have hl : lv_has ls 4 [(0, .ref (q 0)), (1, .int p1)] := hl
  generalize s.heap = H at J ⊢
  generalize ([] : List Loc) = locs at J ⊢
  rcases (show k = 9 ∨ k ≤ 4 ∨ (5 ≤ k ∧ k ≤ 7) ∨ k = 8 ∨ k = 10 by omega) with rfl | hk4 | hk57 | rfl | rfl
  · refine lv_aload_n hx hb dX0_plantNext_0 rfl (lv_at hl 0 rfl) ?_
    refine x_r10 S J dX0_plantNext_1 ?_
    refine lv_aload_n hx hb dX0_plantNext_4 rfl (lv_at hl 0 rfl) ?_
    refine x_g15 (v := nI a) S J ha dX0_plantNext_5 ?_
    refine x_l10 (v := nI c0) S J a ha2 hi dX0_plantNext_8 ?_
    refine lv_istore_n (lv' := [(2, .int (nI c0)), (0, .ref (q 0)), (1, .int p1)]) hx hb dX0_plantNext_9 rfl hl (by decide) rfl (fun ls hl => ?_)
    refine lv_aload_n hx hb dX0_plantNext_10 rfl (lv_at hl 1 rfl) ?_
    refine x_r1 S J dX0_plantNext_11 ?_
    refine lv_iload_n hx hb dX0_plantNext_14 rfl (lv_at hl 0 rfl) ?_
    refine x_l1 (v := nI 9) S J c0 (by omega) ho dX0_plantNext_15 ?_
    refine lv_istore_n (lv' := [(3, .int (nI 9)), (2, .int (nI c0)), (0, .ref (q 0)), (1, .int p1)]) hx hb dX0_plantNext_16 rfl hl (by decide) rfl (fun ls hl => ?_)
    refine lv_iload_n hx hb dX0_plantNext_17 rfl (lv_at hl 0 rfl) ?_
    refine lv_bipush (v := 9) hx hb dX0_plantNext_18 cb_9 ?_
    refine lv_icmp_ne (tgt := 52) hx hb dX0_plantNext_20 (by decide) (fun c_20 => ?_) (fun c_20 => ?_)
    · exact absurd c_20 (by decide)
    refine lv_aload_n hx hb dX0_plantNext_23 rfl (lv_at hl 2 rfl) ?_
    refine x_g18 (v := nI d) S J hd dX0_plantNext_24 ?_
    refine lv_iconst (v := 1) hx hb dX0_plantNext_27 ci_1 ?_
    refine lv_icmp_le (tgt := 51) hx hb dX0_plantNext_28 (by decide) (fun c_28 => ?_) (fun c_28 => ?_)
    · exact x_vret S hr hlk J (xPlN_90 (fun h => absurd ((wd_le d 1 1 (by omega) (by decide) rfl).mp c_28) (by omega))) dX0_plantNext_51
    · have hd2 : 2 ≤ d := Nat.lt_of_not_le (fun h => c_28 ((wd_le d 1 1 (by omega) (by decide) rfl).mpr h))
      obtain ⟨hb3, hb4, hb5⟩ := hb2 hd2
      refine lv_aload_n hx hb dX0_plantNext_31 rfl (lv_at hl 2 rfl) ?_
      refine lv_aload_n hx hb dX0_plantNext_32 rfl (lv_at hl 2 rfl) ?_
      refine x_r10 S J dX0_plantNext_33 ?_
      refine lv_aload_n hx hb dX0_plantNext_36 rfl (lv_at hl 2 rfl) ?_
      refine x_r20 S J dX0_plantNext_37 ?_
      refine lv_aload_n hx hb dX0_plantNext_40 rfl (lv_at hl 2 rfl) ?_
      refine x_g18 (v := nI d) S J hd dX0_plantNext_41 ?_
      refine lv_iconst (v := 1) hx hb dX0_plantNext_44 ci_1 ?_
      refine lv_isub hx hb dX0_plantNext_45 ?_
      refine wd_top (nI (d - 1)) (wd_pred hd1) ?_
      refine x_l20 (v := nI b) S J (d - 1) (by omega) hb3 dX0_plantNext_46 ?_
      refine x_l10 (v := nI g) S J b hb4 hb5 dX0_plantNext_47 ?_
      refine x_cv S J (xc_plant l D q cI cZ _ (σ) L hL hL2 (nI g)) (xk_plant S.2.2.2.2 ⟨Nat.le_of_ble_eq_true rfl, Nat.le_of_ble_eq_true rfl⟩) rfl hl.1 rfl (Nat.le_of_ble_eq_true rfl) dX0_plantNext_48 ⟨Nat.zero_le _, Nat.zero_le _⟩ (fun s1 H locs w_s1 J => ?_)
      have w_s1 := wdPt_of hL2 w_s1
      exact x_vret S hr hlk J (xPlN_9 w_s1) dX0_plantNext_51
  · refine lv_aload_n hx hb dX0_plantNext_0 rfl (lv_at hl 0 rfl) ?_
    refine x_r10 S J dX0_plantNext_1 ?_
    refine lv_aload_n hx hb dX0_plantNext_4 rfl (lv_at hl 0 rfl) ?_
    refine x_g15 (v := nI a) S J ha dX0_plantNext_5 ?_
    refine x_l10 (v := nI c0) S J a ha2 hi dX0_plantNext_8 ?_
    refine lv_istore_n (lv' := [(2, .int (nI c0)), (0, .ref (q 0)), (1, .int p1)]) hx hb dX0_plantNext_9 rfl hl (by decide) rfl (fun ls hl => ?_)
    refine lv_aload_n hx hb dX0_plantNext_10 rfl (lv_at hl 1 rfl) ?_
    refine x_r1 S J dX0_plantNext_11 ?_
    refine lv_iload_n hx hb dX0_plantNext_14 rfl (lv_at hl 0 rfl) ?_
    refine x_l1 (v := nI k) S J c0 (by omega) ho dX0_plantNext_15 ?_
    refine lv_istore_n (lv' := [(3, .int (nI k)), (2, .int (nI c0)), (0, .ref (q 0)), (1, .int p1)]) hx hb dX0_plantNext_16 rfl hl (by decide) rfl (fun ls hl => ?_)
    refine lv_iload_n hx hb dX0_plantNext_17 rfl (lv_at hl 0 rfl) ?_
    refine lv_bipush (v := 9) hx hb dX0_plantNext_18 cb_9 ?_
    refine lv_icmp_ne (tgt := 52) hx hb dX0_plantNext_20 (by decide) (fun c_20 => ?_) (fun c_20 => by exact absurd ((wd_eq k 9 9 (by omega) (by decide) rfl).mp c_20) (by omega))
    refine lv_aload_n hx hb dX0_plantNext_52 rfl (lv_at hl 2 rfl) ?_
    refine lv_iload_n hx hb dX0_plantNext_53 rfl (lv_at hl 1 rfl) ?_
    refine lv_iconst (v := 1) hx hb dX0_plantNext_54 ci_1 ?_
    refine lv_iadd hx hb dX0_plantNext_55 ?_
    refine wd_top (nI (c0 + 1)) (nI_1 _) ?_
    refine x_cv S J (xc_plant l D q cI cZ _ (σ) L hL hL2 (nI (c0 + 1))) (xk_plant S.2.2.2.2 ⟨Nat.le_of_ble_eq_true rfl, Nat.le_of_ble_eq_true rfl⟩) rfl hl.1 rfl (Nat.le_of_ble_eq_true rfl) dX0_plantNext_56 ⟨Nat.zero_le _, Nat.zero_le _⟩ (fun s1 H locs w_s1 J => ?_)
    have w_s1 := wdPt_of hL2 w_s1
    refine lv_iload_n hx hb dX0_plantNext_59 rfl (lv_at hl 0 rfl) ?_
    refine lv_iconst (v := 5) hx hb dX0_plantNext_60 ci_5 ?_
    refine lv_icmp_lt (tgt := 70) hx hb dX0_plantNext_61 (by decide) (fun c_61 => ?_) (fun c_61 => absurd ((wd_lt k 5 5 (by omega) (by decide) rfl).mpr (by omega)) c_61)
    refine lv_iload_n hx hb dX0_plantNext_70 rfl (lv_at hl 0 rfl) ?_
    refine lv_bipush (v := 8) hx hb dX0_plantNext_71 cb_8 ?_
    refine lv_icmp_ne (tgt := 90) hx hb dX0_plantNext_73 (by decide) (fun c_73 => ?_) (fun c_73 => by exact absurd ((wd_eq k 8 8 (by omega) (by decide) rfl).mp c_73) (by omega))
    exact x_vret S hr hlk J (xPlN_1 w_s1 (by omega) (by omega)) dX0_plantNext_90
  · refine lv_aload_n hx hb dX0_plantNext_0 rfl (lv_at hl 0 rfl) ?_
    refine x_r10 S J dX0_plantNext_1 ?_
    refine lv_aload_n hx hb dX0_plantNext_4 rfl (lv_at hl 0 rfl) ?_
    refine x_g15 (v := nI a) S J ha dX0_plantNext_5 ?_
    refine x_l10 (v := nI c0) S J a ha2 hi dX0_plantNext_8 ?_
    refine lv_istore_n (lv' := [(2, .int (nI c0)), (0, .ref (q 0)), (1, .int p1)]) hx hb dX0_plantNext_9 rfl hl (by decide) rfl (fun ls hl => ?_)
    refine lv_aload_n hx hb dX0_plantNext_10 rfl (lv_at hl 1 rfl) ?_
    refine x_r1 S J dX0_plantNext_11 ?_
    refine lv_iload_n hx hb dX0_plantNext_14 rfl (lv_at hl 0 rfl) ?_
    refine x_l1 (v := nI k) S J c0 (by omega) ho dX0_plantNext_15 ?_
    refine lv_istore_n (lv' := [(3, .int (nI k)), (2, .int (nI c0)), (0, .ref (q 0)), (1, .int p1)]) hx hb dX0_plantNext_16 rfl hl (by decide) rfl (fun ls hl => ?_)
    refine lv_iload_n hx hb dX0_plantNext_17 rfl (lv_at hl 0 rfl) ?_
    refine lv_bipush (v := 9) hx hb dX0_plantNext_18 cb_9 ?_
    refine lv_icmp_ne (tgt := 52) hx hb dX0_plantNext_20 (by decide) (fun c_20 => ?_) (fun c_20 => by exact absurd ((wd_eq k 9 9 (by omega) (by decide) rfl).mp c_20) (by omega))
    refine lv_aload_n hx hb dX0_plantNext_52 rfl (lv_at hl 2 rfl) ?_
    refine lv_iload_n hx hb dX0_plantNext_53 rfl (lv_at hl 1 rfl) ?_
    refine lv_iconst (v := 1) hx hb dX0_plantNext_54 ci_1 ?_
    refine lv_iadd hx hb dX0_plantNext_55 ?_
    refine wd_top (nI (c0 + 1)) (nI_1 _) ?_
    refine x_cv S J (xc_plant l D q cI cZ _ (σ) L hL hL2 (nI (c0 + 1))) (xk_plant S.2.2.2.2 ⟨Nat.le_of_ble_eq_true rfl, Nat.le_of_ble_eq_true rfl⟩) rfl hl.1 rfl (Nat.le_of_ble_eq_true rfl) dX0_plantNext_56 ⟨Nat.zero_le _, Nat.zero_le _⟩ (fun s1 H locs w_s1 J => ?_)
    have w_s1 := wdPt_of hL2 w_s1
    refine lv_iload_n hx hb dX0_plantNext_59 rfl (lv_at hl 0 rfl) ?_
    refine lv_iconst (v := 5) hx hb dX0_plantNext_60 ci_5 ?_
    refine lv_icmp_lt (tgt := 70) hx hb dX0_plantNext_61 (by decide) (fun c_61 => ?_) (fun c_61 => ?_)
    · exact absurd c_61 (fun h => absurd ((wd_lt k 5 5 (by omega) (by decide) rfl).mp h) (by omega))
    refine lv_iload_n hx hb dX0_plantNext_64 rfl (lv_at hl 0 rfl) ?_
    refine lv_bipush (v := 7) hx hb dX0_plantNext_65 cb_7 ?_
    refine lv_icmp_le (tgt := 80) hx hb dX0_plantNext_67 (by decide) (fun c_67 => ?_) (fun c_67 => absurd ((wd_le k 7 7 (by omega) (by decide) rfl).mpr (by omega)) c_67)
    refine lv_aload_n hx hb dX0_plantNext_80 rfl (lv_at hl 2 rfl) ?_
    refine lv_aload_n hx hb dX0_plantNext_81 rfl (lv_at hl 2 rfl) ?_
    refine x_r3 S J dX0_plantNext_82 ?_
    refine lv_iload_n hx hb dX0_plantNext_85 rfl (lv_at hl 1 rfl) ?_
    refine x_l3 (v := σ.2 3 c0) S J c0 (by omega) (by rw [w_s1.2.1 3 (by decide)]) dX0_plantNext_86 ?_
    refine x_cv S J (xc_plant l D q cI cZ _ (s1) L (by rw [w_s1.1]; exact hL) hL2 (σ.2 3 c0)) (xk_plant S.2.2.2.2 ⟨Nat.le_of_ble_eq_true rfl, Nat.le_of_ble_eq_true rfl⟩) rfl hl.1 rfl (Nat.le_of_ble_eq_true rfl) dX0_plantNext_87 ⟨Nat.zero_le _, Nat.zero_le _⟩ (fun s2 H locs w_s2 J => ?_)
    have w_s2 := wdPt_of hL2 w_s2
    exact x_vret S hr hlk J (xPlN_2 w_s1 w_s2 (by omega)) dX0_plantNext_90
  · refine lv_aload_n hx hb dX0_plantNext_0 rfl (lv_at hl 0 rfl) ?_
    refine x_r10 S J dX0_plantNext_1 ?_
    refine lv_aload_n hx hb dX0_plantNext_4 rfl (lv_at hl 0 rfl) ?_
    refine x_g15 (v := nI a) S J ha dX0_plantNext_5 ?_
    refine x_l10 (v := nI c0) S J a ha2 hi dX0_plantNext_8 ?_
    refine lv_istore_n (lv' := [(2, .int (nI c0)), (0, .ref (q 0)), (1, .int p1)]) hx hb dX0_plantNext_9 rfl hl (by decide) rfl (fun ls hl => ?_)
    refine lv_aload_n hx hb dX0_plantNext_10 rfl (lv_at hl 1 rfl) ?_
    refine x_r1 S J dX0_plantNext_11 ?_
    refine lv_iload_n hx hb dX0_plantNext_14 rfl (lv_at hl 0 rfl) ?_
    refine x_l1 (v := nI 8) S J c0 (by omega) ho dX0_plantNext_15 ?_
    refine lv_istore_n (lv' := [(3, .int (nI 8)), (2, .int (nI c0)), (0, .ref (q 0)), (1, .int p1)]) hx hb dX0_plantNext_16 rfl hl (by decide) rfl (fun ls hl => ?_)
    refine lv_iload_n hx hb dX0_plantNext_17 rfl (lv_at hl 0 rfl) ?_
    refine lv_bipush (v := 9) hx hb dX0_plantNext_18 cb_9 ?_
    refine lv_icmp_ne (tgt := 52) hx hb dX0_plantNext_20 (by decide) (fun c_20 => ?_) (fun c_20 => by exact absurd c_20 (by decide))
    refine lv_aload_n hx hb dX0_plantNext_52 rfl (lv_at hl 2 rfl) ?_
    refine lv_iload_n hx hb dX0_plantNext_53 rfl (lv_at hl 1 rfl) ?_
    refine lv_iconst (v := 1) hx hb dX0_plantNext_54 ci_1 ?_
    refine lv_iadd hx hb dX0_plantNext_55 ?_
    refine wd_top (nI (c0 + 1)) (nI_1 _) ?_
    refine x_cv S J (xc_plant l D q cI cZ _ (σ) L hL hL2 (nI (c0 + 1))) (xk_plant S.2.2.2.2 ⟨Nat.le_of_ble_eq_true rfl, Nat.le_of_ble_eq_true rfl⟩) rfl hl.1 rfl (Nat.le_of_ble_eq_true rfl) dX0_plantNext_56 ⟨Nat.zero_le _, Nat.zero_le _⟩ (fun s1 H locs w_s1 J => ?_)
    have w_s1 := wdPt_of hL2 w_s1
    refine lv_iload_n hx hb dX0_plantNext_59 rfl (lv_at hl 0 rfl) ?_
    refine lv_iconst (v := 5) hx hb dX0_plantNext_60 ci_5 ?_
    refine lv_icmp_lt (tgt := 70) hx hb dX0_plantNext_61 (by decide) (fun c_61 => ?_) (fun c_61 => ?_)
    · exact absurd c_61 (by decide)
    refine lv_iload_n hx hb dX0_plantNext_64 rfl (lv_at hl 0 rfl) ?_
    refine lv_bipush (v := 7) hx hb dX0_plantNext_65 cb_7 ?_
    refine lv_icmp_le (tgt := 80) hx hb dX0_plantNext_67 (by decide) (fun c_67 => ?_) (fun c_67 => ?_)
    · exact absurd c_67 (by decide)
    refine lv_iload_n hx hb dX0_plantNext_70 rfl (lv_at hl 0 rfl) ?_
    refine lv_bipush (v := 8) hx hb dX0_plantNext_71 cb_8 ?_
    refine lv_icmp_ne (tgt := 90) hx hb dX0_plantNext_73 (by decide) (fun c_73 => ?_) (fun c_73 => ?_)
    · exact absurd c_73 (by decide)
    refine lv_iload_n hx hb dX0_plantNext_76 rfl (lv_at hl 3 rfl) ?_
    refine lv_if_eq (tgt := 90) hx hb dX0_plantNext_77 (by decide) (fun c_77 => ?_) (fun c_77 => ?_)
    · exact x_vret S hr hlk J (xPlN_1 w_s1 (by omega) (fun h => h.elim (fun q => absurd q.2 (by decide)) (fun q => q.2 c_77))) dX0_plantNext_90
    · refine lv_aload_n hx hb dX0_plantNext_80 rfl (lv_at hl 2 rfl) ?_
      refine lv_aload_n hx hb dX0_plantNext_81 rfl (lv_at hl 2 rfl) ?_
      refine x_r3 S J dX0_plantNext_82 ?_
      refine lv_iload_n hx hb dX0_plantNext_85 rfl (lv_at hl 1 rfl) ?_
      refine x_l3 (v := σ.2 3 c0) S J c0 (by omega) (by rw [w_s1.2.1 3 (by decide)]) dX0_plantNext_86 ?_
      refine x_cv S J (xc_plant l D q cI cZ _ (s1) L (by rw [w_s1.1]; exact hL) hL2 (σ.2 3 c0)) (xk_plant S.2.2.2.2 ⟨Nat.le_of_ble_eq_true rfl, Nat.le_of_ble_eq_true rfl⟩) rfl hl.1 rfl (Nat.le_of_ble_eq_true rfl) dX0_plantNext_87 ⟨Nat.zero_le _, Nat.zero_le _⟩ (fun s2 H locs w_s2 J => ?_)
      have w_s2 := wdPt_of hL2 w_s2
      exact x_vret S hr hlk J (xPlN_2 w_s1 w_s2 (by omega)) dX0_plantNext_90
  · refine lv_aload_n hx hb dX0_plantNext_0 rfl (lv_at hl 0 rfl) ?_
    refine x_r10 S J dX0_plantNext_1 ?_
    refine lv_aload_n hx hb dX0_plantNext_4 rfl (lv_at hl 0 rfl) ?_
    refine x_g15 (v := nI a) S J ha dX0_plantNext_5 ?_
    refine x_l10 (v := nI c0) S J a ha2 hi dX0_plantNext_8 ?_
    refine lv_istore_n (lv' := [(2, .int (nI c0)), (0, .ref (q 0)), (1, .int p1)]) hx hb dX0_plantNext_9 rfl hl (by decide) rfl (fun ls hl => ?_)
    refine lv_aload_n hx hb dX0_plantNext_10 rfl (lv_at hl 1 rfl) ?_
    refine x_r1 S J dX0_plantNext_11 ?_
    refine lv_iload_n hx hb dX0_plantNext_14 rfl (lv_at hl 0 rfl) ?_
    refine x_l1 (v := nI 10) S J c0 (by omega) ho dX0_plantNext_15 ?_
    refine lv_istore_n (lv' := [(3, .int (nI 10)), (2, .int (nI c0)), (0, .ref (q 0)), (1, .int p1)]) hx hb dX0_plantNext_16 rfl hl (by decide) rfl (fun ls hl => ?_)
    refine lv_iload_n hx hb dX0_plantNext_17 rfl (lv_at hl 0 rfl) ?_
    refine lv_bipush (v := 9) hx hb dX0_plantNext_18 cb_9 ?_
    refine lv_icmp_ne (tgt := 52) hx hb dX0_plantNext_20 (by decide) (fun c_20 => ?_) (fun c_20 => by exact absurd c_20 (by decide))
    refine lv_aload_n hx hb dX0_plantNext_52 rfl (lv_at hl 2 rfl) ?_
    refine lv_iload_n hx hb dX0_plantNext_53 rfl (lv_at hl 1 rfl) ?_
    refine lv_iconst (v := 1) hx hb dX0_plantNext_54 ci_1 ?_
    refine lv_iadd hx hb dX0_plantNext_55 ?_
    refine wd_top (nI (c0 + 1)) (nI_1 _) ?_
    refine x_cv S J (xc_plant l D q cI cZ _ (σ) L hL hL2 (nI (c0 + 1))) (xk_plant S.2.2.2.2 ⟨Nat.le_of_ble_eq_true rfl, Nat.le_of_ble_eq_true rfl⟩) rfl hl.1 rfl (Nat.le_of_ble_eq_true rfl) dX0_plantNext_56 ⟨Nat.zero_le _, Nat.zero_le _⟩ (fun s1 H locs w_s1 J => ?_)
    have w_s1 := wdPt_of hL2 w_s1
    refine lv_iload_n hx hb dX0_plantNext_59 rfl (lv_at hl 0 rfl) ?_
    refine lv_iconst (v := 5) hx hb dX0_plantNext_60 ci_5 ?_
    refine lv_icmp_lt (tgt := 70) hx hb dX0_plantNext_61 (by decide) (fun c_61 => ?_) (fun c_61 => ?_)
    · exact absurd c_61 (by decide)
    refine lv_iload_n hx hb dX0_plantNext_64 rfl (lv_at hl 0 rfl) ?_
    refine lv_bipush (v := 7) hx hb dX0_plantNext_65 cb_7 ?_
    refine lv_icmp_le (tgt := 80) hx hb dX0_plantNext_67 (by decide) (fun c_67 => ?_) (fun c_67 => ?_)
    · exact absurd c_67 (by decide)
    refine lv_iload_n hx hb dX0_plantNext_70 rfl (lv_at hl 0 rfl) ?_
    refine lv_bipush (v := 8) hx hb dX0_plantNext_71 cb_8 ?_
    refine lv_icmp_ne (tgt := 90) hx hb dX0_plantNext_73 (by decide) (fun c_73 => ?_) (fun c_73 => by exact absurd c_73 (by decide))
    exact x_vret S hr hlk J (xPlN_1 w_s1 (by omega) (by omega)) dX0_plantNext_90
set_option maxHeartbeats 4000000 in
set_option maxRecDepth 100000 in
/-- runPlanted(max) -/
theorem xc_runPlanted (l : Launch) (D : va_G) (q : Nat → Nat) (cI cZ : ClassId) (sz : Nat) (σ : wdSt) (L d c0 : Nat) (φ : Nat → Nat) (hφ : ∀ i, φ i ≤ 1) (τ : wdSt) (gd G : Int32) (K : wdSt → Prop) (hK : wdK L (σ.2 7) gd G K) (mx : Nat) (hmx : mx ≤ 300) (hmx1 : 1 ≤ mx) (hRS : wdRS L d σ τ) (hPd : wdPd L d φ σ τ) (hlo : σ.1 16 = 0) (hcn : τ.1 10 = nI c0) (hc0 : c0 < L) (hgd : σ.1 8 = gd) (hKt : K τ) (hz : ¬ (τ.1 5 = 0 ∨ τ.1 5 = 5 ∨ τ.1 5 = 6)) (hst : σ.1 14 = τ.1 5) : x_MI l yX0_runPlanted cX0_runPlanted 3 .int 4 92 D q cI cZ sz σ [.int (nI mx)] (fun r σ' => r = (yLoop L G (nI mx) 300 1 τ).1 ∧ ∃ d', wdR L d' σ' (yLoop L G (nI mx) 300 1 τ).2) := by
  refine x_open (by decide) rfl (Nat.le_of_ble_eq_true rfl) ?_
  intro p e s m below meth c S hr hlk J ls hl
  have hx := S.1
  have hb := S.2.1
  have hl : lv_has ls 3 [(0, .ref (q 0)), (1, .int (nI mx))] := hl
  generalize s.heap = H at J ⊢
  generalize ([] : List Loc) = locs at J ⊢
  have hL2 : L ≤ 20 := hRS.1.2.2
  have hst0 : ¬ σ.1 14 = 0 := by rw [hst]; exact fun h => hz (Or.inl h)
  obtain ⟨a, g, b, Gf, hp, hq, hg⟩ := rw_pre hφ hL2 hRS.2.1.1 hRS.2.1.2.2 hPd
  refine lv_aload_n hx hb dX0_runPlanted_0 rfl (lv_at hl 0 rfl) ?_
  refine x_cv S J (xc_reweave l D q cI cZ _ σ L hRS.1.1 hL2 a g d b Gf (fun _ => hp)) (xk_reweave S.2.2.2.2 ⟨Nat.le_of_ble_eq_true rfl, Nat.le_of_ble_eq_true rfl⟩) rfl hl.1 rfl (Nat.le_of_ble_eq_true rfl) dX0_runPlanted_1 ⟨Nat.zero_le _, Nat.zero_le _⟩ (fun s1 H locs w_s1 J => ?_)
  have w1 : wdRWq L g d Gf σ s1 := (w_s1.resolve_left (fun h => hst0 h.1)).2
  obtain ⟨-, hPd1, hk1⟩ := rw_post hp hq hg w1
  have hRS1 : wdRS L d s1 τ := wdRS_rw hp hk1 w1 hRS
  refine lv_aload_n hx hb dX0_runPlanted_4 rfl (lv_at hl 0 rfl) ?_
  refine lv_iload_n hx hb dX0_runPlanted_5 rfl (lv_at hl 1 rfl) ?_
  refine x_ci S J (xc_run l D q cI cZ _ s1 L d c0 τ gd G K (by rw [w1.2.1 7 (by decide)]; exact hK) mx hmx hmx1 hRS1 hPd1 (by rw [hk1 16 (by decide)]; exact hlo) hcn hc0 (by rw [hk1 8 (by decide)]; exact hgd) hKt hz) (xk_run S.2.2.2.2 ⟨Nat.le_of_ble_eq_true rfl, Nat.le_of_ble_eq_true rfl⟩) rfl hl.1 rfl (Nat.le_of_ble_eq_true rfl) dX0_runPlanted_6 ⟨Nat.zero_le _, Nat.zero_le _⟩ (fun r_s2 s2 H locs w_s2 J => ?_)
  obtain ⟨er, ⟨d', eRS, e14, e0, ePd⟩, -⟩ := w_s2
  refine lv_istore_n (lv' := [(2, .int r_s2), (0, .ref (q 0)), (1, .int (nI mx))]) hx hb dX0_runPlanted_9 rfl hl (by decide) rfl (fun ls hl => ?_)
  refine lv_aload_n hx hb dX0_runPlanted_10 rfl (lv_at hl 1 rfl) ?_
  refine x_cv S J (xc_unplantAll l D q cI cZ _ s2) (xk_unplantAll S.2.2.2.2 ⟨Nat.le_of_ble_eq_true rfl, Nat.le_of_ble_eq_true rfl⟩) rfl hl.1 rfl (Nat.le_of_ble_eq_true rfl) dX0_runPlanted_11 ⟨Nat.zero_le _, Nat.zero_le _⟩ (fun s3 H locs w_s3 J => ?_)
  obtain ⟨u1, u2, u3⟩ := w_s3
  have hPd3 : wdPd L d' (wdFl s2) s3 (yLoop L G (nI mx) 300 1 τ).2 := wdPd_congr (fun k _ => by rw [u1]) (fun k hm => u2 k (fun e => by subst e; simp at hm)) ePd
  have hRS3 : wdRS L d' s3 (yLoop L G (nI mx) 300 1 τ).2 := wdRS_congr (fun k _ => by rw [u1]) (fun k hm => u2 k (fun e => by subst e; simp at hm)) eRS
  obtain ⟨a3, g3, b3, G3, hp3, hq3, hg3⟩ := rw_pre (wdFl_le s2) hL2 hRS3.2.1.1 hRS3.2.1.2.2 hPd3
  have hst3 : s3.1 14 = (yLoop L G (nI mx) 300 1 τ).2.1 5 := by rw [u1]; exact e14
  refine lv_aload_n hx hb dX0_runPlanted_14 rfl (lv_at hl 1 rfl) ?_
  refine x_cv S J (xc_reweave l D q cI cZ _ s3 L hRS3.1.1 hL2 a3 g3 d' b3 G3 (fun _ => hp3)) (xk_reweave S.2.2.2.2 ⟨Nat.le_of_ble_eq_true rfl, Nat.le_of_ble_eq_true rfl⟩) rfl hl.1 rfl (Nat.le_of_ble_eq_true rfl) dX0_runPlanted_15 ⟨Nat.zero_le _, Nat.zero_le _⟩ (fun s4 H locs w_s4 J => ?_)
  have w4 : wdRWq L g3 d' G3 s3 s4 := (w_s4.resolve_left (fun h => e0 (hst3.symm.trans h.1))).2
  obtain ⟨-, hPd4, hk4⟩ := rw_post hp3 hq3 hg3 w4
  refine lv_iload_n hx hb dX0_runPlanted_18 rfl (lv_at hl 0 rfl) ?_
  exact x_iret (v := r_s2) S hr hlk J (⟨er, d', wdRS_rw hp3 hk4 w4 hRS3, (hk4 14 (by decide)).trans hst3, fun i hi => by rw [w4.2.1 7 (by decide)]; exact u3 i hi, Or.inr ⟨e0, hPd4⟩⟩) dX0_runPlanted_19
theorem wd_nr {z z' r : Int32} (e : z = z') (h : wdNRp z r) (hr : ¬ r = 0) : z' = 0 ∨ z' = 5 ∨ z' = 6 := by
  rcases h with ⟨-, h⟩ | ⟨h, -⟩
  · rw [← e]; exact h
  · exact absurd h hr
theorem wd_nr0 {z z' r : Int32} (e : z = z') (h : wdNRp z r) (hr : r = 0) : ¬ (z' = 0 ∨ z' = 5 ∨ z' = 6) := by
  rcases h with ⟨h, -⟩ | ⟨-, h⟩
  · rw [h] at hr; exact absurd hr (by decide)
  · rw [← e]; exact h
set_option maxHeartbeats 4000000 in
set_option maxRecDepth 100000 in
theorem xc_resume (l : Launch) (D : va_G) (q : Nat → Nat) (cI cZ : ClassId) (sz : Nat) (σ : wdSt) (L d : Nat) (τ : wdSt) (hR : wdR L d σ τ) (p1 : Int32) : x_MI l yX0_resume cX0_resume 3 .int 4 92 D q cI cZ sz σ [.int p1] (fun r σ' => r = (yRun L p1 0 τ).1 ∧ ∃ d', wdR L d' σ' (yRun L p1 0 τ).2) := by
  refine x_open (by decide) rfl (Nat.le_of_ble_eq_true rfl) ?_
  intro p e s m below meth c S hr hlk J ls hl
  have hx := S.1
  have hb := S.2.1
  have hl : lv_has ls 3 [(0, .ref (q 0)), (1, .int p1)] := hl
  generalize s.heap = H at J ⊢
  generalize ([] : List Loc) = locs at J ⊢
  refine lv_aload_n hx hb dX0_resume_0 rfl (lv_at hl 0 rfl) ?_
  refine x_ci S J (xc_notRunning l D q cI cZ _ (σ)) (xk_notRunning S.2.2.2.2 ⟨Nat.le_of_ble_eq_true rfl, Nat.le_of_ble_eq_true rfl⟩) rfl hl.1 rfl (Nat.le_of_ble_eq_true rfl) dX0_resume_1 ⟨Nat.zero_le _, Nat.zero_le _⟩ (fun r_s0 s0 H locs w_s0 J => ?_)
  obtain ⟨e_s0, w_s0⟩ := w_s0
  rw [e_s0] at J
  refine lv_if_eq (tgt := 10) hx hb dX0_resume_4 (by decide) (fun c_4 => ?_) (fun c_4 => ?_)
  · have hz := wd_nr0 hR.2.1 w_s0 c_4
    obtain ⟨hPd, hlo, c0, hc0, hcn⟩ := wdR_run hR hz
    have hRS := hR.1
    have hL2 : L ≤ 20 := hRS.1.2.2
    have hd6 : d ≤ 6 := hRS.2.1.2.2
    have hd1 : 1 ≤ d := hPd.1
    refine lv_iload_n hx hb dX0_resume_10 rfl (lv_at hl 1 rfl) ?_
    refine x_csi S J (xc_clampMax l D q cI cZ _ (σ) p1) (xk_clampMax S.2.2.2.2 ⟨Nat.le_of_ble_eq_true rfl, Nat.le_of_ble_eq_true rfl⟩) rfl hl.1 rfl (Nat.le_of_ble_eq_true rfl) dX0_resume_11 ⟨Nat.zero_le _, Nat.zero_le _⟩ (fun r_cm cm H locs w_cm J => ?_)
    obtain ⟨e_cm, w_cm⟩ := w_cm
    rw [e_cm] at J
    obtain ⟨mx, hmx1, hmx, emx⟩ := wdCl_n p1
    refine wd_top (nI mx) (w_cm.trans emx) ?_
    refine lv_istore_n (lv' := [(2, .int (nI mx)), (0, .ref (q 0)), (1, .int p1)]) hx hb dX0_resume_14 rfl hl (by decide) rfl (fun ls hl => ?_)
    refine lv_aload_n hx hb dX0_resume_15 rfl (lv_at hl 1 rfl) ?_
    refine lv_iload_n hx hb dX0_resume_16 rfl (lv_at hl 0 rfl) ?_
    refine x_ci S J (xc_run l D q cI cZ _ σ L d c0 τ (σ.1 8) 0 (fun _ => True) (wdK_none hR.2.2.1) mx hmx hmx1 hRS hPd hlo hcn hc0 rfl trivial hz) (xk_run S.2.2.2.2 ⟨Nat.le_of_ble_eq_true rfl, Nat.le_of_ble_eq_true rfl⟩) rfl hl.1 rfl (Nat.le_of_ble_eq_true rfl) dX0_resume_17 ⟨Nat.zero_le _, Nat.zero_le _⟩ (fun r_s1 s1 H locs w_s1 J => ?_)
    exact x_iret (v := r_s1) S hr hlk J (by rw [yRun, if_neg hz, emx]; obtain ⟨er, ⟨d', hE⟩, e7⟩ := w_s1; exact ⟨er, d', wdEnd_R hE (fun i hi => by rw [e7]; exact hR.2.2.1 i hi)⟩) dX0_resume_20
  · refine lv_bipush (v := -4) hx hb dX0_resume_7 cb_m4 ?_
    exact x_iret (v := (-4)) S hr hlk J (⟨by rw [yRun, if_pos (wd_nr hR.2.1 w_s0 c_4)], d, by rw [yRun, if_pos (wd_nr hR.2.1 w_s0 c_4)]; exact hR⟩) dX0_resume_9
set_option maxHeartbeats 4000000 in
set_option maxRecDepth 100000 in
theorem xc_stepInto (l : Launch) (D : va_G) (q : Nat → Nat) (cI cZ : ClassId) (sz : Nat) (σ : wdSt) (L d : Nat) (τ : wdSt) (hR : wdR L d σ τ) : x_MI l yX0_stepInto cX0_stepInto 1 .int 5 114 D q cI cZ sz σ [] (fun r σ' => r = (yRun L 1 6 τ).1 ∧ ∃ d', wdR L d' σ' (yRun L 1 6 τ).2) := by
  refine x_open (by decide) rfl (Nat.le_of_ble_eq_true rfl) ?_
  intro p e s m below meth c S hr hlk J ls hl
  have hx := S.1
  have hb := S.2.1
  have hl : lv_has ls 1 [(0, .ref (q 0))] := hl
  generalize s.heap = H at J ⊢
  generalize ([] : List Loc) = locs at J ⊢
  refine lv_aload_n hx hb dX0_stepInto_0 rfl (lv_at hl 0 rfl) ?_
  refine x_ci S J (xc_notRunning l D q cI cZ _ (σ)) (xk_notRunning S.2.2.2.2 ⟨Nat.le_of_ble_eq_true rfl, Nat.le_of_ble_eq_true rfl⟩) rfl hl.1 rfl (Nat.le_of_ble_eq_true rfl) dX0_stepInto_1 ⟨Nat.zero_le _, Nat.zero_le _⟩ (fun r_s0 s0 H locs w_s0 J => ?_)
  obtain ⟨e_s0, w_s0⟩ := w_s0
  rw [e_s0] at J
  refine lv_if_eq (tgt := 10) hx hb dX0_stepInto_4 (by decide) (fun c_4 => ?_) (fun c_4 => ?_)
  · have hz := wd_nr0 hR.2.1 w_s0 c_4
    obtain ⟨hPd, hlo, c0, hc0, hcn⟩ := wdR_run hR hz
    have hRS := hR.1
    have hL2 : L ≤ 20 := hRS.1.2.2
    have hd6 : d ≤ 6 := hRS.2.1.2.2
    have hd1 : 1 ≤ d := hPd.1
    obtain ⟨a, ha, ha2, hga⟩ := wdPl_at hL2 hPd hlo hcn hc0
    obtain ⟨b, g, hb1, hb2⟩ := wdGo_top hL2 hPd
    obtain ⟨k, hk, ek⟩ := hRS.2.2.1.2.2.2 c0 hc0
    refine lv_aload_n hx hb dX0_stepInto_10 rfl (lv_at hl 0 rfl) ?_
    refine lv_bipush (v := 6) hx hb dX0_stepInto_11 cb_6 ?_
    refine x_p8 S J dX0_stepInto_13 (fun H locs J => ?_)
    refine lv_aload_n hx hb dX0_stepInto_16 rfl (lv_at hl 0 rfl) ?_
    refine lv_iconst (v := 1) hx hb dX0_stepInto_17 ci_1 ?_
    refine x_cv S J (xc_plantNext l D q cI cZ _ (wdS σ 8 6) L hRS.1.1 hL2 a c0 d k b g ha ha2 hga hc0 (show σ.2 1 c0 = nI k by rw [hRS.2.2.1.1]; exact ek) hk hRS.2.1.1 hd1 hd6 hb1 1) (xk_plantNext S.2.2.2.2 ⟨Nat.le_of_ble_eq_true rfl, Nat.le_of_ble_eq_true rfl⟩) rfl hl.1 rfl (Nat.le_of_ble_eq_true rfl) dX0_stepInto_18 ⟨Nat.zero_le _, Nat.zero_le _⟩ (fun s1 H locs w_s1 J => ?_)
    have hFst : wdFst L c0 d True (s1.2 7) τ := xPlN_fst w_s1 (fun _ => by decide) ek hk hcn hRS.2.1.2.1 hb2 hRS.2.2.1.2.2.1 hL2
    have hRS1 : wdRS L d s1 τ := wdRS_congr (fun k hm => (by rw [w_s1.1])) (fun k hm => w_s1.2.1 k (fun e => by subst e; simp at hm)) hRS
    have hPd1 : wdPd L d (wdFl σ) s1 τ := wdPd_congr (fun k hm => (by rw [w_s1.1])) (fun k hm => w_s1.2.1 k (fun e => by subst e; simp at hm)) hPd
    have hlo1 : s1.1 16 = 0 := by rw [w_s1.1]; exact hlo
    have hst1 : s1.1 14 = τ.1 5 := by rw [w_s1.1]; exact hR.2.1
    have hgd1 : s1.1 8 = 6 := by rw [w_s1.1]; exact wd1_s _ _ _
    refine lv_aload_n hx hb dX0_stepInto_21 rfl (lv_at hl 0 rfl) ?_
    refine lv_iconst (v := 1) hx hb dX0_stepInto_22 ci_1 ?_
    refine x_ci S J (xc_runPlanted l D q cI cZ _ s1 L d c0 (wdFl σ) (wdFl_le σ) τ 6 6 (wdFst L c0 d True (s1.2 7)) (wdK_into hc0 hd1 hd6) 1 (by decide) (by decide) hRS1 hPd1 hlo1 hcn hc0 hgd1 hFst hz hst1) (xk_runPlanted S.2.2.2.2 ⟨Nat.le_of_ble_eq_true rfl, Nat.le_of_ble_eq_true rfl⟩) rfl hl.1 rfl (Nat.le_of_ble_eq_true rfl) dX0_stepInto_23 ⟨Nat.zero_le _, Nat.zero_le _⟩ (fun r_s2 s2 H locs w_s2 J => ?_)
    exact x_iret (v := r_s2) S hr hlk J (by rw [yRun, if_neg hz, show wdCl 1 = nI 1 by decide]; exact w_s2) dX0_stepInto_26
  · refine lv_bipush (v := -4) hx hb dX0_stepInto_7 cb_m4 ?_
    exact x_iret (v := (-4)) S hr hlk J (⟨by rw [yRun, if_pos (wd_nr hR.2.1 w_s0 c_4)], d, by rw [yRun, if_pos (wd_nr hR.2.1 w_s0 c_4)]; exact hR⟩) dX0_stepInto_9
set_option maxHeartbeats 4000000 in
set_option maxRecDepth 100000 in
theorem xc_stepOver (l : Launch) (D : va_G) (q : Nat → Nat) (cI cZ : ClassId) (sz : Nat) (σ : wdSt) (L d : Nat) (τ : wdSt) (hR : wdR L d σ τ) (p1 : Int32) : x_MI l yX0_stepOver cX0_stepOver 3 .int 5 114 D q cI cZ sz σ [.int p1] (fun r σ' => r = (yRun L p1 (τ.1 6) τ).1 ∧ ∃ d', wdR L d' σ' (yRun L p1 (τ.1 6) τ).2) := by
  refine x_open (by decide) rfl (Nat.le_of_ble_eq_true rfl) ?_
  intro p e s m below meth c S hr hlk J ls hl
  have hx := S.1
  have hb := S.2.1
  have hl : lv_has ls 3 [(0, .ref (q 0)), (1, .int p1)] := hl
  generalize s.heap = H at J ⊢
  generalize ([] : List Loc) = locs at J ⊢
  refine lv_aload_n hx hb dX0_stepOver_0 rfl (lv_at hl 0 rfl) ?_
  refine x_ci S J (xc_notRunning l D q cI cZ _ (σ)) (xk_notRunning S.2.2.2.2 ⟨Nat.le_of_ble_eq_true rfl, Nat.le_of_ble_eq_true rfl⟩) rfl hl.1 rfl (Nat.le_of_ble_eq_true rfl) dX0_stepOver_1 ⟨Nat.zero_le _, Nat.zero_le _⟩ (fun r_s0 s0 H locs w_s0 J => ?_)
  obtain ⟨e_s0, w_s0⟩ := w_s0
  rw [e_s0] at J
  refine lv_if_eq (tgt := 10) hx hb dX0_stepOver_4 (by decide) (fun c_4 => ?_) (fun c_4 => ?_)
  · have hz := wd_nr0 hR.2.1 w_s0 c_4
    obtain ⟨hPd, hlo, c0, hc0, hcn⟩ := wdR_run hR hz
    have hRS := hR.1
    have hL2 : L ≤ 20 := hRS.1.2.2
    have hd6 : d ≤ 6 := hRS.2.1.2.2
    have hd1 : 1 ≤ d := hPd.1
    obtain ⟨a, ha, ha2, hga⟩ := wdPl_at hL2 hPd hlo hcn hc0
    obtain ⟨b, g, hb1, hb2⟩ := wdGo_top hL2 hPd
    obtain ⟨k, hk, ek⟩ := hRS.2.2.1.2.2.2 c0 hc0
    refine lv_aload_n hx hb dX0_stepOver_10 rfl (lv_at hl 0 rfl) ?_
    refine lv_aload_n hx hb dX0_stepOver_11 rfl (lv_at hl 0 rfl) ?_
    refine x_g18 (v := nI d) S J hRS.2.1.1 dX0_stepOver_12 ?_
    refine x_p8 S J dX0_stepOver_15 (fun H locs J => ?_)
    refine lv_aload_n hx hb dX0_stepOver_18 rfl (lv_at hl 0 rfl) ?_
    refine lv_iconst (v := 0) hx hb dX0_stepOver_19 ci_0 ?_
    refine x_cv S J (xc_plantNext l D q cI cZ _ (wdS σ 8 (nI d)) L hRS.1.1 hL2 a c0 d k b g ha ha2 hga hc0 (show σ.2 1 c0 = nI k by rw [hRS.2.2.1.1]; exact ek) hk hRS.2.1.1 hd1 hd6 hb1 0) (xk_plantNext S.2.2.2.2 ⟨Nat.le_of_ble_eq_true rfl, Nat.le_of_ble_eq_true rfl⟩) rfl hl.1 rfl (Nat.le_of_ble_eq_true rfl) dX0_stepOver_20 ⟨Nat.zero_le _, Nat.zero_le _⟩ (fun s1 H locs w_s1 J => ?_)
    have hFst : wdFst L c0 d False (s1.2 7) τ := xPlN_fst w_s1 (fun h => h.elim) ek hk hcn hRS.2.1.2.1 hb2 hRS.2.2.1.2.2.1 hL2
    have hRS1 : wdRS L d s1 τ := wdRS_congr (fun k hm => (by rw [w_s1.1])) (fun k hm => w_s1.2.1 k (fun e => by subst e; simp at hm)) hRS
    have hPd1 : wdPd L d (wdFl σ) s1 τ := wdPd_congr (fun k hm => (by rw [w_s1.1])) (fun k hm => w_s1.2.1 k (fun e => by subst e; simp at hm)) hPd
    have hlo1 : s1.1 16 = 0 := by rw [w_s1.1]; exact hlo
    have hst1 : s1.1 14 = τ.1 5 := by rw [w_s1.1]; exact hR.2.1
    have hgd1 : s1.1 8 = nI d := by rw [w_s1.1]; exact wd1_s _ _ _
    refine lv_iload_n hx hb dX0_stepOver_23 rfl (lv_at hl 1 rfl) ?_
    refine x_csi S J (xc_clampMax l D q cI cZ _ (s1) p1) (xk_clampMax S.2.2.2.2 ⟨Nat.le_of_ble_eq_true rfl, Nat.le_of_ble_eq_true rfl⟩) rfl hl.1 rfl (Nat.le_of_ble_eq_true rfl) dX0_stepOver_24 ⟨Nat.zero_le _, Nat.zero_le _⟩ (fun r_cm cm H locs w_cm J => ?_)
    obtain ⟨e_cm, w_cm⟩ := w_cm
    rw [e_cm] at J
    obtain ⟨mx, hmx1, hmx, emx⟩ := wdCl_n p1
    refine wd_top (nI mx) (w_cm.trans emx) ?_
    refine lv_istore_n (lv' := [(2, .int (nI mx)), (0, .ref (q 0)), (1, .int p1)]) hx hb dX0_stepOver_27 rfl hl (by decide) rfl (fun ls hl => ?_)
    refine lv_aload_n hx hb dX0_stepOver_28 rfl (lv_at hl 1 rfl) ?_
    refine lv_iload_n hx hb dX0_stepOver_29 rfl (lv_at hl 0 rfl) ?_
    refine x_ci S J (xc_runPlanted l D q cI cZ _ s1 L d c0 (wdFl σ) (wdFl_le σ) τ (nI d) (nI d) (fun t => wdFst L c0 d False (s1.2 7) t ∨ wdDeep L d (s1.2 7) t) (wdK_over hc0 hd1 hd6) mx hmx hmx1 hRS1 hPd1 hlo1 hcn hc0 hgd1 (Or.inl hFst) hz hst1) (xk_runPlanted S.2.2.2.2 ⟨Nat.le_of_ble_eq_true rfl, Nat.le_of_ble_eq_true rfl⟩) rfl hl.1 rfl (Nat.le_of_ble_eq_true rfl) dX0_stepOver_30 ⟨Nat.zero_le _, Nat.zero_le _⟩ (fun r_s2 s2 H locs w_s2 J => ?_)
    exact x_iret (v := r_s2) S hr hlk J (by rw [yRun, if_neg hz, emx, hRS.2.1.2.1]; exact w_s2) dX0_stepOver_33
  · refine lv_bipush (v := -4) hx hb dX0_stepOver_7 cb_m4 ?_
    exact x_iret (v := (-4)) S hr hlk J (⟨by rw [yRun, if_pos (wd_nr hR.2.1 w_s0 c_4)], d, by rw [yRun, if_pos (wd_nr hR.2.1 w_s0 c_4)]; exact hR⟩) dX0_stepOver_9
set_option maxHeartbeats 4000000 in
set_option maxRecDepth 100000 in
theorem xc_stepOut (l : Launch) (D : va_G) (q : Nat → Nat) (cI cZ : ClassId) (sz : Nat) (σ : wdSt) (L d : Nat) (τ : wdSt) (hR : wdR L d σ τ) (p1 : Int32) : x_MI l yX0_stepOut cX0_stepOut 3 .int 5 114 D q cI cZ sz σ [.int p1] (fun r σ' => r = (yRun L p1 (τ.1 6 - 1) τ).1 ∧ ∃ d', wdR L d' σ' (yRun L p1 (τ.1 6 - 1) τ).2) := by
  refine x_open (by decide) rfl (Nat.le_of_ble_eq_true rfl) ?_
  intro p e s m below meth c S hr hlk J ls hl
  have hx := S.1
  have hb := S.2.1
  have hl : lv_has ls 3 [(0, .ref (q 0)), (1, .int p1)] := hl
  generalize s.heap = H at J ⊢
  generalize ([] : List Loc) = locs at J ⊢
  refine lv_aload_n hx hb dX0_stepOut_0 rfl (lv_at hl 0 rfl) ?_
  refine x_ci S J (xc_notRunning l D q cI cZ _ (σ)) (xk_notRunning S.2.2.2.2 ⟨Nat.le_of_ble_eq_true rfl, Nat.le_of_ble_eq_true rfl⟩) rfl hl.1 rfl (Nat.le_of_ble_eq_true rfl) dX0_stepOut_1 ⟨Nat.zero_le _, Nat.zero_le _⟩ (fun r_s0 s0 H locs w_s0 J => ?_)
  obtain ⟨e_s0, w_s0⟩ := w_s0
  rw [e_s0] at J
  refine lv_if_eq (tgt := 10) hx hb dX0_stepOut_4 (by decide) (fun c_4 => ?_) (fun c_4 => ?_)
  · have hz := wd_nr0 hR.2.1 w_s0 c_4
    obtain ⟨hPd, hlo, c0, hc0, hcn⟩ := wdR_run hR hz
    have hRS := hR.1
    have hL2 : L ≤ 20 := hRS.1.2.2
    have hd6 : d ≤ 6 := hRS.2.1.2.2
    have hd1 : 1 ≤ d := hPd.1
    obtain ⟨a, ha, ha2, hga⟩ := wdPl_at hL2 hPd hlo hcn hc0
    obtain ⟨b, g, hb1, hb2⟩ := wdGo_top hL2 hPd
    obtain ⟨k, hk, ek⟩ := hRS.2.2.1.2.2.2 c0 hc0
    refine lv_aload_n hx hb dX0_stepOut_10 rfl (lv_at hl 0 rfl) ?_
    refine lv_aload_n hx hb dX0_stepOut_11 rfl (lv_at hl 0 rfl) ?_
    refine x_g18 (v := nI d) S J hRS.2.1.1 dX0_stepOut_12 ?_
    refine lv_iconst (v := 1) hx hb dX0_stepOut_15 ci_1 ?_
    refine lv_isub hx hb dX0_stepOut_16 ?_
    refine wd_top (nI (d - 1)) (wd_pred hd1) ?_
    refine x_p8 S J dX0_stepOut_17 (fun H locs J => ?_)
    refine lv_aload_n hx hb dX0_stepOut_20 rfl (lv_at hl 0 rfl) ?_
    refine x_g18 (v := nI d) S J hRS.2.1.1 dX0_stepOut_21 ?_
    refine lv_iconst (v := 1) hx hb dX0_stepOut_24 ci_1 ?_
    refine lv_icmp_le (tgt := 48) hx hb dX0_stepOut_25 (by decide) (fun c_25 => ?_) (fun c_25 => ?_)
    · have e1 : d = 1 := by have := (wd_le d 1 1 (by omega) (by decide) rfl).mp c_25; omega
      refine lv_iload_n hx hb dX0_stepOut_48 rfl (lv_at hl 1 rfl) ?_
      refine x_csi S J (xc_clampMax l D q cI cZ _ (wdS σ 8 (nI (d - 1))) p1) (xk_clampMax S.2.2.2.2 ⟨Nat.le_of_ble_eq_true rfl, Nat.le_of_ble_eq_true rfl⟩) rfl hl.1 rfl (Nat.le_of_ble_eq_true rfl) dX0_stepOut_49 ⟨Nat.zero_le _, Nat.zero_le _⟩ (fun r_cm cm H locs w_cm J => ?_)
      obtain ⟨e_cm, w_cm⟩ := w_cm
      rw [e_cm] at J
      obtain ⟨mx, hmx1, hmx, emx⟩ := wdCl_n p1
      refine wd_top (nI mx) (w_cm.trans emx) ?_
      refine lv_istore_n (lv' := [(2, .int (nI mx)), (0, .ref (q 0)), (1, .int p1)]) hx hb dX0_stepOut_52 rfl hl (by decide) rfl (fun ls hl => ?_)
      refine lv_aload_n hx hb dX0_stepOut_53 rfl (lv_at hl 1 rfl) ?_
      refine lv_iload_n hx hb dX0_stepOut_54 rfl (lv_at hl 0 rfl) ?_
      refine x_ci S J (xc_runPlanted l D q cI cZ _ (wdS σ 8 (nI (d - 1))) L d c0 (wdFl σ) (wdFl_le σ) τ (nI (d - 1)) 0 (fun _ => True) (wdK_none hR.2.2.1) mx hmx hmx1 hRS hPd hlo hcn hc0 rfl trivial hz hR.2.1) (xk_runPlanted S.2.2.2.2 ⟨Nat.le_of_ble_eq_true rfl, Nat.le_of_ble_eq_true rfl⟩) rfl hl.1 rfl (Nat.le_of_ble_eq_true rfl) dX0_stepOut_55 ⟨Nat.zero_le _, Nat.zero_le _⟩ (fun r_s2 s2 H locs w_s2 J => ?_)
      exact x_iret (v := r_s2) S hr hlk J (by rw [yRun, if_neg hz, emx, hRS.2.1.2.1, show nI d - 1 = 0 by rw [e1]; decide]; exact w_s2) dX0_stepOut_58
    · have hd2 : 2 ≤ d := Nat.lt_of_not_le (fun h => c_25 ((wd_le d 1 1 (by omega) (by decide) rfl).mpr h))
      obtain ⟨hb3, hb4, hb5⟩ := hb1 hd2
      refine lv_aload_n hx hb dX0_stepOut_28 rfl (lv_at hl 0 rfl) ?_
      refine lv_aload_n hx hb dX0_stepOut_29 rfl (lv_at hl 0 rfl) ?_
      refine x_r10 S J dX0_stepOut_30 ?_
      refine lv_aload_n hx hb dX0_stepOut_33 rfl (lv_at hl 0 rfl) ?_
      refine x_r20 S J dX0_stepOut_34 ?_
      refine lv_aload_n hx hb dX0_stepOut_37 rfl (lv_at hl 0 rfl) ?_
      refine x_g18 (v := nI d) S J hRS.2.1.1 dX0_stepOut_38 ?_
      refine lv_iconst (v := 1) hx hb dX0_stepOut_41 ci_1 ?_
      refine lv_isub hx hb dX0_stepOut_42 ?_
      refine wd_top (nI (d - 1)) (wd_pred hd1) ?_
      refine x_l20 (v := nI b) S J (d - 1) (by omega) hb3 dX0_stepOut_43 ?_
      refine x_l10 (v := nI g) S J b hb4 hb5 dX0_stepOut_44 ?_
      refine x_cv S J (xc_plant l D q cI cZ _ (wdS σ 8 (nI (d - 1))) L hRS.1.1 hL2 (nI g)) (xk_plant S.2.2.2.2 ⟨Nat.le_of_ble_eq_true rfl, Nat.le_of_ble_eq_true rfl⟩) rfl hl.1 rfl (Nat.le_of_ble_eq_true rfl) dX0_stepOut_45 ⟨Nat.zero_le _, Nat.zero_le _⟩ (fun s1 H locs w_s1 J => ?_)
      have w_s1 := wdPt_of hL2 w_s1
      have hRS1 : wdRS L d s1 τ := wdRS_congr (fun k hm => (by rw [w_s1.1])) (fun k hm => w_s1.2.1 k (fun e => by subst e; simp at hm)) hRS
      have hPd1 : wdPd L d (wdFl σ) s1 τ := wdPd_congr (fun k hm => (by rw [w_s1.1])) (fun k hm => w_s1.2.1 k (fun e => by subst e; simp at hm)) hPd
      have hlo1 : s1.1 16 = 0 := by rw [w_s1.1]; exact hlo
      have hst1 : s1.1 14 = τ.1 5 := by rw [w_s1.1]; exact hR.2.1
      have hgd1 : s1.1 8 = nI (d - 1) := by rw [w_s1.1]; exact wd1_s _ _ _
      refine lv_iload_n hx hb dX0_stepOut_48 rfl (lv_at hl 1 rfl) ?_
      refine x_csi S J (xc_clampMax l D q cI cZ _ (s1) p1) (xk_clampMax S.2.2.2.2 ⟨Nat.le_of_ble_eq_true rfl, Nat.le_of_ble_eq_true rfl⟩) rfl hl.1 rfl (Nat.le_of_ble_eq_true rfl) dX0_stepOut_49 ⟨Nat.zero_le _, Nat.zero_le _⟩ (fun r_cm cm H locs w_cm J => ?_)
      obtain ⟨e_cm, w_cm⟩ := w_cm
      rw [e_cm] at J
      obtain ⟨mx, hmx1, hmx, emx⟩ := wdCl_n p1
      refine wd_top (nI mx) (w_cm.trans emx) ?_
      refine lv_istore_n (lv' := [(2, .int (nI mx)), (0, .ref (q 0)), (1, .int p1)]) hx hb dX0_stepOut_52 rfl hl (by decide) rfl (fun ls hl => ?_)
      refine lv_aload_n hx hb dX0_stepOut_53 rfl (lv_at hl 1 rfl) ?_
      refine lv_iload_n hx hb dX0_stepOut_54 rfl (lv_at hl 0 rfl) ?_
      refine x_ci S J (xc_runPlanted l D q cI cZ _ s1 L d c0 (wdFl σ) (wdFl_le σ) τ (nI (d - 1)) (nI (d - 1)) (wdDeep L (d - 1) (s1.2 7)) (wdK_deep (by omega)) mx hmx hmx1 hRS1 hPd1 hlo1 hcn hc0 hgd1 ⟨d, hRS.2.1.2.1, by omega, hd6, g, (hb2 hd2).1, (hb2 hd2).2, fun q => w_s1.2.2.1 g q rfl⟩ hz hst1) (xk_runPlanted S.2.2.2.2 ⟨Nat.le_of_ble_eq_true rfl, Nat.le_of_ble_eq_true rfl⟩) rfl hl.1 rfl (Nat.le_of_ble_eq_true rfl) dX0_stepOut_55 ⟨Nat.zero_le _, Nat.zero_le _⟩ (fun r_s2 s2 H locs w_s2 J => ?_)
      exact x_iret (v := r_s2) S hr hlk J (by rw [yRun, if_neg hz, emx, hRS.2.1.2.1, wd_pred hd1]; exact w_s2) dX0_stepOut_58
  · refine lv_bipush (v := -4) hx hb dX0_stepOut_7 cb_m4 ?_
    exact x_iret (v := (-4)) S hr hlk J (⟨by rw [yRun, if_pos (wd_nr hR.2.1 w_s0 c_4)], d, by rw [yRun, if_pos (wd_nr hR.2.1 w_s0 c_4)]; exact hR⟩) dX0_stepOut_9
end
section
/-! start, breakpoints, counters -/
theorem wdCnt_upd {P P' : Nat → Bool} {j : Nat} (h : ∀ i, ¬ i = j → P' i = P i) (n : Nat) (hj : j < n) : wdCnt P' n + (if P j then 1 else 0) = wdCnt P n + (if P' j then 1 else 0) := by
  induction n with
  | zero => omega
  | succ n ih =>
    by_cases e : j = n
    · subst e
      have := wdCnt_congr (P := P') (P' := P) j (fun i hi => h i (by omega))
      simp only [wdCnt, this]
      omega
    · have h1 := ih (by omega)
      have h2 := h n (fun q => e q.symm)
      simp only [wdCnt, h2]
      omega
theorem yBr_same {f : Nat → Int32} {j : Nat} {v : Int32} (hj : j < 20) (h : 0 ≤ f j) (hv : 0 ≤ v) : yBr (upd f j v) 20 = yBr f 20 := by
  refine yBr_congr 20 (fun i hi => ?_)
  by_cases q : i = j
  · rw [q, upd_s]
    exact ⟨fun _ => h, fun _ => hv⟩
  · rw [upd_n _ _ q]
theorem yBr_more {f : Nat → Int32} {j : Nat} {v : Int32} (hj : j < 20) (h : ¬ 0 ≤ f j) (hv : 0 ≤ v) : yBr (upd f j v) 20 = yBr f 20 + 1 := by
  have := wdCnt_upd (P := fun i => decide (0 ≤ f i)) (P' := fun i => decide (0 ≤ upd f j v i)) (j := j) (fun i hi => by rw [upd_n _ _ hi]) 20 hj
  rw [upd_s, decide_eq_true hv, decide_eq_false h] at this
  exact this
theorem yBr_less {f : Nat → Int32} {j : Nat} {v : Int32} (hj : j < 20) (h : 0 ≤ f j) (hv : ¬ 0 ≤ v) : yBr f 20 = yBr (upd f j v) 20 + 1 := by
  have := wdCnt_upd (P := fun i => decide (0 ≤ f i)) (P' := fun i => decide (0 ≤ upd f j v i)) (j := j) (fun i hi => by rw [upd_n _ _ hi]) 20 hj
  rw [upd_s, decide_eq_true h, decide_eq_false hv] at this
  exact this.symm
/-- the debugger started at instruction j, out of a fresh copy -/
theorem wdStart {L d j : Nat} {σ s1 τ : wdSt} (hR : wdR L d σ τ) (hj : j < L) (w1 : s1.1 = σ.1) (w2 : ∀ k, k ∉ [9, 10, 11, 12, 13] → s1.2 k = σ.2 k) (w3 : wdWv L (wdFl σ) s1) :
    wdR L 1 (wdS (wdS (wdS (wdS (wdA (wdA (wdA (wdA (wdS s1 18 1) 19 0 0) 19 1 0) 19 2 0) 19 3 0) 15 (nI (wdE (wdFl σ) j))) 16 0) 22 0) 14 1) (wdS (wdS (wdS (wdA (wdA (wdA (wdA (wdS τ 6 1) 7 0 0) 7 1 0) 7 2 0) 7 3 0) 10 (nI j)) 11 0) 5 1) := by
  obtain ⟨⟨h1, h2, h3, h4, h5, h6, ⟨h7, h8⟩⟩, h14, hpl, -⟩ := hR
  have ef : wdFl s1 = wdFl σ := wdFl_congr (w2 5 (by decide)) (w2 7 (by decide))
  have a0 : s1.1 0 = σ.1 0 := by rw [w1]
  have a4 : s1.1 4 = σ.1 4 := by rw [w1]
  refine ⟨⟨⟨a0.trans h1.1, h1.2.1, h1.2.2⟩, ⟨rfl, rfl, by decide⟩, ⟨(w2 1 (by decide)).trans h3.1, (w2 2 (by decide)).trans h3.2.1, (w2 3 (by decide)).trans h3.2.2.1, h3.2.2.2⟩, ⟨?_, a4.trans h4.2⟩, ?_, ⟨rfl, fun b hb q => absurd q (nI_pos (by omega))⟩, ⟨fun f hf => by omega, h8⟩⟩, rfl, ?_, Or.inr ⟨(show ¬ (1 : Int32) = 0 by decide), by decide, ?_, fun f hf => by omega, j, Nat.le_of_lt hj, Or.inl ?_, Or.inl ⟨rfl, rfl, hj⟩⟩⟩
  · intro i hi
    show (s1.2 5 i = 1 ∧ s1.2 6 i = τ.2 4 i ∧ 0 ≤ τ.2 4 i) ∨ (s1.2 5 i = 0 ∧ τ.2 4 i = -1)
    rw [w2 5 (by decide), w2 6 (by decide)]
    exact h4.1 i hi
  · show upd (upd (upd (upd (s1.2 19) 0 0) 1 0) 2 0) 3 0 = upd (upd (upd (upd (τ.2 7) 0 0) 1 0) 2 0) 3 0
    rw [w2 19 (by decide), h5]
  · intro i hi
    show s1.2 7 i = 0
    rw [w2 7 (by decide)]
    exact hpl i hi
  · show wdWv L (wdFl s1) s1
    rw [ef]
    exact w3
  · show nI (wdE (wdFl σ) j) = nI (wdE (wdFl s1) j)
    rw [ef]
/-- a state that reweave may be called in -/
def wdAlt (L d : Nat) (φ : Nat → Nat) (σ τ : wdSt) : Prop := (τ.1 5 = 0 ∧ d = 0) ∨ (¬ τ.1 5 = 0 ∧ wdPd L d φ σ τ)
theorem rw_any {L d : Nat} {φ : Nat → Nat} {σ τ : wdSt} (hφ : ∀ i, φ i ≤ 1) (hRS : wdRS L d σ τ) (h14 : σ.1 14 = τ.1 5) (hA : wdAlt L d φ σ τ) :
    ∃ (a g : Nat) (b G : Nat → Nat), ¬ σ.1 14 = 0 → wdRWp L a g d b G σ ∧ ((σ.1 16 = 0 ∧ τ.1 10 = nI g ∧ g < L) ∨ (σ.1 16 = 1 ∧ τ.1 10 = σ.1 17 ∧ τ.1 5 = 6)) ∧ ∀ j, 1 ≤ j → j < d → τ.2 8 (j - 1) = nI (G j) := by
  rcases hA with ⟨h0, -⟩ | ⟨-, hPd⟩
  · exact ⟨0, 0, fun _ => 0, fun _ => 0, fun h => absurd (h14.trans h0) h⟩
  · obtain ⟨a, g, b, G, h⟩ := rw_pre hφ hRS.1.2.2 hRS.2.1.1 hRS.2.1.2.2 hPd
    exact ⟨a, g, b, G, fun _ => h⟩
theorem wdR_rw {L d a g : Nat} {φ : Nat → Nat} {b G : Nat → Nat} {σ s2 τ : wdSt} (hRS : wdRS L d σ τ) (h14 : σ.1 14 = τ.1 5) (hpl : ∀ i, i < 20 → σ.2 7 i = 0) (hA : wdAlt L d φ σ τ)
    (hp : ¬ σ.1 14 = 0 → wdRWp L a g d b G σ ∧ ((σ.1 16 = 0 ∧ τ.1 10 = nI g ∧ g < L) ∨ (σ.1 16 = 1 ∧ τ.1 10 = σ.1 17 ∧ τ.1 5 = 6)) ∧ ∀ j, 1 ≤ j → j < d → τ.2 8 (j - 1) = nI (G j))
    (w : (σ.1 14 = 0 ∧ s2 = σ) ∨ (¬ σ.1 14 = 0 ∧ wdRWq L g d G σ s2)) : wdR L d s2 τ ∧ s2.1 4 = σ.1 4 := by
  rcases w with ⟨h0, rfl⟩ | ⟨hn, w⟩
  · refine ⟨⟨hRS, h14, hpl, Or.inl ?_⟩, rfl⟩
    rcases hA with h | ⟨h, -⟩
    · exact h
    · exact absurd (h14.symm.trans h0) h
  · obtain ⟨p1, p2, p3⟩ := hp hn
    obtain ⟨-, hPd, hk⟩ := rw_post p1 p2 p3 w
    refine ⟨⟨wdRS_rw p1 hk w hRS, (hk 14 (by decide)).trans h14, fun i hi => by rw [w.2.1 7 (by decide)]; exact hpl i hi, Or.inr ⟨by rw [← h14]; exact hn, hPd⟩⟩, hk 4 (by decide)⟩
theorem wdRS_set {L d j : Nat} {v : Int32} {σ σb τ : wdSt} (hRS : wdRS L d σ τ) (hj : j < 20) (hv : 0 ≤ v) (hb : (¬ σ.2 5 j = 0 ∧ σb = σ) ∨ (σ.2 5 j = 0 ∧ σb = wdS σ 4 (σ.1 4 + 1))) : wdRS L d (wdA (wdA σb 5 j 1) 6 j v) (wdA τ 4 j v) := by
  obtain ⟨h1, h2, h3, ⟨h4, h4'⟩, h5, h6, h7⟩ := hRS
  have key : ∀ i, i < 20 → (upd (σ.2 5) j 1 i = 1 ∧ upd (σ.2 6) j v i = upd (τ.2 4) j v i ∧ 0 ≤ upd (τ.2 4) j v i) ∨ (upd (σ.2 5) j 1 i = 0 ∧ upd (τ.2 4) j v i = -1) := by
    intro i hi
    by_cases q : i = j
    · rw [q, upd_s, upd_s, upd_s]
      exact Or.inl ⟨rfl, rfl, hv⟩
    · rw [upd_n _ _ q, upd_n _ _ q, upd_n _ _ q]
      exact h4 i hi
  rcases hb with ⟨e5, rfl⟩ | ⟨e5, rfl⟩
  · refine ⟨h1, h2, h3, ⟨key, ?_⟩, h5, h6, h7⟩
    have e4 : 0 ≤ τ.2 4 j := by
      rcases h4 j hj with q | q
      · exact q.2.2
      · exact absurd q.1 e5
    show σb.1 4 = nI (yBr (upd (τ.2 4) j v) 20)
    rw [yBr_same hj e4 hv]
    exact h4'
  · refine ⟨h1, h2, h3, ⟨key, ?_⟩, h5, h6, h7⟩
    have e4 : ¬ 0 ≤ τ.2 4 j := by
      rcases h4 j hj with q | q
      · exact absurd (q.1.symm.trans e5) (by decide)
      · rw [q.2]; decide
    show σ.1 4 + 1 = nI (yBr (upd (τ.2 4) j v) 20)
    rw [yBr_more hj e4 hv, h4']
    exact nI_1 _
theorem wdRS_clear {L d j : Nat} {σ τ : wdSt} (hRS : wdRS L d σ τ) (hj : j < 20) (h5n : ¬ σ.2 5 j = 0) : wdRS L d (wdS (wdA σ 5 j 0) 4 (σ.1 4 - 1)) (wdA τ 4 j (-1)) := by
  obtain ⟨h1, h2, h3, ⟨h4, h4'⟩, h5, h6, h7⟩ := hRS
  refine ⟨h1, h2, h3, ⟨?_, ?_⟩, h5, h6, h7⟩
  · intro i hi
    show (upd (σ.2 5) j 0 i = 1 ∧ σ.2 6 i = upd (τ.2 4) j (-1) i ∧ 0 ≤ upd (τ.2 4) j (-1) i) ∨ (upd (σ.2 5) j 0 i = 0 ∧ upd (τ.2 4) j (-1) i = -1)
    by_cases q : i = j
    · rw [q, upd_s, upd_s]
      exact Or.inr ⟨rfl, rfl⟩
    · rw [upd_n _ _ q, upd_n _ _ q]
      exact h4 i hi
  · have e4 : 0 ≤ τ.2 4 j := by
      rcases h4 j hj with q | q
      · exact q.2.2
      · exact absurd q.1 h5n
    show σ.1 4 - 1 = nI (yBr (upd (τ.2 4) j (-1)) 20)
    rw [h4', yBr_less hj e4 (v := -1) (by decide)]
    exact nI_pred _
theorem wdAlt_of {L d : Nat} {σ σ' τ τ' : wdSt} (hR : wdR L d σ τ) (h1 : ∀ k, k ∈ [15, 16, 17] → σ'.1 k = σ.1 k) (h2 : ∀ k, k ∈ [1, 3, 9, 10, 11, 12, 13, 20] → σ'.2 k = σ.2 k) (ht : τ'.1 = τ.1) (h8 : τ'.2 8 = τ.2 8) : wdAlt L d (wdFl σ) σ' τ' := by
  unfold wdAlt
  rw [ht]
  rcases hR.2.2.2 with h | ⟨h, hPd⟩
  · exact Or.inl h
  · refine Or.inr ⟨h, ?_⟩
    have := wdPd_congr h1 h2 hPd
    unfold wdPd wdGo wdPl at *
    rw [ht, h8]
    exact this
/-- what counter reads of the frames below -/
theorem wdCtr_hi {L d j : Nat} {σ τ : wdSt} (hR : wdR L d σ τ) (hj : j < d) (hj1 : 1 ≤ j) : ∃ b g, σ.2 20 (d - j) = nI b ∧ b < 48 ∧ σ.2 10 b = nI g ∧ τ.2 8 (d - 1 - j) = nI g := by
  rcases hR.2.2.2 with ⟨-, h⟩ | ⟨-, hPd⟩
  · omega
  · obtain ⟨g, hg, e8, e20⟩ := hPd.2.2.1 (d - 1 - j) (by omega)
    rw [show d - 1 - j + 1 = d - j by omega] at e20
    exact ⟨_, g, e20, Nat.lt_of_le_of_lt (wdE48 hR.1.1.2.2 hg) (by decide), hPd.2.1.1.2.2.1 g hg, e8⟩
theorem wdCtr_lo {L d : Nat} {σ τ : wdSt} (hR : wdR L d σ τ) (hd : 1 ≤ d) : (σ.1 16 = 0 → ∃ a g, σ.1 15 = nI a ∧ a < 48 ∧ σ.2 10 a = nI g ∧ τ.1 10 = nI g) ∧ (¬ σ.1 16 = 0 → τ.1 10 = σ.1 17) := by
  rcases hR.2.2.2 with ⟨-, h⟩ | ⟨-, hPd⟩
  · omega
  · obtain ⟨-, -, -, g, hg, -, hl⟩ := id hPd
    rcases hl with ⟨h16, hc, hgL⟩ | ⟨h16, hc, -⟩
    · obtain ⟨a, h1, h2, h3⟩ := wdPl_at hR.1.1.2.2 hPd h16 hc hgL
      exact ⟨fun _ => ⟨a, g, h1, h2, h3, hc⟩, fun q => absurd h16 q⟩
    · exact ⟨fun q => absurd (h16.symm.trans q) (by decide), fun _ => hc⟩
end
section
/-! start, setBreak, clearBreak, counter: written by gen/gen_pub.py -/
set_option maxHeartbeats 4000000 in
set_option maxRecDepth 100000 in
theorem xc_start (l : Launch) (D : va_G) (q : Nat → Nat) (cI cZ : ClassId) (sz : Nat) (σ : wdSt) (L d : Nat) (τ : wdSt) (hR : wdR L d σ τ) (p1 : Int32) : x_MI l yX0_start cX0_start 3 .int 2 44 D q cI cZ sz σ [.int p1] (fun r σ' => r = (yStart L p1 τ).1 ∧ ∃ d', wdR L d' σ' (yStart L p1 τ).2) := by
  refine x_open (by decide) rfl (Nat.le_of_ble_eq_true rfl) ?_
  intro p e s m below meth c S hr hlk J ls hl
  have hx := S.1
  have hb := S.2.1
  have hl : lv_has ls 3 [(0, .ref (q 0)), (1, .int p1)] := hl
  generalize s.heap = H at J ⊢
  generalize ([] : List Loc) = locs at J ⊢
  have hL : σ.1 0 = nI L := hR.1.1.1
  have hL2 : L ≤ 20 := hR.1.1.2.2
  refine lv_aload_n hx hb dX0_start_0 rfl (lv_at hl 0 rfl) ?_
  refine lv_iload_n hx hb dX0_start_1 rfl (lv_at hl 1 rfl) ?_
  refine x_ci S J (xc_noInstruction l D q cI cZ _ (σ) L hL hL2 p1) (xk_noInstruction S.2.2.2.2 ⟨Nat.le_of_ble_eq_true rfl, Nat.le_of_ble_eq_true rfl⟩) rfl hl.1 rfl (Nat.le_of_ble_eq_true rfl) dX0_start_2 ⟨Nat.zero_le _, Nat.zero_le _⟩ (fun r_s0 s0 H locs w_s0 J => ?_)
  obtain ⟨e_s0, w_s0⟩ := w_s0
  rw [e_s0] at J
  refine lv_if_eq (tgt := 11) hx hb dX0_start_5 (by decide) (fun c_5 => ?_) (fun c_5 => ?_)
  · obtain ⟨j, hj, ej⟩ := wdNI_z w_s0 c_5
    subst ej
    refine lv_aload_n hx hb dX0_start_11 rfl (lv_at hl 0 rfl) ?_
    refine x_cv S J (xc_weave l D q cI cZ _ (σ) L hL hL2) (xk_weave S.2.2.2.2 ⟨Nat.le_of_ble_eq_true rfl, Nat.le_of_ble_eq_true rfl⟩) rfl hl.1 rfl (Nat.le_of_ble_eq_true rfl) dX0_start_12 ⟨Nat.zero_le _, Nat.zero_le _⟩ (fun s1 H locs w_s1 J => ?_)
    refine lv_aload_n hx hb dX0_start_15 rfl (lv_at hl 0 rfl) ?_
    refine lv_iconst (v := 1) hx hb dX0_start_16 ci_1 ?_
    refine x_p18 S J dX0_start_17 (fun H locs J => ?_)
    refine lv_iconst (v := 0) hx hb dX0_start_20 ci_0 ?_
    refine lv_istore_n (lv' := [(2, .int 0), (0, .ref (q 0)), (1, .int (nI j))]) hx hb dX0_start_21 rfl hl (by decide) rfl (fun ls hl => ?_)
    refine lv_iload_n hx hb dX0_start_22 rfl (lv_at hl 0 rfl) ?_
    refine lv_iconst (v := 4) hx hb dX0_start_23 ci_4 ?_
    refine lv_icmp_ge (tgt := 40) hx hb dX0_start_24 (by decide) (fun c_24 => ?_) (fun c_24 => ?_)
    · exact absurd c_24 (by decide)
    refine lv_aload_n hx hb dX0_start_27 rfl (lv_at hl 1 rfl) ?_
    refine x_r19 S J dX0_start_28 ?_
    refine lv_iload_n hx hb dX0_start_31 rfl (lv_at hl 0 rfl) ?_
    refine lv_iconst (v := 0) hx hb dX0_start_32 ci_0 ?_
    refine x_s19 S J 0 (by decide) dX0_start_33 (fun H locs J => ?_)
    refine lv_iinc (v := 1) (lv' := [(2, .int 1), (0, .ref (q 0)), (1, .int (nI j))]) hx hb dX0_start_34 hl (k := 0) rfl (by decide) (by decide) rfl (fun ls hl => ?_)
    refine lv_goto (tgt := 22) hx hb dX0_start_37 (by decide) ?_
    refine lv_iload_n hx hb dX0_start_22 rfl (lv_at hl 0 rfl) ?_
    refine lv_iconst (v := 4) hx hb dX0_start_23 ci_4 ?_
    refine lv_icmp_ge (tgt := 40) hx hb dX0_start_24 (by decide) (fun c_24 => ?_) (fun c_24 => ?_)
    · exact absurd c_24 (by decide)
    refine lv_aload_n hx hb dX0_start_27 rfl (lv_at hl 1 rfl) ?_
    refine x_r19 S J dX0_start_28 ?_
    refine lv_iload_n hx hb dX0_start_31 rfl (lv_at hl 0 rfl) ?_
    refine lv_iconst (v := 0) hx hb dX0_start_32 ci_0 ?_
    refine x_s19 S J 1 (by decide) dX0_start_33 (fun H locs J => ?_)
    refine lv_iinc (v := 2) (lv' := [(2, .int 2), (0, .ref (q 0)), (1, .int (nI j))]) hx hb dX0_start_34 hl (k := 0) rfl (by decide) (by decide) rfl (fun ls hl => ?_)
    refine lv_goto (tgt := 22) hx hb dX0_start_37 (by decide) ?_
    refine lv_iload_n hx hb dX0_start_22 rfl (lv_at hl 0 rfl) ?_
    refine lv_iconst (v := 4) hx hb dX0_start_23 ci_4 ?_
    refine lv_icmp_ge (tgt := 40) hx hb dX0_start_24 (by decide) (fun c_24 => ?_) (fun c_24 => ?_)
    · exact absurd c_24 (by decide)
    refine lv_aload_n hx hb dX0_start_27 rfl (lv_at hl 1 rfl) ?_
    refine x_r19 S J dX0_start_28 ?_
    refine lv_iload_n hx hb dX0_start_31 rfl (lv_at hl 0 rfl) ?_
    refine lv_iconst (v := 0) hx hb dX0_start_32 ci_0 ?_
    refine x_s19 S J 2 (by decide) dX0_start_33 (fun H locs J => ?_)
    refine lv_iinc (v := 3) (lv' := [(2, .int 3), (0, .ref (q 0)), (1, .int (nI j))]) hx hb dX0_start_34 hl (k := 0) rfl (by decide) (by decide) rfl (fun ls hl => ?_)
    refine lv_goto (tgt := 22) hx hb dX0_start_37 (by decide) ?_
    refine lv_iload_n hx hb dX0_start_22 rfl (lv_at hl 0 rfl) ?_
    refine lv_iconst (v := 4) hx hb dX0_start_23 ci_4 ?_
    refine lv_icmp_ge (tgt := 40) hx hb dX0_start_24 (by decide) (fun c_24 => ?_) (fun c_24 => ?_)
    · exact absurd c_24 (by decide)
    refine lv_aload_n hx hb dX0_start_27 rfl (lv_at hl 1 rfl) ?_
    refine x_r19 S J dX0_start_28 ?_
    refine lv_iload_n hx hb dX0_start_31 rfl (lv_at hl 0 rfl) ?_
    refine lv_iconst (v := 0) hx hb dX0_start_32 ci_0 ?_
    refine x_s19 S J 3 (by decide) dX0_start_33 (fun H locs J => ?_)
    refine lv_iinc (v := 4) (lv' := [(2, .int 4), (0, .ref (q 0)), (1, .int (nI j))]) hx hb dX0_start_34 hl (k := 0) rfl (by decide) (by decide) rfl (fun ls hl => ?_)
    refine lv_goto (tgt := 22) hx hb dX0_start_37 (by decide) ?_
    refine lv_iload_n hx hb dX0_start_22 rfl (lv_at hl 0 rfl) ?_
    refine lv_iconst (v := 4) hx hb dX0_start_23 ci_4 ?_
    refine lv_icmp_ge (tgt := 40) hx hb dX0_start_24 (by decide) (fun c_24 => ?_) (fun c_24 => absurd (by decide) c_24)
    refine lv_aload_n hx hb dX0_start_40 rfl (lv_at hl 1 rfl) ?_
    refine lv_aload_n hx hb dX0_start_41 rfl (lv_at hl 1 rfl) ?_
    refine x_r12 S J dX0_start_42 ?_
    refine lv_iload_n hx hb dX0_start_45 rfl (lv_at hl 2 rfl) ?_
    refine x_l12 (v := nI (wdE (wdFl σ) j)) S J j (by omega) (w_s1.2.2.1.1 j (Nat.le_of_lt hj)) dX0_start_46 ?_
    refine x_p15 S J dX0_start_47 (fun H locs J => ?_)
    refine lv_aload_n hx hb dX0_start_50 rfl (lv_at hl 1 rfl) ?_
    refine lv_iconst (v := 0) hx hb dX0_start_51 ci_0 ?_
    refine x_p16 S J rfl rfl dX0_start_52 (fun H locs J => ?_)
    refine lv_aload_n hx hb dX0_start_55 rfl (lv_at hl 1 rfl) ?_
    refine lv_iconst (v := 0) hx hb dX0_start_56 ci_0 ?_
    refine x_p22 S J dX0_start_57 (fun H locs J => ?_)
    refine lv_aload_n hx hb dX0_start_60 rfl (lv_at hl 1 rfl) ?_
    refine lv_iconst (v := 1) hx hb dX0_start_61 ci_1 ?_
    refine x_p14 S J dX0_start_62 (fun H locs J => ?_)
    refine lv_iconst (v := 0) hx hb dX0_start_65 ci_0 ?_
    exact x_iret (v := 0) S hr hlk J (⟨by rw [yStart, if_neg (wdBad_in hL2 hj)], 1, by rw [yStart, if_neg (wdBad_in hL2 hj)]; exact wdStart hR hj w_s1.1 w_s1.2.1 w_s1.2.2⟩) dX0_start_66
  · refine lv_bipush (v := -3) hx hb dX0_start_8 cb_m3 ?_
    exact x_iret (v := (-3)) S hr hlk J (⟨by rw [yStart, if_pos (wdBad_1 w_s0 hL2 c_5)], d, by rw [yStart, if_pos (wdBad_1 w_s0 hL2 c_5)]; exact hR⟩) dX0_start_10
set_option maxHeartbeats 4000000 in
set_option maxRecDepth 100000 in
theorem xc_setBreak (l : Launch) (D : va_G) (q : Nat → Nat) (cI cZ : ClassId) (sz : Nat) (σ : wdSt) (L d : Nat) (τ : wdSt) (hR : wdR L d σ τ) (p1 p2 : Int32) : x_MI l yX0_setBreak cX0_setBreak 3 .int 3 65 D q cI cZ sz σ [.int p1, .int p2] (fun r σ' => r = (ySet L p1 p2 τ).1 ∧ ∃ d', wdR L d' σ' (ySet L p1 p2 τ).2) := by
  refine x_open (by decide) rfl (Nat.le_of_ble_eq_true rfl) ?_
  intro p e s m below meth c S hr hlk J ls hl
  have hx := S.1
  have hb := S.2.1
  have hl : lv_has ls 3 [(0, .ref (q 0)), (1, .int p1), (2, .int p2)] := hl
  generalize s.heap = H at J ⊢
  generalize ([] : List Loc) = locs at J ⊢
  have hL : σ.1 0 = nI L := hR.1.1.1
  have hL2 : L ≤ 20 := hR.1.1.2.2
  refine lv_aload_n hx hb dX0_setBreak_0 rfl (lv_at hl 0 rfl) ?_
  refine lv_iload_n hx hb dX0_setBreak_1 rfl (lv_at hl 1 rfl) ?_
  refine x_ci S J (xc_noInstruction l D q cI cZ _ (σ) L hL hL2 p1) (xk_noInstruction S.2.2.2.2 ⟨Nat.le_of_ble_eq_true rfl, Nat.le_of_ble_eq_true rfl⟩) rfl hl.1 rfl (Nat.le_of_ble_eq_true rfl) dX0_setBreak_2 ⟨Nat.zero_le _, Nat.zero_le _⟩ (fun r_s0 s0 H locs w_s0 J => ?_)
  obtain ⟨e_s0, w_s0⟩ := w_s0
  rw [e_s0] at J
  refine lv_if_eq (tgt := 11) hx hb dX0_setBreak_5 (by decide) (fun c_5 => ?_) (fun c_5 => ?_)
  · obtain ⟨j, hj, ej⟩ := wdNI_z w_s0 c_5
    subst ej
    refine lv_iload_n hx hb dX0_setBreak_11 rfl (lv_at hl 2 rfl) ?_
    refine lv_if_lt (tgt := 21) hx hb dX0_setBreak_12 (by decide) (fun c_12 => ?_) (fun c_12 => ?_)
    · refine lv_iconst (v := -1) hx hb dX0_setBreak_21 ci_m1 ?_
      exact x_iret (v := (-1)) S hr hlk J (⟨by rw [ySet, if_neg (wdBad_in hL2 hj), if_pos (Or.inl c_12)], d, by rw [ySet, if_neg (wdBad_in hL2 hj), if_pos (Or.inl c_12)]; exact hR⟩) dX0_setBreak_22
    · refine lv_iload_n hx hb dX0_setBreak_15 rfl (lv_at hl 2 rfl) ?_
      refine lv_bipush (v := 100) hx hb dX0_setBreak_16 cb_100 ?_
      refine lv_icmp_le (tgt := 23) hx hb dX0_setBreak_18 (by decide) (fun c_18 => ?_) (fun c_18 => ?_)
      · refine lv_aload_n hx hb dX0_setBreak_23 rfl (lv_at hl 0 rfl) ?_
        refine x_r5 S J dX0_setBreak_24 ?_
        refine lv_iload_n hx hb dX0_setBreak_27 rfl (lv_at hl 1 rfl) ?_
        refine x_l5 (v := σ.2 5 j) S J j (by omega) rfl dX0_setBreak_28 ?_
        refine lv_if_ne (tgt := 42) hx hb dX0_setBreak_29 (by decide) (fun c_29 => ?_) (fun c_29 => ?_)
        · refine lv_aload_n hx hb dX0_setBreak_42 rfl (lv_at hl 0 rfl) ?_
          refine x_r5 S J dX0_setBreak_43 ?_
          refine lv_iload_n hx hb dX0_setBreak_46 rfl (lv_at hl 1 rfl) ?_
          refine lv_iconst (v := 1) hx hb dX0_setBreak_47 ci_1 ?_
          refine x_s5 S J j (by omega) rfl dX0_setBreak_48 (fun H locs J => ?_)
          refine lv_aload_n hx hb dX0_setBreak_49 rfl (lv_at hl 0 rfl) ?_
          refine x_r6 S J dX0_setBreak_50 ?_
          refine lv_iload_n hx hb dX0_setBreak_53 rfl (lv_at hl 1 rfl) ?_
          refine lv_iload_n hx hb dX0_setBreak_54 rfl (lv_at hl 2 rfl) ?_
          refine x_s6 S J j (by omega) dX0_setBreak_55 (fun H locs J => ?_)
          have hv0 : 0 ≤ p2 := Int32.not_lt.mp c_12
          have hRS1 := wdRS_set (v := p2) hR.1 (show j < 20 by omega) hv0 (Or.inl ⟨c_29, rfl⟩)
          have hA1 : wdAlt L d (wdFl σ) (wdA (wdA σ 5 j 1) 6 j p2) (wdA τ 4 j p2) := wdAlt_of hR (fun k hm => rfl) (fun k hm => (wd2_n _ _ _ (fun e => by subst e; simp at hm)).trans (wd2_n _ _ _ (fun e => by subst e; simp at hm))) rfl rfl
          obtain ⟨a, g, b, G, hp⟩ := rw_any (wdFl_le σ) hRS1 hR.2.1 hA1
          refine lv_aload_n hx hb dX0_setBreak_56 rfl (lv_at hl 0 rfl) ?_
          refine x_cv S J (xc_reweave l D q cI cZ _ (wdA (wdA σ 5 j 1) 6 j p2) L hL hL2 a g d b G (fun h => (hp h).1)) (xk_reweave S.2.2.2.2 ⟨Nat.le_of_ble_eq_true rfl, Nat.le_of_ble_eq_true rfl⟩) rfl hl.1 rfl (Nat.le_of_ble_eq_true rfl) dX0_setBreak_57 ⟨Nat.zero_le _, Nat.zero_le _⟩ (fun s2 H locs w_s2 J => ?_)
          obtain ⟨hR2, e42⟩ := wdR_rw hRS1 hR.2.1 (fun i hi => hR.2.2.1 i hi) hA1 hp w_s2
          refine lv_aload_n hx hb dX0_setBreak_60 rfl (lv_at hl 0 rfl) ?_
          refine x_g4 (v := s2.1 4) S J rfl dX0_setBreak_61 ?_
          exact x_iret (v := s2.1 4) S hr hlk J (⟨by rw [ySet, if_neg (wdBad_in hL2 hj), if_neg (fun h => h.elim c_12 (fun h => h c_18)), nI_clamp (by omega), e42]; exact hRS1.2.2.2.1.2, d, by rw [ySet, if_neg (wdBad_in hL2 hj), if_neg (fun h => h.elim c_12 (fun h => h c_18)), nI_clamp (by omega)]; exact hR2⟩) dX0_setBreak_64
        · refine lv_aload_n hx hb dX0_setBreak_32 rfl (lv_at hl 0 rfl) ?_
          refine lv_dup hx hb dX0_setBreak_33 rfl ?_
          refine x_g4 (v := σ.1 4) S J rfl dX0_setBreak_34 ?_
          refine lv_iconst (v := 1) hx hb dX0_setBreak_37 ci_1 ?_
          refine lv_iadd hx hb dX0_setBreak_38 ?_
          refine x_p4 S J dX0_setBreak_39 (fun H locs J => ?_)
          refine lv_aload_n hx hb dX0_setBreak_42 rfl (lv_at hl 0 rfl) ?_
          refine x_r5 S J dX0_setBreak_43 ?_
          refine lv_iload_n hx hb dX0_setBreak_46 rfl (lv_at hl 1 rfl) ?_
          refine lv_iconst (v := 1) hx hb dX0_setBreak_47 ci_1 ?_
          refine x_s5 S J j (by omega) rfl dX0_setBreak_48 (fun H locs J => ?_)
          refine lv_aload_n hx hb dX0_setBreak_49 rfl (lv_at hl 0 rfl) ?_
          refine x_r6 S J dX0_setBreak_50 ?_
          refine lv_iload_n hx hb dX0_setBreak_53 rfl (lv_at hl 1 rfl) ?_
          refine lv_iload_n hx hb dX0_setBreak_54 rfl (lv_at hl 2 rfl) ?_
          refine x_s6 S J j (by omega) dX0_setBreak_55 (fun H locs J => ?_)
          have hv0 : 0 ≤ p2 := Int32.not_lt.mp c_12
          have hRS1 := wdRS_set (v := p2) hR.1 (show j < 20 by omega) hv0 (Or.inr ⟨c_29, rfl⟩)
          have hA1 : wdAlt L d (wdFl σ) (wdA (wdA (wdS σ 4 ((σ.1 4) + 1)) 5 j 1) 6 j p2) (wdA τ 4 j p2) := wdAlt_of hR (fun k hm => wd1_n _ _ (fun e => by subst e; simp at hm)) (fun k hm => (wd2_n _ _ _ (fun e => by subst e; simp at hm)).trans (wd2_n _ _ _ (fun e => by subst e; simp at hm))) rfl rfl
          obtain ⟨a, g, b, G, hp⟩ := rw_any (wdFl_le σ) hRS1 hR.2.1 hA1
          refine lv_aload_n hx hb dX0_setBreak_56 rfl (lv_at hl 0 rfl) ?_
          refine x_cv S J (xc_reweave l D q cI cZ _ (wdA (wdA (wdS σ 4 ((σ.1 4) + 1)) 5 j 1) 6 j p2) L hL hL2 a g d b G (fun h => (hp h).1)) (xk_reweave S.2.2.2.2 ⟨Nat.le_of_ble_eq_true rfl, Nat.le_of_ble_eq_true rfl⟩) rfl hl.1 rfl (Nat.le_of_ble_eq_true rfl) dX0_setBreak_57 ⟨Nat.zero_le _, Nat.zero_le _⟩ (fun s2 H locs w_s2 J => ?_)
          obtain ⟨hR2, e42⟩ := wdR_rw hRS1 hR.2.1 (fun i hi => hR.2.2.1 i hi) hA1 hp w_s2
          refine lv_aload_n hx hb dX0_setBreak_60 rfl (lv_at hl 0 rfl) ?_
          refine x_g4 (v := s2.1 4) S J rfl dX0_setBreak_61 ?_
          exact x_iret (v := s2.1 4) S hr hlk J (⟨by rw [ySet, if_neg (wdBad_in hL2 hj), if_neg (fun h => h.elim c_12 (fun h => h c_18)), nI_clamp (by omega), e42]; exact hRS1.2.2.2.1.2, d, by rw [ySet, if_neg (wdBad_in hL2 hj), if_neg (fun h => h.elim c_12 (fun h => h c_18)), nI_clamp (by omega)]; exact hR2⟩) dX0_setBreak_64
      · refine lv_iconst (v := -1) hx hb dX0_setBreak_21 ci_m1 ?_
        exact x_iret (v := (-1)) S hr hlk J (⟨by rw [ySet, if_neg (wdBad_in hL2 hj), if_pos (Or.inr c_18)], d, by rw [ySet, if_neg (wdBad_in hL2 hj), if_pos (Or.inr c_18)]; exact hR⟩) dX0_setBreak_22
  · refine lv_bipush (v := -3) hx hb dX0_setBreak_8 cb_m3 ?_
    exact x_iret (v := (-3)) S hr hlk J (⟨by rw [ySet, if_pos (wdBad_1 w_s0 hL2 c_5)], d, by rw [ySet, if_pos (wdBad_1 w_s0 hL2 c_5)]; exact hR⟩) dX0_setBreak_10
theorem wd_b0 {x y z : Int32} (h : (x = 1 ∧ y = z ∧ 0 ≤ z) ∨ (x = 0 ∧ z = -1)) (hx : x = 0) : ¬ 0 ≤ z := by
  rcases h with h | h
  · exact absurd (h.1.symm.trans hx) (by decide)
  · rw [h.2]; decide
theorem wd_b1 {x y z : Int32} (h : (x = 1 ∧ y = z ∧ 0 ≤ z) ∨ (x = 0 ∧ z = -1)) (hx : ¬ x = 0) : 0 ≤ z := by
  rcases h with h | h
  · exact h.2.2
  · exact absurd h.1 hx
set_option maxHeartbeats 4000000 in
set_option maxRecDepth 100000 in
theorem xc_clearBreak (l : Launch) (D : va_G) (q : Nat → Nat) (cI cZ : ClassId) (sz : Nat) (σ : wdSt) (L d : Nat) (τ : wdSt) (hR : wdR L d σ τ) (p1 : Int32) : x_MI l yX0_clearBreak cX0_clearBreak 2 .int 3 65 D q cI cZ sz σ [.int p1] (fun r σ' => r = (yClear L p1 τ).1 ∧ ∃ d', wdR L d' σ' (yClear L p1 τ).2) := by
  refine x_open (by decide) rfl (Nat.le_of_ble_eq_true rfl) ?_
  intro p e s m below meth c S hr hlk J ls hl
  have hx := S.1
  have hb := S.2.1
  have hl : lv_has ls 2 [(0, .ref (q 0)), (1, .int p1)] := hl
  generalize s.heap = H at J ⊢
  generalize ([] : List Loc) = locs at J ⊢
  have hL : σ.1 0 = nI L := hR.1.1.1
  have hL2 : L ≤ 20 := hR.1.1.2.2
  refine lv_aload_n hx hb dX0_clearBreak_0 rfl (lv_at hl 0 rfl) ?_
  refine lv_iload_n hx hb dX0_clearBreak_1 rfl (lv_at hl 1 rfl) ?_
  refine x_ci S J (xc_noInstruction l D q cI cZ _ (σ) L hL hL2 p1) (xk_noInstruction S.2.2.2.2 ⟨Nat.le_of_ble_eq_true rfl, Nat.le_of_ble_eq_true rfl⟩) rfl hl.1 rfl (Nat.le_of_ble_eq_true rfl) dX0_clearBreak_2 ⟨Nat.zero_le _, Nat.zero_le _⟩ (fun r_s0 s0 H locs w_s0 J => ?_)
  obtain ⟨e_s0, w_s0⟩ := w_s0
  rw [e_s0] at J
  refine lv_if_eq (tgt := 11) hx hb dX0_clearBreak_5 (by decide) (fun c_5 => ?_) (fun c_5 => ?_)
  · obtain ⟨j, hj, ej⟩ := wdNI_z w_s0 c_5
    subst ej
    refine lv_aload_n hx hb dX0_clearBreak_11 rfl (lv_at hl 0 rfl) ?_
    refine x_r5 S J dX0_clearBreak_12 ?_
    refine lv_iload_n hx hb dX0_clearBreak_15 rfl (lv_at hl 1 rfl) ?_
    refine x_l5 (v := σ.2 5 j) S J j (by omega) rfl dX0_clearBreak_16 ?_
    refine lv_if_ne (tgt := 23) hx hb dX0_clearBreak_17 (by decide) (fun c_17 => ?_) (fun c_17 => ?_)
    · refine lv_aload_n hx hb dX0_clearBreak_23 rfl (lv_at hl 0 rfl) ?_
      refine x_r5 S J dX0_clearBreak_24 ?_
      refine lv_iload_n hx hb dX0_clearBreak_27 rfl (lv_at hl 1 rfl) ?_
      refine lv_iconst (v := 0) hx hb dX0_clearBreak_28 ci_0 ?_
      refine x_s5 S J j (by omega) rfl dX0_clearBreak_29 (fun H locs J => ?_)
      refine lv_aload_n hx hb dX0_clearBreak_30 rfl (lv_at hl 0 rfl) ?_
      refine lv_dup hx hb dX0_clearBreak_31 rfl ?_
      refine x_g4 (v := σ.1 4) S J rfl dX0_clearBreak_32 ?_
      refine lv_iconst (v := 1) hx hb dX0_clearBreak_35 ci_1 ?_
      refine lv_isub hx hb dX0_clearBreak_36 ?_
      refine x_p4 S J dX0_clearBreak_37 (fun H locs J => ?_)
      have hRS1 := wdRS_clear hR.1 (show j < 20 by omega) c_17
      have hA1 : wdAlt L d (wdFl σ) (wdS (wdA σ 5 j 0) 4 ((σ.1 4) - 1)) (wdA τ 4 j (-1)) := wdAlt_of hR (fun k hm => wd1_n _ _ (fun e => by subst e; simp at hm)) (fun k hm => wd2_n _ _ _ (fun e => by subst e; simp at hm)) rfl rfl
      obtain ⟨a, g, b, G, hp⟩ := rw_any (wdFl_le σ) hRS1 hR.2.1 hA1
      refine lv_aload_n hx hb dX0_clearBreak_40 rfl (lv_at hl 0 rfl) ?_
      refine x_cv S J (xc_reweave l D q cI cZ _ (wdS (wdA σ 5 j 0) 4 ((σ.1 4) - 1)) L hL hL2 a g d b G (fun h => (hp h).1)) (xk_reweave S.2.2.2.2 ⟨Nat.le_of_ble_eq_true rfl, Nat.le_of_ble_eq_true rfl⟩) rfl hl.1 rfl (Nat.le_of_ble_eq_true rfl) dX0_clearBreak_41 ⟨Nat.zero_le _, Nat.zero_le _⟩ (fun s2 H locs w_s2 J => ?_)
      obtain ⟨hR2, e42⟩ := wdR_rw hRS1 hR.2.1 (fun i hi => hR.2.2.1 i hi) hA1 hp w_s2
      refine lv_aload_n hx hb dX0_clearBreak_44 rfl (lv_at hl 0 rfl) ?_
      refine x_g4 (v := s2.1 4) S J rfl dX0_clearBreak_45 ?_
      exact x_iret (v := s2.1 4) S hr hlk J (⟨by rw [yClear, if_neg (wdBad_in hL2 hj), nI_clamp (show j < 2 ^ 31 by omega), if_pos (wd_b1 (hR.1.2.2.2.1.1 j (by omega)) c_17), e42]; exact hRS1.2.2.2.1.2, d, by rw [yClear, if_neg (wdBad_in hL2 hj), nI_clamp (show j < 2 ^ 31 by omega), if_pos (wd_b1 (hR.1.2.2.2.1.1 j (by omega)) c_17)]; exact hR2⟩) dX0_clearBreak_48
    · refine lv_bipush (v := -3) hx hb dX0_clearBreak_20 cb_m3 ?_
      exact x_iret (v := (-3)) S hr hlk J (⟨by rw [yClear, if_neg (wdBad_in hL2 hj), nI_clamp (show j < 2 ^ 31 by omega), if_neg (wd_b0 (hR.1.2.2.2.1.1 j (by omega)) c_17)], d, by rw [yClear, if_neg (wdBad_in hL2 hj), nI_clamp (show j < 2 ^ 31 by omega), if_neg (wd_b0 (hR.1.2.2.2.1.1 j (by omega)) c_17)]; exact hR⟩) dX0_clearBreak_22
  · refine lv_bipush (v := -3) hx hb dX0_clearBreak_8 cb_m3 ?_
    exact x_iret (v := (-3)) S hr hlk J (⟨by rw [yClear, if_pos (wdBad_1 w_s0 hL2 c_5)], d, by rw [yClear, if_pos (wdBad_1 w_s0 hL2 c_5)]; exact hR⟩) dX0_clearBreak_10
set_option maxHeartbeats 4000000 in
set_option maxRecDepth 100000 in
theorem xc_counter (l : Launch) (D : va_G) (q : Nat → Nat) (cI cZ : ClassId) (sz : Nat) (σ : wdSt) (L d : Nat) (τ : wdSt) (hR : wdR L d σ τ) (p1 : Int32) : x_MI l yX0_counter cX0_counter 2 .int 0 0 D q cI cZ sz σ [.int p1] (fun r σ' => σ' = σ ∧ r = yCtr d p1 τ) := by
  refine x_open (by decide) rfl (Nat.le_of_ble_eq_true rfl) ?_
  intro p e s m below meth c S hr hlk J ls hl
  have hx := S.1
  have hb := S.2.1
  have hl : lv_has ls 2 [(0, .ref (q 0)), (1, .int p1)] := hl
  generalize s.heap = H at J ⊢
  generalize ([] : List Loc) = locs at J ⊢
  have hd6 : d ≤ 6 := hR.1.2.1.2.2
  refine lv_iload_n hx hb dX0_counter_0 rfl (lv_at hl 1 rfl) ?_
  refine lv_if_lt (tgt := 12) hx hb dX0_counter_1 (by decide) (fun c_1 => ?_) (fun c_1 => ?_)
  · refine lv_bipush (v := -3) hx hb dX0_counter_12 cb_m3 ?_
    exact x_iret (v := (-3)) S hr hlk J (⟨rfl, by rw [yCtr, if_pos (Or.inl c_1)]⟩) dX0_counter_14
  · refine lv_iload_n hx hb dX0_counter_4 rfl (lv_at hl 1 rfl) ?_
    refine lv_aload_n hx hb dX0_counter_5 rfl (lv_at hl 0 rfl) ?_
    refine x_g18 (v := nI d) S J hR.1.2.1.1 dX0_counter_6 ?_
    refine lv_icmp_lt (tgt := 15) hx hb dX0_counter_9 (by decide) (fun c_9 => ?_) (fun c_9 => ?_)
    · have hin : ¬ (p1 < 0 ∨ ¬ p1 < nI d) := fun h => h.elim c_1 (fun h => h c_9)
      obtain ⟨j, hj, ej⟩ := wdBad_ex (L := d) (by omega) hin
      refine lv_iload_n hx hb dX0_counter_15 rfl (lv_at hl 1 rfl) ?_
      refine lv_if_le (tgt := 36) hx hb dX0_counter_16 (by decide) (fun c_16 => ?_) (fun c_16 => ?_)
      · have ej0 : p1 = 0 := by rw [ej, show j = 0 from Nat.le_zero.mp ((wd_le j 0 0 (by omega) (by decide) rfl).mp (by rw [← ej]; exact c_16))]; rfl
        have hlo := wdCtr_lo hR (show 1 ≤ d by omega)
        refine lv_aload_n hx hb dX0_counter_36 rfl (lv_at hl 0 rfl) ?_
        refine x_g16 (v := σ.1 16) S J rfl dX0_counter_37 ?_
        refine lv_if_eq (tgt := 50) hx hb dX0_counter_40 (by decide) (fun c_40 => ?_) (fun c_40 => ?_)
        · obtain ⟨a, g, ha, ha2, hga, hgt⟩ := hlo.1 c_40
          refine lv_aload_n hx hb dX0_counter_50 rfl (lv_at hl 0 rfl) ?_
          refine x_r10 S J dX0_counter_51 ?_
          refine lv_aload_n hx hb dX0_counter_54 rfl (lv_at hl 0 rfl) ?_
          refine x_g15 (v := nI a) S J ha dX0_counter_55 ?_
          refine x_l10 (v := nI g) S J a ha2 hga dX0_counter_58 ?_
          exact x_iret (v := nI g) S hr hlk J (⟨rfl, by rw [yCtr, if_neg hin, if_pos ej0, hgt]⟩) dX0_counter_59
        · refine lv_aload_n hx hb dX0_counter_43 rfl (lv_at hl 0 rfl) ?_
          refine x_g17 (v := σ.1 17) S J rfl dX0_counter_44 ?_
          refine lv_goto (tgt := 59) hx hb dX0_counter_47 (by decide) ?_
          exact x_iret (v := σ.1 17) S hr hlk J (⟨rfl, by rw [yCtr, if_neg hin, if_pos ej0, hlo.2 c_40]⟩) dX0_counter_59
      · have hj1 : 1 ≤ j := Nat.pos_of_ne_zero (fun h => c_16 (by rw [ej, h]; decide))
        obtain ⟨b, g, hb1, hb2, hb3, hb4⟩ := wdCtr_hi hR hj hj1
        subst ej
        refine lv_aload_n hx hb dX0_counter_19 rfl (lv_at hl 0 rfl) ?_
        refine x_r10 S J dX0_counter_20 ?_
        refine lv_aload_n hx hb dX0_counter_23 rfl (lv_at hl 0 rfl) ?_
        refine x_r20 S J dX0_counter_24 ?_
        refine lv_aload_n hx hb dX0_counter_27 rfl (lv_at hl 0 rfl) ?_
        refine x_g18 (v := nI d) S J hR.1.2.1.1 dX0_counter_28 ?_
        refine lv_iload_n hx hb dX0_counter_31 rfl (lv_at hl 1 rfl) ?_
        refine lv_isub hx hb dX0_counter_32 ?_
        refine wd_top (nI (d - j)) (wd_sub (by omega)) ?_
        refine x_l20 (v := nI b) S J (d - j) (by omega) hb1 dX0_counter_33 ?_
        refine x_l10 (v := nI g) S J b hb2 hb3 dX0_counter_34 ?_
        exact x_iret (v := nI g) S hr hlk J (⟨rfl, by rw [yCtr, if_neg hin, if_neg (fun e => absurd ((wd_eq j 0 0 (by omega) (by decide) rfl).mp e) (by omega)), nI_clamp (by omega), hb4]⟩) dX0_counter_35
    · refine lv_bipush (v := -3) hx hb dX0_counter_12 cb_m3 ?_
      exact x_iret (v := (-3)) S hr hlk J (⟨rfl, by rw [yCtr, if_pos (Or.inr c_9)]⟩) dX0_counter_14
end
section
/-! the constructors: written by gen/gen_init.py -/
def wd0 : wdSt := (fun _ => 0, fun _ _ => 0)
section WN
variable {p : Program} {l : Launch} {e : Env} {R : Room} {s : State} {m : MethodId} {args : Array Value} {below : List Frame} {meth : Method} {c : Code} {H H0 : Heap} {locs : List Loc} {cells slots : Nat} {Q : State → Prop}
variable {cc : ByteArray} {pc nL : Nat} {ls : Array Slot} {rest : List Value} {D : va_G} {cI cZ : ClassId} {A : Nat → Prop} {own : String} {ws : va_W}
theorem wd_newI (S : CallFix p m c cc nL s args lw_all own) (hK : va_K D vwCl (wdTy cI cZ) s) (hP : va_P D vwCl ws H) (hD : va_D A ws) (hS : va_S A H0 H locs) (hA : ∀ q, H0.size ≤ q → A q) {n : Int32} {N : Nat} (hn : ¬ n < 0) (hN : n.toNatClampNeg = N) (hbytes : N * componentBytes .int ≤ 536870912) (hcells : cells + 1 ≤ R.cells) (hslots : slots + N ≤ R.slots) (hdg : decode cc pc = .ok (.newarray .int, 2))
    (kk : ∀ (x : Nat) (H1 : Heap), va_P D vwCl (ws ++ [(x, .inl (cI, N, .inl (fun _ => 0)))]) H1 → va_D A (ws ++ [(x, .inl (cI, N, .inl (fun _ => 0)))]) → va_S A H0 H1 locs → W p l e R s m args below meth c H1 locs (cells + 1) (slots + N) Q (F0 m (pc + 2) ls (.ref x :: rest))) : W p l e R s m args below meth c H locs cells slots Q (F0 m pc ls (.int n :: rest)) := by
  refine va_newa S.1 S.2.1 (atype := .int) (S.2.2.2.2 _ q105) (ty := .int) rfl hK hP hD hS hA (a0 := (N, .inl (fun _ => 0))) (fun _ => rfl) hn hN hbytes hcells hslots hdg (fun x cA H1 hK1 hP1 hD1 hS1 => ?_)
  have a1 : s.vm.findClass ("[" ++ FieldType.int.toString) = some cA := (hK1.2 2 _ rfl).2
  have a2 : s.vm.findClass ("[" ++ FieldType.int.toString) = some cI := (hK1.2 0 _ rfl).2
  have e1 : cA = cI := Option.some.inj (a1.symm.trans a2)
  subst e1
  exact kk x H1 hP1 hD1 hS1
theorem wd_newZ (S : CallFix p m c cc nL s args lw_all own) (hK : va_K D vwCl (wdTy cI cZ) s) (hP : va_P D vwCl ws H) (hD : va_D A ws) (hS : va_S A H0 H locs) (hA : ∀ q, H0.size ≤ q → A q) {n : Int32} {N : Nat} (hn : ¬ n < 0) (hN : n.toNatClampNeg = N) (hbytes : N * componentBytes .boolean ≤ 536870912) (hcells : cells + 1 ≤ R.cells) (hslots : slots + N ≤ R.slots) (hdg : decode cc pc = .ok (.newarray .boolean, 2))
    (kk : ∀ (x : Nat) (H1 : Heap), va_P D vwCl (ws ++ [(x, .inl (cZ, N, .inl (fun _ => 0)))]) H1 → va_D A (ws ++ [(x, .inl (cZ, N, .inl (fun _ => 0)))]) → va_S A H0 H1 locs → W p l e R s m args below meth c H1 locs (cells + 1) (slots + N) Q (F0 m (pc + 2) ls (.ref x :: rest))) : W p l e R s m args below meth c H locs cells slots Q (F0 m pc ls (.int n :: rest)) := by
  refine va_newa S.1 S.2.1 (atype := .boolean) (S.2.2.2.2 _ q106) (ty := .boolean) rfl hK hP hD hS hA (a0 := (N, .inl (fun _ => 0))) (fun _ => rfl) hn hN hbytes hcells hslots hdg (fun x cA H1 hK1 hP1 hD1 hS1 => ?_)
  have a1 : s.vm.findClass ("[" ++ FieldType.boolean.toString) = some cA := (hK1.2 2 _ rfl).2
  have a2 : s.vm.findClass ("[" ++ FieldType.boolean.toString) = some cZ := (hK1.2 1 _ rfl).2
  have e1 : cA = cZ := Option.some.inj (a1.symm.trans a2)
  subst e1
  exact kk x H1 hP1 hD1 hS1
end WN
set_option maxHeartbeats 4000000 in
set_option maxRecDepth 100000 in
/-- the constructor -/
theorem xc_init (l : Launch) (D : va_G) (cI cZ : ClassId) (sz h0 : Nat) : Met l yX0_init (ws_ yX0_init cX0_init 1 none) ({ frames := 1, cells := 15, slots := 350, locals := 12 }) (va_Pc [.ref h0] (fun U => U.heap.size = sz ∧ va_P D vwCl [(h0, .inr (0, [.int 0, .null, .null, .null, .int 0, .null, .null, .null, .int 0, .null, .null, .null, .null, .null, .int 0, .int 0, .int 0, .int 0, .int 0, .null, .null, .null, .int 0, .null]))] U.heap ∧ va_K D vwCl (wdTy cI cZ) U ∧ va_D (fun _ => True) [(h0, .inr (0, [.int 0, .null, .null, .null, .int 0, .null, .null, .null, .int 0, .null, .null, .null, .null, .null, .int 0, .int 0, .int 0, .int 0, .int 0, .null, .null, .null, .int 0, .null]))])) (va_Qv (fun u : Nat → Nat => u 0 = h0) (fun u t => va_P D vwCl (x_w u cI cZ (wdS wd0 14 0)) t.heap ∧ va_K D vwCl (wdTy cI cZ) t ∧ va_D (va_A [(h0, .inr (0, [.int 0, .null, .null, .null, .int 0, .null, .null, .null, .int 0, .null, .null, .null, .null, .null, .int 0, .int 0, .int 0, .int 0, .int 0, .null, .null, .null, .int 0, .null]))] sz) (x_w u cI cZ (wdS wd0 14 0))) (va_A [(h0, .inr (0, [.int 0, .null, .null, .null, .int 0, .null, .null, .null, .int 0, .null, .null, .null, .null, .null, .int 0, .int 0, .int 0, .int 0, .int 0, .null, .null, .null, .int 0, .null]))] sz)) 15 350 (va_A [(h0, .inr (0, [.int 0, .null, .null, .null, .int 0, .null, .null, .null, .int 0, .null, .null, .null, .null, .null, .int 0, .int 0, .int 0, .int 0, .int 0, .null, .null, .null, .int 0, .null]))] sz) := by
  refine Met.ofW (cc := cX0_init) (maxL := 1) (ret := none) (by decide) rfl ?_
  intro p e s m args below meth c s₁ B hml hv
  obtain ⟨rfl, hsz, hP, hK, hD0⟩ := hv
  have hx := B.exec
  have hb := B.bytes
  have hr := B.returns
  have hts := atoms_spec (ws := (ws_ yX0_init cX0_init 1 none)) B.pre
  have hts : ∀ w ∈ lw_all, w.before _ s = true := fun w h => hts w (List.mem_cons_of_mem _ h)
  have hown : s.vm.findClass RX0 = some m.cls := findClass_of_methodNamed B.named
  have hlk := B.notSynchronized
  have hin : meth.name = "<init>" := (name_of_methodNamed B.named B.method).1
  have S : CallFix p m c cX0_init 1 s ([.ref h0] : List Value).toArray lw_all RX0 := ⟨hx, hb, hml, hown, hts⟩
  subst hsz
  have hD := hD0.self (sz := s.heap.size)
  generalize hAe : va_A [(h0, .inr (0, [.int 0, .null, .null, .null, .int 0, .null, .null, .null, .int 0, .null, .null, .null, .null, .null, .int 0, .int 0, .int 0, .int 0, .int 0, .null, .null, .null, .int 0, .null]))] s.heap.size = A at hD ⊢
  have hA : ∀ q : Nat, s.heap.size ≤ q → A q := fun q h => by rw [← hAe]; exact Or.inr h
  have hS : va_S A s.heap s.heap [] := va_S.rf
  have hl := lv_entry ([.ref h0]) (n := 1) (Nat.le_of_ble_eq_true rfl)
  rw [lg_entry_eq]
  generalize (lg_sl ([.ref h0]) ++ List.replicate (1 - (lg_sl ([.ref h0])).length) Slot.unset).toArray = ls at hl ⊢
  have hl : lv_has ls 1 [(0, .ref h0)] := hl
  refine lv_aload_n hx hb dX0_init_0 rfl (lv_at hl 0 rfl) ?_
  refine W.objInit hx hb hown (hts _ q29) (hts _ q30) (hts _ q31) rfl (by rw [hml]; exact hl.1) rfl dX0_init_1 (Nat.le_of_ble_eq_true rfl) (Nat.le_of_ble_eq_true rfl) ?_
  refine W.eq (g2 := F0 m 4 ls []) rfl ?_
  refine lv_aload_n hx hb dX0_init_4 rfl (lv_at hl 0 rfl) ?_
  refine lv_bipush (v := 20) hx hb dX0_init_5 cb_20 ?_
  refine wd_newI S hK hP hD hS hA (n := 20) (N := 20) (by decide) (by decide) (by decide) (Nat.le_of_ble_eq_true rfl) (Nat.le_of_ble_eq_true rfl) dX0_init_7 (fun x1 H hP hD hS => ?_)
  refine va_putF (D := D) (ci := 0) (v := .ref x1) (ty := .array .int) (C := RX0) (T := TX0) (N := 24) hx hb hts in_X0 tyX0 tyX0_ok nmX0 hown hK hP hD hS 0 rfl rfl 1 (by decide) (hts _ q33) (fun _ h9 => h9) rfl hin rfl (by decide +kernel) rfl rfl (Nat.le_of_ble_eq_true rfl) dX0_init_9 (fun H locs hP hD hS => ?_)
  have hP : va_P D vwCl [(h0, .inr (0, [.int 0, .ref x1, .null, .null, .int 0, .null, .null, .null, .int 0, .null, .null, .null, .null, .null, .int 0, .int 0, .int 0, .int 0, .int 0, .null, .null, .null, .int 0, .null])), (x1, .inl (cI, 20, .inl (fun _ => 0)))] H := hP
  have hD : va_D A [(h0, .inr (0, [.int 0, .ref x1, .null, .null, .int 0, .null, .null, .null, .int 0, .null, .null, .null, .null, .null, .int 0, .int 0, .int 0, .int 0, .int 0, .null, .null, .null, .int 0, .null])), (x1, .inl (cI, 20, .inl (fun _ => 0)))] := hD
  refine W.widen (k := 1) (n := 20) (Nat.le_of_ble_eq_true rfl) (Nat.le_of_ble_eq_true rfl) ?_
  refine lv_aload_n hx hb dX0_init_12 rfl (lv_at hl 0 rfl) ?_
  refine lv_bipush (v := 20) hx hb dX0_init_13 cb_20 ?_
  refine wd_newI S hK hP hD hS hA (n := 20) (N := 20) (by decide) (by decide) (by decide) (Nat.le_of_ble_eq_true rfl) (Nat.le_of_ble_eq_true rfl) dX0_init_15 (fun x2 H hP hD hS => ?_)
  refine va_putF (D := D) (ci := 0) (v := .ref x2) (ty := .array .int) (C := RX0) (T := TX0) (N := 24) hx hb hts in_X0 tyX0 tyX0_ok nmX0 hown hK hP hD hS 0 rfl rfl 2 (by decide) (hts _ q34) (fun _ h9 => h9) rfl hin rfl (by decide +kernel) rfl rfl (Nat.le_of_ble_eq_true rfl) dX0_init_17 (fun H locs hP hD hS => ?_)
  have hP : va_P D vwCl [(h0, .inr (0, [.int 0, .ref x1, .ref x2, .null, .int 0, .null, .null, .null, .int 0, .null, .null, .null, .null, .null, .int 0, .int 0, .int 0, .int 0, .int 0, .null, .null, .null, .int 0, .null])), (x1, .inl (cI, 20, .inl (fun _ => 0))), (x2, .inl (cI, 20, .inl (fun _ => 0)))] H := hP
  have hD : va_D A [(h0, .inr (0, [.int 0, .ref x1, .ref x2, .null, .int 0, .null, .null, .null, .int 0, .null, .null, .null, .null, .null, .int 0, .int 0, .int 0, .int 0, .int 0, .null, .null, .null, .int 0, .null])), (x1, .inl (cI, 20, .inl (fun _ => 0))), (x2, .inl (cI, 20, .inl (fun _ => 0)))] := hD
  refine W.widen (k := 2) (n := 40) (Nat.le_of_ble_eq_true rfl) (Nat.le_of_ble_eq_true rfl) ?_
  refine lv_aload_n hx hb dX0_init_20 rfl (lv_at hl 0 rfl) ?_
  refine lv_bipush (v := 20) hx hb dX0_init_21 cb_20 ?_
  refine wd_newI S hK hP hD hS hA (n := 20) (N := 20) (by decide) (by decide) (by decide) (Nat.le_of_ble_eq_true rfl) (Nat.le_of_ble_eq_true rfl) dX0_init_23 (fun x3 H hP hD hS => ?_)
  refine va_putF (D := D) (ci := 0) (v := .ref x3) (ty := .array .int) (C := RX0) (T := TX0) (N := 24) hx hb hts in_X0 tyX0 tyX0_ok nmX0 hown hK hP hD hS 0 rfl rfl 3 (by decide) (hts _ q35) (fun _ h9 => h9) rfl hin rfl (by decide +kernel) rfl rfl (Nat.le_of_ble_eq_true rfl) dX0_init_25 (fun H locs hP hD hS => ?_)
  have hP : va_P D vwCl [(h0, .inr (0, [.int 0, .ref x1, .ref x2, .ref x3, .int 0, .null, .null, .null, .int 0, .null, .null, .null, .null, .null, .int 0, .int 0, .int 0, .int 0, .int 0, .null, .null, .null, .int 0, .null])), (x1, .inl (cI, 20, .inl (fun _ => 0))), (x2, .inl (cI, 20, .inl (fun _ => 0))), (x3, .inl (cI, 20, .inl (fun _ => 0)))] H := hP
  have hD : va_D A [(h0, .inr (0, [.int 0, .ref x1, .ref x2, .ref x3, .int 0, .null, .null, .null, .int 0, .null, .null, .null, .null, .null, .int 0, .int 0, .int 0, .int 0, .int 0, .null, .null, .null, .int 0, .null])), (x1, .inl (cI, 20, .inl (fun _ => 0))), (x2, .inl (cI, 20, .inl (fun _ => 0))), (x3, .inl (cI, 20, .inl (fun _ => 0)))] := hD
  refine W.widen (k := 3) (n := 60) (Nat.le_of_ble_eq_true rfl) (Nat.le_of_ble_eq_true rfl) ?_
  refine lv_aload_n hx hb dX0_init_28 rfl (lv_at hl 0 rfl) ?_
  refine lv_bipush (v := 20) hx hb dX0_init_29 cb_20 ?_
  refine wd_newZ S hK hP hD hS hA (n := 20) (N := 20) (by decide) (by decide) (by decide) (Nat.le_of_ble_eq_true rfl) (Nat.le_of_ble_eq_true rfl) dX0_init_31 (fun x5 H hP hD hS => ?_)
  refine va_putF (D := D) (ci := 0) (v := .ref x5) (ty := .array .boolean) (C := RX0) (T := TX0) (N := 24) hx hb hts in_X0 tyX0 tyX0_ok nmX0 hown hK hP hD hS 0 rfl rfl 5 (by decide) (hts _ q37) (fun _ h9 => h9) rfl hin rfl (by decide +kernel) rfl rfl (Nat.le_of_ble_eq_true rfl) dX0_init_33 (fun H locs hP hD hS => ?_)
  have hP : va_P D vwCl [(h0, .inr (0, [.int 0, .ref x1, .ref x2, .ref x3, .int 0, .ref x5, .null, .null, .int 0, .null, .null, .null, .null, .null, .int 0, .int 0, .int 0, .int 0, .int 0, .null, .null, .null, .int 0, .null])), (x1, .inl (cI, 20, .inl (fun _ => 0))), (x2, .inl (cI, 20, .inl (fun _ => 0))), (x3, .inl (cI, 20, .inl (fun _ => 0))), (x5, .inl (cZ, 20, .inl (fun _ => 0)))] H := hP
  have hD : va_D A [(h0, .inr (0, [.int 0, .ref x1, .ref x2, .ref x3, .int 0, .ref x5, .null, .null, .int 0, .null, .null, .null, .null, .null, .int 0, .int 0, .int 0, .int 0, .int 0, .null, .null, .null, .int 0, .null])), (x1, .inl (cI, 20, .inl (fun _ => 0))), (x2, .inl (cI, 20, .inl (fun _ => 0))), (x3, .inl (cI, 20, .inl (fun _ => 0))), (x5, .inl (cZ, 20, .inl (fun _ => 0)))] := hD
  refine W.widen (k := 4) (n := 80) (Nat.le_of_ble_eq_true rfl) (Nat.le_of_ble_eq_true rfl) ?_
  refine lv_aload_n hx hb dX0_init_36 rfl (lv_at hl 0 rfl) ?_
  refine lv_bipush (v := 20) hx hb dX0_init_37 cb_20 ?_
  refine wd_newI S hK hP hD hS hA (n := 20) (N := 20) (by decide) (by decide) (by decide) (Nat.le_of_ble_eq_true rfl) (Nat.le_of_ble_eq_true rfl) dX0_init_39 (fun x6 H hP hD hS => ?_)
  refine va_putF (D := D) (ci := 0) (v := .ref x6) (ty := .array .int) (C := RX0) (T := TX0) (N := 24) hx hb hts in_X0 tyX0 tyX0_ok nmX0 hown hK hP hD hS 0 rfl rfl 6 (by decide) (hts _ q38) (fun _ h9 => h9) rfl hin rfl (by decide +kernel) rfl rfl (Nat.le_of_ble_eq_true rfl) dX0_init_41 (fun H locs hP hD hS => ?_)
  have hP : va_P D vwCl [(h0, .inr (0, [.int 0, .ref x1, .ref x2, .ref x3, .int 0, .ref x5, .ref x6, .null, .int 0, .null, .null, .null, .null, .null, .int 0, .int 0, .int 0, .int 0, .int 0, .null, .null, .null, .int 0, .null])), (x1, .inl (cI, 20, .inl (fun _ => 0))), (x2, .inl (cI, 20, .inl (fun _ => 0))), (x3, .inl (cI, 20, .inl (fun _ => 0))), (x5, .inl (cZ, 20, .inl (fun _ => 0))), (x6, .inl (cI, 20, .inl (fun _ => 0)))] H := hP
  have hD : va_D A [(h0, .inr (0, [.int 0, .ref x1, .ref x2, .ref x3, .int 0, .ref x5, .ref x6, .null, .int 0, .null, .null, .null, .null, .null, .int 0, .int 0, .int 0, .int 0, .int 0, .null, .null, .null, .int 0, .null])), (x1, .inl (cI, 20, .inl (fun _ => 0))), (x2, .inl (cI, 20, .inl (fun _ => 0))), (x3, .inl (cI, 20, .inl (fun _ => 0))), (x5, .inl (cZ, 20, .inl (fun _ => 0))), (x6, .inl (cI, 20, .inl (fun _ => 0)))] := hD
  refine W.widen (k := 5) (n := 100) (Nat.le_of_ble_eq_true rfl) (Nat.le_of_ble_eq_true rfl) ?_
  refine lv_aload_n hx hb dX0_init_44 rfl (lv_at hl 0 rfl) ?_
  refine lv_bipush (v := 20) hx hb dX0_init_45 cb_20 ?_
  refine wd_newZ S hK hP hD hS hA (n := 20) (N := 20) (by decide) (by decide) (by decide) (Nat.le_of_ble_eq_true rfl) (Nat.le_of_ble_eq_true rfl) dX0_init_47 (fun x7 H hP hD hS => ?_)
  refine va_putF (D := D) (ci := 0) (v := .ref x7) (ty := .array .boolean) (C := RX0) (T := TX0) (N := 24) hx hb hts in_X0 tyX0 tyX0_ok nmX0 hown hK hP hD hS 0 rfl rfl 7 (by decide) (hts _ q39) (fun _ h9 => h9) rfl hin rfl (by decide +kernel) rfl rfl (Nat.le_of_ble_eq_true rfl) dX0_init_49 (fun H locs hP hD hS => ?_)
  have hP : va_P D vwCl [(h0, .inr (0, [.int 0, .ref x1, .ref x2, .ref x3, .int 0, .ref x5, .ref x6, .ref x7, .int 0, .null, .null, .null, .null, .null, .int 0, .int 0, .int 0, .int 0, .int 0, .null, .null, .null, .int 0, .null])), (x1, .inl (cI, 20, .inl (fun _ => 0))), (x2, .inl (cI, 20, .inl (fun _ => 0))), (x3, .inl (cI, 20, .inl (fun _ => 0))), (x5, .inl (cZ, 20, .inl (fun _ => 0))), (x6, .inl (cI, 20, .inl (fun _ => 0))), (x7, .inl (cZ, 20, .inl (fun _ => 0)))] H := hP
  have hD : va_D A [(h0, .inr (0, [.int 0, .ref x1, .ref x2, .ref x3, .int 0, .ref x5, .ref x6, .ref x7, .int 0, .null, .null, .null, .null, .null, .int 0, .int 0, .int 0, .int 0, .int 0, .null, .null, .null, .int 0, .null])), (x1, .inl (cI, 20, .inl (fun _ => 0))), (x2, .inl (cI, 20, .inl (fun _ => 0))), (x3, .inl (cI, 20, .inl (fun _ => 0))), (x5, .inl (cZ, 20, .inl (fun _ => 0))), (x6, .inl (cI, 20, .inl (fun _ => 0))), (x7, .inl (cZ, 20, .inl (fun _ => 0)))] := hD
  refine W.widen (k := 6) (n := 120) (Nat.le_of_ble_eq_true rfl) (Nat.le_of_ble_eq_true rfl) ?_
  refine lv_aload_n hx hb dX0_init_52 rfl (lv_at hl 0 rfl) ?_
  refine lv_bipush (v := 48) hx hb dX0_init_53 cb_48 ?_
  refine wd_newI S hK hP hD hS hA (n := 48) (N := 48) (by decide) (by decide) (by decide) (Nat.le_of_ble_eq_true rfl) (Nat.le_of_ble_eq_true rfl) dX0_init_55 (fun x9 H hP hD hS => ?_)
  refine va_putF (D := D) (ci := 0) (v := .ref x9) (ty := .array .int) (C := RX0) (T := TX0) (N := 24) hx hb hts in_X0 tyX0 tyX0_ok nmX0 hown hK hP hD hS 0 rfl rfl 9 (by decide) (hts _ q41) (fun _ h9 => h9) rfl hin rfl (by decide +kernel) rfl rfl (Nat.le_of_ble_eq_true rfl) dX0_init_57 (fun H locs hP hD hS => ?_)
  have hP : va_P D vwCl [(h0, .inr (0, [.int 0, .ref x1, .ref x2, .ref x3, .int 0, .ref x5, .ref x6, .ref x7, .int 0, .ref x9, .null, .null, .null, .null, .int 0, .int 0, .int 0, .int 0, .int 0, .null, .null, .null, .int 0, .null])), (x1, .inl (cI, 20, .inl (fun _ => 0))), (x2, .inl (cI, 20, .inl (fun _ => 0))), (x3, .inl (cI, 20, .inl (fun _ => 0))), (x5, .inl (cZ, 20, .inl (fun _ => 0))), (x6, .inl (cI, 20, .inl (fun _ => 0))), (x7, .inl (cZ, 20, .inl (fun _ => 0))), (x9, .inl (cI, 48, .inl (fun _ => 0)))] H := hP
  have hD : va_D A [(h0, .inr (0, [.int 0, .ref x1, .ref x2, .ref x3, .int 0, .ref x5, .ref x6, .ref x7, .int 0, .ref x9, .null, .null, .null, .null, .int 0, .int 0, .int 0, .int 0, .int 0, .null, .null, .null, .int 0, .null])), (x1, .inl (cI, 20, .inl (fun _ => 0))), (x2, .inl (cI, 20, .inl (fun _ => 0))), (x3, .inl (cI, 20, .inl (fun _ => 0))), (x5, .inl (cZ, 20, .inl (fun _ => 0))), (x6, .inl (cI, 20, .inl (fun _ => 0))), (x7, .inl (cZ, 20, .inl (fun _ => 0))), (x9, .inl (cI, 48, .inl (fun _ => 0)))] := hD
  refine W.widen (k := 7) (n := 168) (Nat.le_of_ble_eq_true rfl) (Nat.le_of_ble_eq_true rfl) ?_
  refine lv_aload_n hx hb dX0_init_60 rfl (lv_at hl 0 rfl) ?_
  refine lv_bipush (v := 48) hx hb dX0_init_61 cb_48 ?_
  refine wd_newI S hK hP hD hS hA (n := 48) (N := 48) (by decide) (by decide) (by decide) (Nat.le_of_ble_eq_true rfl) (Nat.le_of_ble_eq_true rfl) dX0_init_63 (fun x10 H hP hD hS => ?_)
  refine va_putF (D := D) (ci := 0) (v := .ref x10) (ty := .array .int) (C := RX0) (T := TX0) (N := 24) hx hb hts in_X0 tyX0 tyX0_ok nmX0 hown hK hP hD hS 0 rfl rfl 10 (by decide) (hts _ q42) (fun _ h9 => h9) rfl hin rfl (by decide +kernel) rfl rfl (Nat.le_of_ble_eq_true rfl) dX0_init_65 (fun H locs hP hD hS => ?_)
  have hP : va_P D vwCl [(h0, .inr (0, [.int 0, .ref x1, .ref x2, .ref x3, .int 0, .ref x5, .ref x6, .ref x7, .int 0, .ref x9, .ref x10, .null, .null, .null, .int 0, .int 0, .int 0, .int 0, .int 0, .null, .null, .null, .int 0, .null])), (x1, .inl (cI, 20, .inl (fun _ => 0))), (x2, .inl (cI, 20, .inl (fun _ => 0))), (x3, .inl (cI, 20, .inl (fun _ => 0))), (x5, .inl (cZ, 20, .inl (fun _ => 0))), (x6, .inl (cI, 20, .inl (fun _ => 0))), (x7, .inl (cZ, 20, .inl (fun _ => 0))), (x9, .inl (cI, 48, .inl (fun _ => 0))), (x10, .inl (cI, 48, .inl (fun _ => 0)))] H := hP
  have hD : va_D A [(h0, .inr (0, [.int 0, .ref x1, .ref x2, .ref x3, .int 0, .ref x5, .ref x6, .ref x7, .int 0, .ref x9, .ref x10, .null, .null, .null, .int 0, .int 0, .int 0, .int 0, .int 0, .null, .null, .null, .int 0, .null])), (x1, .inl (cI, 20, .inl (fun _ => 0))), (x2, .inl (cI, 20, .inl (fun _ => 0))), (x3, .inl (cI, 20, .inl (fun _ => 0))), (x5, .inl (cZ, 20, .inl (fun _ => 0))), (x6, .inl (cI, 20, .inl (fun _ => 0))), (x7, .inl (cZ, 20, .inl (fun _ => 0))), (x9, .inl (cI, 48, .inl (fun _ => 0))), (x10, .inl (cI, 48, .inl (fun _ => 0)))] := hD
  refine W.widen (k := 8) (n := 216) (Nat.le_of_ble_eq_true rfl) (Nat.le_of_ble_eq_true rfl) ?_
  refine lv_aload_n hx hb dX0_init_68 rfl (lv_at hl 0 rfl) ?_
  refine lv_bipush (v := 48) hx hb dX0_init_69 cb_48 ?_
  refine wd_newI S hK hP hD hS hA (n := 48) (N := 48) (by decide) (by decide) (by decide) (Nat.le_of_ble_eq_true rfl) (Nat.le_of_ble_eq_true rfl) dX0_init_71 (fun x11 H hP hD hS => ?_)
  refine va_putF (D := D) (ci := 0) (v := .ref x11) (ty := .array .int) (C := RX0) (T := TX0) (N := 24) hx hb hts in_X0 tyX0 tyX0_ok nmX0 hown hK hP hD hS 0 rfl rfl 11 (by decide) (hts _ q43) (fun _ h9 => h9) rfl hin rfl (by decide +kernel) rfl rfl (Nat.le_of_ble_eq_true rfl) dX0_init_73 (fun H locs hP hD hS => ?_)
  have hP : va_P D vwCl [(h0, .inr (0, [.int 0, .ref x1, .ref x2, .ref x3, .int 0, .ref x5, .ref x6, .ref x7, .int 0, .ref x9, .ref x10, .ref x11, .null, .null, .int 0, .int 0, .int 0, .int 0, .int 0, .null, .null, .null, .int 0, .null])), (x1, .inl (cI, 20, .inl (fun _ => 0))), (x2, .inl (cI, 20, .inl (fun _ => 0))), (x3, .inl (cI, 20, .inl (fun _ => 0))), (x5, .inl (cZ, 20, .inl (fun _ => 0))), (x6, .inl (cI, 20, .inl (fun _ => 0))), (x7, .inl (cZ, 20, .inl (fun _ => 0))), (x9, .inl (cI, 48, .inl (fun _ => 0))), (x10, .inl (cI, 48, .inl (fun _ => 0))), (x11, .inl (cI, 48, .inl (fun _ => 0)))] H := hP
  have hD : va_D A [(h0, .inr (0, [.int 0, .ref x1, .ref x2, .ref x3, .int 0, .ref x5, .ref x6, .ref x7, .int 0, .ref x9, .ref x10, .ref x11, .null, .null, .int 0, .int 0, .int 0, .int 0, .int 0, .null, .null, .null, .int 0, .null])), (x1, .inl (cI, 20, .inl (fun _ => 0))), (x2, .inl (cI, 20, .inl (fun _ => 0))), (x3, .inl (cI, 20, .inl (fun _ => 0))), (x5, .inl (cZ, 20, .inl (fun _ => 0))), (x6, .inl (cI, 20, .inl (fun _ => 0))), (x7, .inl (cZ, 20, .inl (fun _ => 0))), (x9, .inl (cI, 48, .inl (fun _ => 0))), (x10, .inl (cI, 48, .inl (fun _ => 0))), (x11, .inl (cI, 48, .inl (fun _ => 0)))] := hD
  refine W.widen (k := 9) (n := 264) (Nat.le_of_ble_eq_true rfl) (Nat.le_of_ble_eq_true rfl) ?_
  refine lv_aload_n hx hb dX0_init_76 rfl (lv_at hl 0 rfl) ?_
  refine lv_bipush (v := 21) hx hb dX0_init_77 cb_21 ?_
  refine wd_newI S hK hP hD hS hA (n := 21) (N := 21) (by decide) (by decide) (by decide) (Nat.le_of_ble_eq_true rfl) (Nat.le_of_ble_eq_true rfl) dX0_init_79 (fun x12 H hP hD hS => ?_)
  refine va_putF (D := D) (ci := 0) (v := .ref x12) (ty := .array .int) (C := RX0) (T := TX0) (N := 24) hx hb hts in_X0 tyX0 tyX0_ok nmX0 hown hK hP hD hS 0 rfl rfl 12 (by decide) (hts _ q44) (fun _ h9 => h9) rfl hin rfl (by decide +kernel) rfl rfl (Nat.le_of_ble_eq_true rfl) dX0_init_81 (fun H locs hP hD hS => ?_)
  have hP : va_P D vwCl [(h0, .inr (0, [.int 0, .ref x1, .ref x2, .ref x3, .int 0, .ref x5, .ref x6, .ref x7, .int 0, .ref x9, .ref x10, .ref x11, .ref x12, .null, .int 0, .int 0, .int 0, .int 0, .int 0, .null, .null, .null, .int 0, .null])), (x1, .inl (cI, 20, .inl (fun _ => 0))), (x2, .inl (cI, 20, .inl (fun _ => 0))), (x3, .inl (cI, 20, .inl (fun _ => 0))), (x5, .inl (cZ, 20, .inl (fun _ => 0))), (x6, .inl (cI, 20, .inl (fun _ => 0))), (x7, .inl (cZ, 20, .inl (fun _ => 0))), (x9, .inl (cI, 48, .inl (fun _ => 0))), (x10, .inl (cI, 48, .inl (fun _ => 0))), (x11, .inl (cI, 48, .inl (fun _ => 0))), (x12, .inl (cI, 21, .inl (fun _ => 0)))] H := hP
  have hD : va_D A [(h0, .inr (0, [.int 0, .ref x1, .ref x2, .ref x3, .int 0, .ref x5, .ref x6, .ref x7, .int 0, .ref x9, .ref x10, .ref x11, .ref x12, .null, .int 0, .int 0, .int 0, .int 0, .int 0, .null, .null, .null, .int 0, .null])), (x1, .inl (cI, 20, .inl (fun _ => 0))), (x2, .inl (cI, 20, .inl (fun _ => 0))), (x3, .inl (cI, 20, .inl (fun _ => 0))), (x5, .inl (cZ, 20, .inl (fun _ => 0))), (x6, .inl (cI, 20, .inl (fun _ => 0))), (x7, .inl (cZ, 20, .inl (fun _ => 0))), (x9, .inl (cI, 48, .inl (fun _ => 0))), (x10, .inl (cI, 48, .inl (fun _ => 0))), (x11, .inl (cI, 48, .inl (fun _ => 0))), (x12, .inl (cI, 21, .inl (fun _ => 0)))] := hD
  refine W.widen (k := 10) (n := 285) (Nat.le_of_ble_eq_true rfl) (Nat.le_of_ble_eq_true rfl) ?_
  refine lv_aload_n hx hb dX0_init_84 rfl (lv_at hl 0 rfl) ?_
  refine lv_bipush (v := 21) hx hb dX0_init_85 cb_21 ?_
  refine wd_newI S hK hP hD hS hA (n := 21) (N := 21) (by decide) (by decide) (by decide) (Nat.le_of_ble_eq_true rfl) (Nat.le_of_ble_eq_true rfl) dX0_init_87 (fun x13 H hP hD hS => ?_)
  refine va_putF (D := D) (ci := 0) (v := .ref x13) (ty := .array .int) (C := RX0) (T := TX0) (N := 24) hx hb hts in_X0 tyX0 tyX0_ok nmX0 hown hK hP hD hS 0 rfl rfl 13 (by decide) (hts _ q45) (fun _ h9 => h9) rfl hin rfl (by decide +kernel) rfl rfl (Nat.le_of_ble_eq_true rfl) dX0_init_89 (fun H locs hP hD hS => ?_)
  have hP : va_P D vwCl [(h0, .inr (0, [.int 0, .ref x1, .ref x2, .ref x3, .int 0, .ref x5, .ref x6, .ref x7, .int 0, .ref x9, .ref x10, .ref x11, .ref x12, .ref x13, .int 0, .int 0, .int 0, .int 0, .int 0, .null, .null, .null, .int 0, .null])), (x1, .inl (cI, 20, .inl (fun _ => 0))), (x2, .inl (cI, 20, .inl (fun _ => 0))), (x3, .inl (cI, 20, .inl (fun _ => 0))), (x5, .inl (cZ, 20, .inl (fun _ => 0))), (x6, .inl (cI, 20, .inl (fun _ => 0))), (x7, .inl (cZ, 20, .inl (fun _ => 0))), (x9, .inl (cI, 48, .inl (fun _ => 0))), (x10, .inl (cI, 48, .inl (fun _ => 0))), (x11, .inl (cI, 48, .inl (fun _ => 0))), (x12, .inl (cI, 21, .inl (fun _ => 0))), (x13, .inl (cI, 21, .inl (fun _ => 0)))] H := hP
  have hD : va_D A [(h0, .inr (0, [.int 0, .ref x1, .ref x2, .ref x3, .int 0, .ref x5, .ref x6, .ref x7, .int 0, .ref x9, .ref x10, .ref x11, .ref x12, .ref x13, .int 0, .int 0, .int 0, .int 0, .int 0, .null, .null, .null, .int 0, .null])), (x1, .inl (cI, 20, .inl (fun _ => 0))), (x2, .inl (cI, 20, .inl (fun _ => 0))), (x3, .inl (cI, 20, .inl (fun _ => 0))), (x5, .inl (cZ, 20, .inl (fun _ => 0))), (x6, .inl (cI, 20, .inl (fun _ => 0))), (x7, .inl (cZ, 20, .inl (fun _ => 0))), (x9, .inl (cI, 48, .inl (fun _ => 0))), (x10, .inl (cI, 48, .inl (fun _ => 0))), (x11, .inl (cI, 48, .inl (fun _ => 0))), (x12, .inl (cI, 21, .inl (fun _ => 0))), (x13, .inl (cI, 21, .inl (fun _ => 0)))] := hD
  refine W.widen (k := 11) (n := 306) (Nat.le_of_ble_eq_true rfl) (Nat.le_of_ble_eq_true rfl) ?_
  refine lv_aload_n hx hb dX0_init_92 rfl (lv_at hl 0 rfl) ?_
  refine lv_bipush (v := 24) hx hb dX0_init_93 cb_24 ?_
  refine wd_newI S hK hP hD hS hA (n := 24) (N := 24) (by decide) (by decide) (by decide) (Nat.le_of_ble_eq_true rfl) (Nat.le_of_ble_eq_true rfl) dX0_init_95 (fun x19 H hP hD hS => ?_)
  refine va_putF (D := D) (ci := 0) (v := .ref x19) (ty := .array .int) (C := RX0) (T := TX0) (N := 24) hx hb hts in_X0 tyX0 tyX0_ok nmX0 hown hK hP hD hS 0 rfl rfl 19 (by decide) (hts _ q51) (fun _ h9 => h9) rfl hin rfl (by decide +kernel) rfl rfl (Nat.le_of_ble_eq_true rfl) dX0_init_97 (fun H locs hP hD hS => ?_)
  have hP : va_P D vwCl [(h0, .inr (0, [.int 0, .ref x1, .ref x2, .ref x3, .int 0, .ref x5, .ref x6, .ref x7, .int 0, .ref x9, .ref x10, .ref x11, .ref x12, .ref x13, .int 0, .int 0, .int 0, .int 0, .int 0, .ref x19, .null, .null, .int 0, .null])), (x1, .inl (cI, 20, .inl (fun _ => 0))), (x2, .inl (cI, 20, .inl (fun _ => 0))), (x3, .inl (cI, 20, .inl (fun _ => 0))), (x5, .inl (cZ, 20, .inl (fun _ => 0))), (x6, .inl (cI, 20, .inl (fun _ => 0))), (x7, .inl (cZ, 20, .inl (fun _ => 0))), (x9, .inl (cI, 48, .inl (fun _ => 0))), (x10, .inl (cI, 48, .inl (fun _ => 0))), (x11, .inl (cI, 48, .inl (fun _ => 0))), (x12, .inl (cI, 21, .inl (fun _ => 0))), (x13, .inl (cI, 21, .inl (fun _ => 0))), (x19, .inl (cI, 24, .inl (fun _ => 0)))] H := hP
  have hD : va_D A [(h0, .inr (0, [.int 0, .ref x1, .ref x2, .ref x3, .int 0, .ref x5, .ref x6, .ref x7, .int 0, .ref x9, .ref x10, .ref x11, .ref x12, .ref x13, .int 0, .int 0, .int 0, .int 0, .int 0, .ref x19, .null, .null, .int 0, .null])), (x1, .inl (cI, 20, .inl (fun _ => 0))), (x2, .inl (cI, 20, .inl (fun _ => 0))), (x3, .inl (cI, 20, .inl (fun _ => 0))), (x5, .inl (cZ, 20, .inl (fun _ => 0))), (x6, .inl (cI, 20, .inl (fun _ => 0))), (x7, .inl (cZ, 20, .inl (fun _ => 0))), (x9, .inl (cI, 48, .inl (fun _ => 0))), (x10, .inl (cI, 48, .inl (fun _ => 0))), (x11, .inl (cI, 48, .inl (fun _ => 0))), (x12, .inl (cI, 21, .inl (fun _ => 0))), (x13, .inl (cI, 21, .inl (fun _ => 0))), (x19, .inl (cI, 24, .inl (fun _ => 0)))] := hD
  refine W.widen (k := 12) (n := 330) (Nat.le_of_ble_eq_true rfl) (Nat.le_of_ble_eq_true rfl) ?_
  refine lv_aload_n hx hb dX0_init_100 rfl (lv_at hl 0 rfl) ?_
  refine lv_bipush (v := 6) hx hb dX0_init_101 cb_6 ?_
  refine wd_newI S hK hP hD hS hA (n := 6) (N := 6) (by decide) (by decide) (by decide) (Nat.le_of_ble_eq_true rfl) (Nat.le_of_ble_eq_true rfl) dX0_init_103 (fun x20 H hP hD hS => ?_)
  refine va_putF (D := D) (ci := 0) (v := .ref x20) (ty := .array .int) (C := RX0) (T := TX0) (N := 24) hx hb hts in_X0 tyX0 tyX0_ok nmX0 hown hK hP hD hS 0 rfl rfl 20 (by decide) (hts _ q52) (fun _ h9 => h9) rfl hin rfl (by decide +kernel) rfl rfl (Nat.le_of_ble_eq_true rfl) dX0_init_105 (fun H locs hP hD hS => ?_)
  have hP : va_P D vwCl [(h0, .inr (0, [.int 0, .ref x1, .ref x2, .ref x3, .int 0, .ref x5, .ref x6, .ref x7, .int 0, .ref x9, .ref x10, .ref x11, .ref x12, .ref x13, .int 0, .int 0, .int 0, .int 0, .int 0, .ref x19, .ref x20, .null, .int 0, .null])), (x1, .inl (cI, 20, .inl (fun _ => 0))), (x2, .inl (cI, 20, .inl (fun _ => 0))), (x3, .inl (cI, 20, .inl (fun _ => 0))), (x5, .inl (cZ, 20, .inl (fun _ => 0))), (x6, .inl (cI, 20, .inl (fun _ => 0))), (x7, .inl (cZ, 20, .inl (fun _ => 0))), (x9, .inl (cI, 48, .inl (fun _ => 0))), (x10, .inl (cI, 48, .inl (fun _ => 0))), (x11, .inl (cI, 48, .inl (fun _ => 0))), (x12, .inl (cI, 21, .inl (fun _ => 0))), (x13, .inl (cI, 21, .inl (fun _ => 0))), (x19, .inl (cI, 24, .inl (fun _ => 0))), (x20, .inl (cI, 6, .inl (fun _ => 0)))] H := hP
  have hD : va_D A [(h0, .inr (0, [.int 0, .ref x1, .ref x2, .ref x3, .int 0, .ref x5, .ref x6, .ref x7, .int 0, .ref x9, .ref x10, .ref x11, .ref x12, .ref x13, .int 0, .int 0, .int 0, .int 0, .int 0, .ref x19, .ref x20, .null, .int 0, .null])), (x1, .inl (cI, 20, .inl (fun _ => 0))), (x2, .inl (cI, 20, .inl (fun _ => 0))), (x3, .inl (cI, 20, .inl (fun _ => 0))), (x5, .inl (cZ, 20, .inl (fun _ => 0))), (x6, .inl (cI, 20, .inl (fun _ => 0))), (x7, .inl (cZ, 20, .inl (fun _ => 0))), (x9, .inl (cI, 48, .inl (fun _ => 0))), (x10, .inl (cI, 48, .inl (fun _ => 0))), (x11, .inl (cI, 48, .inl (fun _ => 0))), (x12, .inl (cI, 21, .inl (fun _ => 0))), (x13, .inl (cI, 21, .inl (fun _ => 0))), (x19, .inl (cI, 24, .inl (fun _ => 0))), (x20, .inl (cI, 6, .inl (fun _ => 0)))] := hD
  refine W.widen (k := 13) (n := 336) (Nat.le_of_ble_eq_true rfl) (Nat.le_of_ble_eq_true rfl) ?_
  refine lv_aload_n hx hb dX0_init_108 rfl (lv_at hl 0 rfl) ?_
  refine lv_bipush (v := 6) hx hb dX0_init_109 cb_6 ?_
  refine wd_newI S hK hP hD hS hA (n := 6) (N := 6) (by decide) (by decide) (by decide) (Nat.le_of_ble_eq_true rfl) (Nat.le_of_ble_eq_true rfl) dX0_init_111 (fun x21 H hP hD hS => ?_)
  refine va_putF (D := D) (ci := 0) (v := .ref x21) (ty := .array .int) (C := RX0) (T := TX0) (N := 24) hx hb hts in_X0 tyX0 tyX0_ok nmX0 hown hK hP hD hS 0 rfl rfl 21 (by decide) (hts _ q53) (fun _ h9 => h9) rfl hin rfl (by decide +kernel) rfl rfl (Nat.le_of_ble_eq_true rfl) dX0_init_113 (fun H locs hP hD hS => ?_)
  have hP : va_P D vwCl [(h0, .inr (0, [.int 0, .ref x1, .ref x2, .ref x3, .int 0, .ref x5, .ref x6, .ref x7, .int 0, .ref x9, .ref x10, .ref x11, .ref x12, .ref x13, .int 0, .int 0, .int 0, .int 0, .int 0, .ref x19, .ref x20, .ref x21, .int 0, .null])), (x1, .inl (cI, 20, .inl (fun _ => 0))), (x2, .inl (cI, 20, .inl (fun _ => 0))), (x3, .inl (cI, 20, .inl (fun _ => 0))), (x5, .inl (cZ, 20, .inl (fun _ => 0))), (x6, .inl (cI, 20, .inl (fun _ => 0))), (x7, .inl (cZ, 20, .inl (fun _ => 0))), (x9, .inl (cI, 48, .inl (fun _ => 0))), (x10, .inl (cI, 48, .inl (fun _ => 0))), (x11, .inl (cI, 48, .inl (fun _ => 0))), (x12, .inl (cI, 21, .inl (fun _ => 0))), (x13, .inl (cI, 21, .inl (fun _ => 0))), (x19, .inl (cI, 24, .inl (fun _ => 0))), (x20, .inl (cI, 6, .inl (fun _ => 0))), (x21, .inl (cI, 6, .inl (fun _ => 0)))] H := hP
  have hD : va_D A [(h0, .inr (0, [.int 0, .ref x1, .ref x2, .ref x3, .int 0, .ref x5, .ref x6, .ref x7, .int 0, .ref x9, .ref x10, .ref x11, .ref x12, .ref x13, .int 0, .int 0, .int 0, .int 0, .int 0, .ref x19, .ref x20, .ref x21, .int 0, .null])), (x1, .inl (cI, 20, .inl (fun _ => 0))), (x2, .inl (cI, 20, .inl (fun _ => 0))), (x3, .inl (cI, 20, .inl (fun _ => 0))), (x5, .inl (cZ, 20, .inl (fun _ => 0))), (x6, .inl (cI, 20, .inl (fun _ => 0))), (x7, .inl (cZ, 20, .inl (fun _ => 0))), (x9, .inl (cI, 48, .inl (fun _ => 0))), (x10, .inl (cI, 48, .inl (fun _ => 0))), (x11, .inl (cI, 48, .inl (fun _ => 0))), (x12, .inl (cI, 21, .inl (fun _ => 0))), (x13, .inl (cI, 21, .inl (fun _ => 0))), (x19, .inl (cI, 24, .inl (fun _ => 0))), (x20, .inl (cI, 6, .inl (fun _ => 0))), (x21, .inl (cI, 6, .inl (fun _ => 0)))] := hD
  refine W.widen (k := 14) (n := 342) (Nat.le_of_ble_eq_true rfl) (Nat.le_of_ble_eq_true rfl) ?_
  refine lv_aload_n hx hb dX0_init_116 rfl (lv_at hl 0 rfl) ?_
  refine lv_bipush (v := 8) hx hb dX0_init_117 cb_8 ?_
  refine wd_newI S hK hP hD hS hA (n := 8) (N := 8) (by decide) (by decide) (by decide) (Nat.le_of_ble_eq_true rfl) (Nat.le_of_ble_eq_true rfl) dX0_init_119 (fun x23 H hP hD hS => ?_)
  refine va_putF (D := D) (ci := 0) (v := .ref x23) (ty := .array .int) (C := RX0) (T := TX0) (N := 24) hx hb hts in_X0 tyX0 tyX0_ok nmX0 hown hK hP hD hS 0 rfl rfl 23 (by decide) (hts _ q55) (fun _ h9 => h9) rfl hin rfl (by decide +kernel) rfl rfl (Nat.le_of_ble_eq_true rfl) dX0_init_121 (fun H locs hP hD hS => ?_)
  have hP : va_P D vwCl [(h0, .inr (0, [.int 0, .ref x1, .ref x2, .ref x3, .int 0, .ref x5, .ref x6, .ref x7, .int 0, .ref x9, .ref x10, .ref x11, .ref x12, .ref x13, .int 0, .int 0, .int 0, .int 0, .int 0, .ref x19, .ref x20, .ref x21, .int 0, .ref x23])), (x1, .inl (cI, 20, .inl (fun _ => 0))), (x2, .inl (cI, 20, .inl (fun _ => 0))), (x3, .inl (cI, 20, .inl (fun _ => 0))), (x5, .inl (cZ, 20, .inl (fun _ => 0))), (x6, .inl (cI, 20, .inl (fun _ => 0))), (x7, .inl (cZ, 20, .inl (fun _ => 0))), (x9, .inl (cI, 48, .inl (fun _ => 0))), (x10, .inl (cI, 48, .inl (fun _ => 0))), (x11, .inl (cI, 48, .inl (fun _ => 0))), (x12, .inl (cI, 21, .inl (fun _ => 0))), (x13, .inl (cI, 21, .inl (fun _ => 0))), (x19, .inl (cI, 24, .inl (fun _ => 0))), (x20, .inl (cI, 6, .inl (fun _ => 0))), (x21, .inl (cI, 6, .inl (fun _ => 0))), (x23, .inl (cI, 8, .inl (fun _ => 0)))] H := hP
  have hD : va_D A [(h0, .inr (0, [.int 0, .ref x1, .ref x2, .ref x3, .int 0, .ref x5, .ref x6, .ref x7, .int 0, .ref x9, .ref x10, .ref x11, .ref x12, .ref x13, .int 0, .int 0, .int 0, .int 0, .int 0, .ref x19, .ref x20, .ref x21, .int 0, .ref x23])), (x1, .inl (cI, 20, .inl (fun _ => 0))), (x2, .inl (cI, 20, .inl (fun _ => 0))), (x3, .inl (cI, 20, .inl (fun _ => 0))), (x5, .inl (cZ, 20, .inl (fun _ => 0))), (x6, .inl (cI, 20, .inl (fun _ => 0))), (x7, .inl (cZ, 20, .inl (fun _ => 0))), (x9, .inl (cI, 48, .inl (fun _ => 0))), (x10, .inl (cI, 48, .inl (fun _ => 0))), (x11, .inl (cI, 48, .inl (fun _ => 0))), (x12, .inl (cI, 21, .inl (fun _ => 0))), (x13, .inl (cI, 21, .inl (fun _ => 0))), (x19, .inl (cI, 24, .inl (fun _ => 0))), (x20, .inl (cI, 6, .inl (fun _ => 0))), (x21, .inl (cI, 6, .inl (fun _ => 0))), (x23, .inl (cI, 8, .inl (fun _ => 0)))] := hD
  refine W.widen (k := 15) (n := 350) (Nat.le_of_ble_eq_true rfl) (Nat.le_of_ble_eq_true rfl) ?_
  obtain ⟨q, hq⟩ : ∃ q : Nat → Nat, q = fun k => ([h0, 0, x1, x2, x3, 0, x5, x6, x7, 0, x9, x10, x11, x12, x13, 0, 0, 0, 0, 0, x19, x20, x21, 0, x23] : List Nat).getD k 0 := ⟨_, rfl⟩
  have hP : va_P D vwCl (x_w q cI cZ wd0) H := by rw [hq]; exact hP
  have hD : va_D A (x_w q cI cZ wd0) := by rw [hq]; exact hD
  have eq0 : q 0 = h0 := by rw [hq]; rfl
  have J : x_J D q cI cZ A wd0 s H locs := ⟨hK, hA, hP, hD, hS⟩
  have hl : lv_has ls 1 [(0, .ref (q 0))] := by rw [eq0]; exact hl
  refine lv_aload_n hx hb dX0_init_124 rfl (lv_at hl 0 rfl) ?_
  refine lv_iconst (v := 0) hx hb dX0_init_125 ci_0 ?_
  refine x_p14 S J dX0_init_126 (fun H locs J => ?_)
  exact W.vret hx hb hr (fun t ht hW => ⟨⟨q, rfl, eq0, by rw [ht]; exact J.2.2.1, va_K.moved hW.alike hK, J.2.2.2.1⟩, J.2.2.2.2.F ht⟩) J.2.2.2.2.2.2 dX0_init_129 hlk
set_option maxHeartbeats 4000000 in
set_option maxRecDepth 100000 in
theorem yl_init {p : Program} {l : Launch} {e : Env} {R : Room} {s : State} {m : MethodId} {args : Array Value} {below : List Frame} {meth : Method} {c : Code} {cells slots : Nat} {Q : State → Prop} {D : va_G} {q : Nat → Nat} {cI cZ : ClassId} {A : Nat → Prop} (S : CallFix p m c cX1_init 2 s args lw_all RX1)
    (kk : ∀ (σ1 : wdSt) (H : Heap) (locs : List Loc) (ls : Array Slot), (σ1.1 = wd0.1 ∧ (∀ k, ¬ k = 4 → σ1.2 k = wd0.2 k) ∧ ∀ j, j < 20 → σ1.2 4 j = -1) → y_J D q cI cZ A σ1 s H locs → W p l e R s m args below meth c H locs cells slots Q (F0 m 89 ls [])) : ∀ (n i : Nat) (σ1 : wdSt), i + n = 20 → (σ1.1 = wd0.1 ∧ (∀ k, ¬ k = 4 → σ1.2 k = wd0.2 k) ∧ ∀ j, j < i → σ1.2 4 j = -1) → ∀ (H : Heap) (locs : List Loc) (ls : Array Slot), y_J D q cI cZ A σ1 s H locs → lv_has ls 2 [(0, .ref (q 0)), (1, .int (nI i))] → W p l e R s m args below meth c H locs cells slots Q (F0 m 70 ls []) := by
  have hx := S.1
  have hb := S.2.1
  intro n
  induction n with
  | zero =>
    intro i σ1 hi hI H locs ls J hl
    obtain rfl : i = 20 := by omega
    refine lv_iload_n hx hb dX1_init_70 rfl (lv_at hl 1 rfl) ?_
    refine lv_bipush (v := 20) hx hb dX1_init_71 cb_20 ?_
    refine lv_icmp_ge (tgt := 89) hx hb dX1_init_73 (by decide) (fun c_73 => ?_) (fun c_73 => absurd (by decide) c_73)
    exact kk σ1 H locs ls hI J
  | succ n ih =>
    intro i σ1 hi hI H locs ls J hl
    refine lv_iload_n hx hb dX1_init_70 rfl (lv_at hl 1 rfl) ?_
    refine lv_bipush (v := 20) hx hb dX1_init_71 cb_20 ?_
    refine lv_icmp_ge (tgt := 89) hx hb dX1_init_73 (by decide) (fun c_73 => ?_) (fun c_73 => ?_)
    · exact absurd c_73 (fun h => nI_ge (show i < 20 by omega) (by decide) h)
    refine lv_aload_n hx hb dX1_init_76 rfl (lv_at hl 0 rfl) ?_
    refine y_r4 S J dX1_init_77 ?_
    refine lv_iload_n hx hb dX1_init_80 rfl (lv_at hl 1 rfl) ?_
    refine lv_iconst (v := -1) hx hb dX1_init_81 ci_m1 ?_
    refine y_s4 S J i (by omega) dX1_init_82 (fun H locs J => ?_)
    refine lv_iinc (v := nI (i + 1)) (lv' := [(1, .int (nI (i + 1))), (0, .ref (q 0))]) hx hb dX1_init_83 hl (k := 1) rfl (wd_inc _) (by decide) rfl (fun ls hl => ?_)
    refine lv_goto (tgt := 70) hx hb dX1_init_86 (by decide) ?_
    refine ih (i + 1) (wdA σ1 4 i (-1)) (by omega) ⟨hI.1, fun k hk => (wd2_n _ _ _ hk).trans (hI.2.1 k hk), fun j hj => ?_⟩ H locs ls J (lv_sub hl [1, 0] rfl)
    rw [wd2_a]
    by_cases e : j = i
    · rw [e, upd_s]
    · rw [upd_n _ _ e]
      exact hI.2.2 j (by omega)
set_option maxHeartbeats 4000000 in
set_option maxRecDepth 100000 in
/-- the constructor -/
theorem yc_init (l : Launch) (D : va_G) (cI cZ : ClassId) (sz h0 : Nat) : Met l yX1_init (ws_ yX1_init cX1_init 2 none) ({ frames := 1, cells := 8, slots := 124, locals := 12 }) (va_Pc [.ref h0] (fun U => U.heap.size = sz ∧ va_P D vwCl [(h0, .inr (1, [.null, .null, .null, .int 0, .null, .int 0, .int 0, .null, .null, .null, .int 0, .int 0, .null]))] U.heap ∧ va_K D vwCl (wdTy cI cZ) U ∧ va_D (fun _ => True) [(h0, .inr (1, [.null, .null, .null, .int 0, .null, .int 0, .int 0, .null, .null, .null, .int 0, .int 0, .null]))])) (va_Qv (fun u : (Nat → Nat) × wdSt => u.1 0 = h0 ∧ (u.2.1 = wd0.1 ∧ (∀ k, ¬ k = 4 → u.2.2 k = wd0.2 k) ∧ ∀ i, i < 20 → u.2.2 4 i = -1)) (fun u t => va_P D vwCl (y_w u.1 cI cZ u.2) t.heap ∧ va_K D vwCl (wdTy cI cZ) t ∧ va_D (va_A [(h0, .inr (1, [.null, .null, .null, .int 0, .null, .int 0, .int 0, .null, .null, .null, .int 0, .int 0, .null]))] sz) (y_w u.1 cI cZ u.2)) (va_A [(h0, .inr (1, [.null, .null, .null, .int 0, .null, .int 0, .int 0, .null, .null, .null, .int 0, .int 0, .null]))] sz)) 8 124 (va_A [(h0, .inr (1, [.null, .null, .null, .int 0, .null, .int 0, .int 0, .null, .null, .null, .int 0, .int 0, .null]))] sz) := by
  refine Met.ofW (cc := cX1_init) (maxL := 2) (ret := none) (by decide) rfl ?_
  intro p e s m args below meth c s₁ B hml hv
  obtain ⟨rfl, hsz, hP, hK, hD0⟩ := hv
  have hx := B.exec
  have hb := B.bytes
  have hr := B.returns
  have hts := atoms_spec (ws := (ws_ yX1_init cX1_init 2 none)) B.pre
  have hts : ∀ w ∈ lw_all, w.before _ s = true := fun w h => hts w (List.mem_cons_of_mem _ h)
  have hown : s.vm.findClass RX1 = some m.cls := findClass_of_methodNamed B.named
  have hlk := B.notSynchronized
  have hin : meth.name = "<init>" := (name_of_methodNamed B.named B.method).1
  have S : CallFix p m c cX1_init 2 s ([.ref h0] : List Value).toArray lw_all RX1 := ⟨hx, hb, hml, hown, hts⟩
  subst hsz
  have hD := hD0.self (sz := s.heap.size)
  generalize hAe : va_A [(h0, .inr (1, [.null, .null, .null, .int 0, .null, .int 0, .int 0, .null, .null, .null, .int 0, .int 0, .null]))] s.heap.size = A at hD ⊢
  have hA : ∀ q : Nat, s.heap.size ≤ q → A q := fun q h => by rw [← hAe]; exact Or.inr h
  have hS : va_S A s.heap s.heap [] := va_S.rf
  have hl := lv_entry ([.ref h0]) (n := 2) (Nat.le_of_ble_eq_true rfl)
  rw [lg_entry_eq]
  generalize (lg_sl ([.ref h0]) ++ List.replicate (2 - (lg_sl ([.ref h0])).length) Slot.unset).toArray = ls at hl ⊢
  have hl : lv_has ls 2 [(0, .ref h0)] := hl
  refine lv_aload_n hx hb dX1_init_0 rfl (lv_at hl 0 rfl) ?_
  refine W.objInit hx hb hown (hts _ q243) (hts _ q30) (hts _ q31) rfl (by rw [hml]; exact hl.1) rfl dX1_init_1 (Nat.le_of_ble_eq_true rfl) (Nat.le_of_ble_eq_true rfl) ?_
  refine W.eq (g2 := F0 m 4 ls []) rfl ?_
  refine lv_aload_n hx hb dX1_init_4 rfl (lv_at hl 0 rfl) ?_
  refine lv_bipush (v := 20) hx hb dX1_init_5 cb_20 ?_
  refine wd_newI S hK hP hD hS hA (n := 20) (N := 20) (by decide) (by decide) (by decide) (Nat.le_of_ble_eq_true rfl) (Nat.le_of_ble_eq_true rfl) dX1_init_7 (fun x0 H hP hD hS => ?_)
  refine va_putF (D := D) (ci := 1) (v := .ref x0) (ty := .array .int) (C := RX1) (T := TX1) (N := 13) hx hb hts in_X1 tyX1 tyX1_ok nmX1 hown hK hP hD hS 0 rfl rfl 0 (by decide) (hts _ q244) (fun _ h9 => h9) rfl hin rfl (by decide +kernel) rfl rfl (Nat.le_of_ble_eq_true rfl) dX1_init_9 (fun H locs hP hD hS => ?_)
  have hP : va_P D vwCl [(h0, .inr (1, [.ref x0, .null, .null, .int 0, .null, .int 0, .int 0, .null, .null, .null, .int 0, .int 0, .null])), (x0, .inl (cI, 20, .inl (fun _ => 0)))] H := hP
  have hD : va_D A [(h0, .inr (1, [.ref x0, .null, .null, .int 0, .null, .int 0, .int 0, .null, .null, .null, .int 0, .int 0, .null])), (x0, .inl (cI, 20, .inl (fun _ => 0)))] := hD
  refine W.widen (k := 1) (n := 20) (Nat.le_of_ble_eq_true rfl) (Nat.le_of_ble_eq_true rfl) ?_
  refine lv_aload_n hx hb dX1_init_12 rfl (lv_at hl 0 rfl) ?_
  refine lv_bipush (v := 20) hx hb dX1_init_13 cb_20 ?_
  refine wd_newI S hK hP hD hS hA (n := 20) (N := 20) (by decide) (by decide) (by decide) (Nat.le_of_ble_eq_true rfl) (Nat.le_of_ble_eq_true rfl) dX1_init_15 (fun x1 H hP hD hS => ?_)
  refine va_putF (D := D) (ci := 1) (v := .ref x1) (ty := .array .int) (C := RX1) (T := TX1) (N := 13) hx hb hts in_X1 tyX1 tyX1_ok nmX1 hown hK hP hD hS 0 rfl rfl 1 (by decide) (hts _ q245) (fun _ h9 => h9) rfl hin rfl (by decide +kernel) rfl rfl (Nat.le_of_ble_eq_true rfl) dX1_init_17 (fun H locs hP hD hS => ?_)
  have hP : va_P D vwCl [(h0, .inr (1, [.ref x0, .ref x1, .null, .int 0, .null, .int 0, .int 0, .null, .null, .null, .int 0, .int 0, .null])), (x0, .inl (cI, 20, .inl (fun _ => 0))), (x1, .inl (cI, 20, .inl (fun _ => 0)))] H := hP
  have hD : va_D A [(h0, .inr (1, [.ref x0, .ref x1, .null, .int 0, .null, .int 0, .int 0, .null, .null, .null, .int 0, .int 0, .null])), (x0, .inl (cI, 20, .inl (fun _ => 0))), (x1, .inl (cI, 20, .inl (fun _ => 0)))] := hD
  refine W.widen (k := 2) (n := 40) (Nat.le_of_ble_eq_true rfl) (Nat.le_of_ble_eq_true rfl) ?_
  refine lv_aload_n hx hb dX1_init_20 rfl (lv_at hl 0 rfl) ?_
  refine lv_bipush (v := 20) hx hb dX1_init_21 cb_20 ?_
  refine wd_newI S hK hP hD hS hA (n := 20) (N := 20) (by decide) (by decide) (by decide) (Nat.le_of_ble_eq_true rfl) (Nat.le_of_ble_eq_true rfl) dX1_init_23 (fun x2 H hP hD hS => ?_)
  refine va_putF (D := D) (ci := 1) (v := .ref x2) (ty := .array .int) (C := RX1) (T := TX1) (N := 13) hx hb hts in_X1 tyX1 tyX1_ok nmX1 hown hK hP hD hS 0 rfl rfl 2 (by decide) (hts _ q246) (fun _ h9 => h9) rfl hin rfl (by decide +kernel) rfl rfl (Nat.le_of_ble_eq_true rfl) dX1_init_25 (fun H locs hP hD hS => ?_)
  have hP : va_P D vwCl [(h0, .inr (1, [.ref x0, .ref x1, .ref x2, .int 0, .null, .int 0, .int 0, .null, .null, .null, .int 0, .int 0, .null])), (x0, .inl (cI, 20, .inl (fun _ => 0))), (x1, .inl (cI, 20, .inl (fun _ => 0))), (x2, .inl (cI, 20, .inl (fun _ => 0)))] H := hP
  have hD : va_D A [(h0, .inr (1, [.ref x0, .ref x1, .ref x2, .int 0, .null, .int 0, .int 0, .null, .null, .null, .int 0, .int 0, .null])), (x0, .inl (cI, 20, .inl (fun _ => 0))), (x1, .inl (cI, 20, .inl (fun _ => 0))), (x2, .inl (cI, 20, .inl (fun _ => 0)))] := hD
  refine W.widen (k := 3) (n := 60) (Nat.le_of_ble_eq_true rfl) (Nat.le_of_ble_eq_true rfl) ?_
  refine lv_aload_n hx hb dX1_init_28 rfl (lv_at hl 0 rfl) ?_
  refine lv_bipush (v := 20) hx hb dX1_init_29 cb_20 ?_
  refine wd_newI S hK hP hD hS hA (n := 20) (N := 20) (by decide) (by decide) (by decide) (Nat.le_of_ble_eq_true rfl) (Nat.le_of_ble_eq_true rfl) dX1_init_31 (fun x4 H hP hD hS => ?_)
  refine va_putF (D := D) (ci := 1) (v := .ref x4) (ty := .array .int) (C := RX1) (T := TX1) (N := 13) hx hb hts in_X1 tyX1 tyX1_ok nmX1 hown hK hP hD hS 0 rfl rfl 4 (by decide) (hts _ q248) (fun _ h9 => h9) rfl hin rfl (by decide +kernel) rfl rfl (Nat.le_of_ble_eq_true rfl) dX1_init_33 (fun H locs hP hD hS => ?_)
  have hP : va_P D vwCl [(h0, .inr (1, [.ref x0, .ref x1, .ref x2, .int 0, .ref x4, .int 0, .int 0, .null, .null, .null, .int 0, .int 0, .null])), (x0, .inl (cI, 20, .inl (fun _ => 0))), (x1, .inl (cI, 20, .inl (fun _ => 0))), (x2, .inl (cI, 20, .inl (fun _ => 0))), (x4, .inl (cI, 20, .inl (fun _ => 0)))] H := hP
  have hD : va_D A [(h0, .inr (1, [.ref x0, .ref x1, .ref x2, .int 0, .ref x4, .int 0, .int 0, .null, .null, .null, .int 0, .int 0, .null])), (x0, .inl (cI, 20, .inl (fun _ => 0))), (x1, .inl (cI, 20, .inl (fun _ => 0))), (x2, .inl (cI, 20, .inl (fun _ => 0))), (x4, .inl (cI, 20, .inl (fun _ => 0)))] := hD
  refine W.widen (k := 4) (n := 80) (Nat.le_of_ble_eq_true rfl) (Nat.le_of_ble_eq_true rfl) ?_
  refine lv_aload_n hx hb dX1_init_36 rfl (lv_at hl 0 rfl) ?_
  refine lv_bipush (v := 24) hx hb dX1_init_37 cb_24 ?_
  refine wd_newI S hK hP hD hS hA (n := 24) (N := 24) (by decide) (by decide) (by decide) (Nat.le_of_ble_eq_true rfl) (Nat.le_of_ble_eq_true rfl) dX1_init_39 (fun x7 H hP hD hS => ?_)
  refine va_putF (D := D) (ci := 1) (v := .ref x7) (ty := .array .int) (C := RX1) (T := TX1) (N := 13) hx hb hts in_X1 tyX1 tyX1_ok nmX1 hown hK hP hD hS 0 rfl rfl 7 (by decide) (hts _ q251) (fun _ h9 => h9) rfl hin rfl (by decide +kernel) rfl rfl (Nat.le_of_ble_eq_true rfl) dX1_init_41 (fun H locs hP hD hS => ?_)
  have hP : va_P D vwCl [(h0, .inr (1, [.ref x0, .ref x1, .ref x2, .int 0, .ref x4, .int 0, .int 0, .ref x7, .null, .null, .int 0, .int 0, .null])), (x0, .inl (cI, 20, .inl (fun _ => 0))), (x1, .inl (cI, 20, .inl (fun _ => 0))), (x2, .inl (cI, 20, .inl (fun _ => 0))), (x4, .inl (cI, 20, .inl (fun _ => 0))), (x7, .inl (cI, 24, .inl (fun _ => 0)))] H := hP
  have hD : va_D A [(h0, .inr (1, [.ref x0, .ref x1, .ref x2, .int 0, .ref x4, .int 0, .int 0, .ref x7, .null, .null, .int 0, .int 0, .null])), (x0, .inl (cI, 20, .inl (fun _ => 0))), (x1, .inl (cI, 20, .inl (fun _ => 0))), (x2, .inl (cI, 20, .inl (fun _ => 0))), (x4, .inl (cI, 20, .inl (fun _ => 0))), (x7, .inl (cI, 24, .inl (fun _ => 0)))] := hD
  refine W.widen (k := 5) (n := 104) (Nat.le_of_ble_eq_true rfl) (Nat.le_of_ble_eq_true rfl) ?_
  refine lv_aload_n hx hb dX1_init_44 rfl (lv_at hl 0 rfl) ?_
  refine lv_bipush (v := 6) hx hb dX1_init_45 cb_6 ?_
  refine wd_newI S hK hP hD hS hA (n := 6) (N := 6) (by decide) (by decide) (by decide) (Nat.le_of_ble_eq_true rfl) (Nat.le_of_ble_eq_true rfl) dX1_init_47 (fun x8 H hP hD hS => ?_)
  refine va_putF (D := D) (ci := 1) (v := .ref x8) (ty := .array .int) (C := RX1) (T := TX1) (N := 13) hx hb hts in_X1 tyX1 tyX1_ok nmX1 hown hK hP hD hS 0 rfl rfl 8 (by decide) (hts _ q252) (fun _ h9 => h9) rfl hin rfl (by decide +kernel) rfl rfl (Nat.le_of_ble_eq_true rfl) dX1_init_49 (fun H locs hP hD hS => ?_)
  have hP : va_P D vwCl [(h0, .inr (1, [.ref x0, .ref x1, .ref x2, .int 0, .ref x4, .int 0, .int 0, .ref x7, .ref x8, .null, .int 0, .int 0, .null])), (x0, .inl (cI, 20, .inl (fun _ => 0))), (x1, .inl (cI, 20, .inl (fun _ => 0))), (x2, .inl (cI, 20, .inl (fun _ => 0))), (x4, .inl (cI, 20, .inl (fun _ => 0))), (x7, .inl (cI, 24, .inl (fun _ => 0))), (x8, .inl (cI, 6, .inl (fun _ => 0)))] H := hP
  have hD : va_D A [(h0, .inr (1, [.ref x0, .ref x1, .ref x2, .int 0, .ref x4, .int 0, .int 0, .ref x7, .ref x8, .null, .int 0, .int 0, .null])), (x0, .inl (cI, 20, .inl (fun _ => 0))), (x1, .inl (cI, 20, .inl (fun _ => 0))), (x2, .inl (cI, 20, .inl (fun _ => 0))), (x4, .inl (cI, 20, .inl (fun _ => 0))), (x7, .inl (cI, 24, .inl (fun _ => 0))), (x8, .inl (cI, 6, .inl (fun _ => 0)))] := hD
  refine W.widen (k := 6) (n := 110) (Nat.le_of_ble_eq_true rfl) (Nat.le_of_ble_eq_true rfl) ?_
  refine lv_aload_n hx hb dX1_init_52 rfl (lv_at hl 0 rfl) ?_
  refine lv_bipush (v := 6) hx hb dX1_init_53 cb_6 ?_
  refine wd_newI S hK hP hD hS hA (n := 6) (N := 6) (by decide) (by decide) (by decide) (Nat.le_of_ble_eq_true rfl) (Nat.le_of_ble_eq_true rfl) dX1_init_55 (fun x9 H hP hD hS => ?_)
  refine va_putF (D := D) (ci := 1) (v := .ref x9) (ty := .array .int) (C := RX1) (T := TX1) (N := 13) hx hb hts in_X1 tyX1 tyX1_ok nmX1 hown hK hP hD hS 0 rfl rfl 9 (by decide) (hts _ q253) (fun _ h9 => h9) rfl hin rfl (by decide +kernel) rfl rfl (Nat.le_of_ble_eq_true rfl) dX1_init_57 (fun H locs hP hD hS => ?_)
  have hP : va_P D vwCl [(h0, .inr (1, [.ref x0, .ref x1, .ref x2, .int 0, .ref x4, .int 0, .int 0, .ref x7, .ref x8, .ref x9, .int 0, .int 0, .null])), (x0, .inl (cI, 20, .inl (fun _ => 0))), (x1, .inl (cI, 20, .inl (fun _ => 0))), (x2, .inl (cI, 20, .inl (fun _ => 0))), (x4, .inl (cI, 20, .inl (fun _ => 0))), (x7, .inl (cI, 24, .inl (fun _ => 0))), (x8, .inl (cI, 6, .inl (fun _ => 0))), (x9, .inl (cI, 6, .inl (fun _ => 0)))] H := hP
  have hD : va_D A [(h0, .inr (1, [.ref x0, .ref x1, .ref x2, .int 0, .ref x4, .int 0, .int 0, .ref x7, .ref x8, .ref x9, .int 0, .int 0, .null])), (x0, .inl (cI, 20, .inl (fun _ => 0))), (x1, .inl (cI, 20, .inl (fun _ => 0))), (x2, .inl (cI, 20, .inl (fun _ => 0))), (x4, .inl (cI, 20, .inl (fun _ => 0))), (x7, .inl (cI, 24, .inl (fun _ => 0))), (x8, .inl (cI, 6, .inl (fun _ => 0))), (x9, .inl (cI, 6, .inl (fun _ => 0)))] := hD
  refine W.widen (k := 7) (n := 116) (Nat.le_of_ble_eq_true rfl) (Nat.le_of_ble_eq_true rfl) ?_
  refine lv_aload_n hx hb dX1_init_60 rfl (lv_at hl 0 rfl) ?_
  refine lv_bipush (v := 8) hx hb dX1_init_61 cb_8 ?_
  refine wd_newI S hK hP hD hS hA (n := 8) (N := 8) (by decide) (by decide) (by decide) (Nat.le_of_ble_eq_true rfl) (Nat.le_of_ble_eq_true rfl) dX1_init_63 (fun x12 H hP hD hS => ?_)
  refine va_putF (D := D) (ci := 1) (v := .ref x12) (ty := .array .int) (C := RX1) (T := TX1) (N := 13) hx hb hts in_X1 tyX1 tyX1_ok nmX1 hown hK hP hD hS 0 rfl rfl 12 (by decide) (hts _ q256) (fun _ h9 => h9) rfl hin rfl (by decide +kernel) rfl rfl (Nat.le_of_ble_eq_true rfl) dX1_init_65 (fun H locs hP hD hS => ?_)
  have hP : va_P D vwCl [(h0, .inr (1, [.ref x0, .ref x1, .ref x2, .int 0, .ref x4, .int 0, .int 0, .ref x7, .ref x8, .ref x9, .int 0, .int 0, .ref x12])), (x0, .inl (cI, 20, .inl (fun _ => 0))), (x1, .inl (cI, 20, .inl (fun _ => 0))), (x2, .inl (cI, 20, .inl (fun _ => 0))), (x4, .inl (cI, 20, .inl (fun _ => 0))), (x7, .inl (cI, 24, .inl (fun _ => 0))), (x8, .inl (cI, 6, .inl (fun _ => 0))), (x9, .inl (cI, 6, .inl (fun _ => 0))), (x12, .inl (cI, 8, .inl (fun _ => 0)))] H := hP
  have hD : va_D A [(h0, .inr (1, [.ref x0, .ref x1, .ref x2, .int 0, .ref x4, .int 0, .int 0, .ref x7, .ref x8, .ref x9, .int 0, .int 0, .ref x12])), (x0, .inl (cI, 20, .inl (fun _ => 0))), (x1, .inl (cI, 20, .inl (fun _ => 0))), (x2, .inl (cI, 20, .inl (fun _ => 0))), (x4, .inl (cI, 20, .inl (fun _ => 0))), (x7, .inl (cI, 24, .inl (fun _ => 0))), (x8, .inl (cI, 6, .inl (fun _ => 0))), (x9, .inl (cI, 6, .inl (fun _ => 0))), (x12, .inl (cI, 8, .inl (fun _ => 0)))] := hD
  refine W.widen (k := 8) (n := 124) (Nat.le_of_ble_eq_true rfl) (Nat.le_of_ble_eq_true rfl) ?_
  obtain ⟨q, hq⟩ : ∃ q : Nat → Nat, q = fun k => ([h0, x0, x1, x2, 0, x4, 0, 0, x7, x8, x9, 0, 0, x12] : List Nat).getD k 0 := ⟨_, rfl⟩
  have hP : va_P D vwCl (y_w q cI cZ wd0) H := by rw [hq]; exact hP
  have hD : va_D A (y_w q cI cZ wd0) := by rw [hq]; exact hD
  have eq0 : q 0 = h0 := by rw [hq]; rfl
  have J : y_J D q cI cZ A wd0 s H locs := ⟨hK, hA, hP, hD, hS⟩
  have hl : lv_has ls 2 [(0, .ref (q 0))] := by rw [eq0]; exact hl
  refine lv_iconst (v := 0) hx hb dX1_init_68 ci_0 ?_
  refine lv_istore_n (lv' := [(1, .int 0), (0, .ref (q 0))]) hx hb dX1_init_69 rfl hl (by decide) rfl (fun ls hl => ?_)
  refine yl_init S (fun σ1 H locs ls hI J => ?_) 20 0 wd0 rfl ⟨rfl, fun _ _ => rfl, fun j hj => absurd hj (Nat.not_lt_zero j)⟩ H locs ls J (lv_sub hl [1, 0] rfl)
  exact W.vret hx hb hr (fun t ht hW => ⟨⟨(q, σ1), rfl, ⟨eq0, hI⟩, by rw [ht]; exact J.2.2.1, va_K.moved hW.alike hK, J.2.2.2.1⟩, J.2.2.2.2.F ht⟩) J.2.2.2.2.2.2 dX1_init_89 hlk
end
section
set_option maxRecDepth 100000
/-! THE CLAIM OUT OF ONE WALK OF THE LAW'S BODY. Your part is whole_start (and what it stands on); all else here is the same for every law, but numbers. -/
def R_law : String := "WovenDebuggerLaw"
def lw_P (b : Addr) (xs : List Int32) (args : Array Value) (s : State) : Prop := args = #[.ref b] ∧ s.IntsAt b xs ∧ xs.length ≤ 256 ∧ (Jvm.Cond.and given_1 narrow_1).before args s = true
def lw_Q (_ : Array Value) (s : State) (o : Outcome) (t : State) : Prop := o = .returned (some (.int 1)) ∧ Framed s o t [] 600000 7290000
def lw_Z (below : List Frame) (a : Array Value) (s : State) : State → Prop := fun t => ∃ o, t.status = .running ∧ Ended t below o ∧ lw_Q a s o t
/-- the law's own end, with 1 on the stack, nothing written that was there before, its room as the claim has it -/
theorem lw_ret {p : Program} {l : Launch} {e : Env} {s : State} {m : MethodId} {below : List Frame} {meth : Method} {c : Code} {b : Nat} (hx : p.tables.exec = Jvm.exec) (hb : c.code = code) (hr : meth.sig.returnType = ret) (hlocks : meth.locks = false) {pc : Nat} {H : Heap} {ls : Array Slot} (hdg : decode code pc = .ok (.ireturn, 1)) : W p l e room_1 s m #[Value.ref b] below meth c H [] 600000 7290000 (lw_Z below #[Value.ref b] s) (F0 m pc ls [.int 1]) := by
  intro T hT X
  obtain ⟨fs, hret, hrun, hended, hW, hframe⟩ := X.leave (v := some (.int 1)) (hlocks := hlocks) (fun h => by rw [hr] at h; cases h)
  have hmeth' : T.vm.method? m = some meth := X.method'
  refine ⟨T.setFrames fs, ?_, .returned (some (.int 1)), hrun, hended, rfl, ⟨_, rfl⟩, hW, hframe⟩
  jvm_step X.here [X.here.top, hx, hb, hdg, hmeth', hr, ret, narrow_b1]
  (try refine ⟨rfl, ?_⟩); (try refine ⟨rfl, ?_⟩)
  first | (intro acts; rw [hret _ acts rfl rfl rfl]) | rw [hret _ _ rfl rfl rfl]
  exact Steps.refl _
/-- what holds at the law's entry: the machine, the code, the tables' words (any of lw_tbl by 'hts w (by decide +kernel)'), the script of L ints xs at the cell b, what the Statement gives of the start (any of its parts by flat_of_before) -/
def lw_At (p : Program) (s : State) (m : MethodId) (meth : Method) (c : Code) (b L : Nat) (xs : Nat → Int32) : Prop :=
  p.tables.exec = Jvm.exec ∧ c.code = code ∧ meth.sig.returnType = ret ∧ c.maxLocals = 4 ∧ s.vm.findClass R_law = some m.cls ∧ (∀ w ∈ lw_tbl, w.before #[Value.ref b] s = true) ∧ va_X b L xs s s.heap ∧ b < s.heap.size ∧ meth.locks = false ∧ (Jvm.Cond.and given_1 narrow_1).before #[Value.ref b] s = true
end
section
/-! call by call: the two sides answer alike and stay tied -/
def wdRR (σ τ : wdSt) : Prop := ∃ L d, wdR L d σ τ
theorem jn_pair {r r2 : Int32} {σ' τ' : wdSt} {L : Nat} {y : Int32 × wdSt} (hx : r = y.1 ∧ ∃ d', wdR L d' σ' y.2) (hy : (r2, τ') = y) : r = r2 ∧ wdRR σ' τ' := by
  rw [← hy] at hx
  exact ⟨hx.1, L, hx.2⟩
theorem jn_same {r r2 v : Int32} {σ σ' τ τ' : wdSt} {L d : Nat} (hR : wdR L d σ τ) (hx : σ' = σ ∧ r = v) (hy : τ' = τ ∧ r2 = v) : r = r2 ∧ wdRR σ' τ' := by
  rw [hx.1, hy.1, hx.2, hy.2]
  exact ⟨rfl, L, d, hR⟩
theorem jn_emit {L d : Nat} {o a b r r2 : Int32} {σ σ' τ τ' : wdSt} (hR : wdR L d σ τ) (hx : (r, σ') = xEmit L o a b σ) (hy : (r2, τ') = yEmit L o a b τ) : r = r2 ∧ wdRR σ' τ' := by
  have hL2 : L ≤ 20 := hR.1.1.2.2
  unfold xEmit at hx
  unfold yEmit at hy
  by_cases h1 : o < 0 ∨ ¬ o ≤ 10
  · rw [if_pos h1] at hx hy
    cases hx
    cases hy
    exact ⟨rfl, L, d, hR⟩
  rw [if_neg h1] at hx hy
  by_cases h2 : L = 20
  · rw [if_pos (show ¬ nI L < 20 by rw [h2]; decide)] at hx
    rw [if_pos (show nI L = 20 by rw [h2]; decide)] at hy
    cases hx
    cases hy
    exact ⟨rfl, L, d, hR⟩
  rw [if_neg (not_not_intro ((wd_lt L 20 20 (by omega) (by decide) rfl).mpr (by omega)))] at hx
  rw [if_neg (fun q => h2 ((wd_eq L 20 20 (by omega) (by decide) rfl).mp q))] at hy
  by_cases h3 : τ.1 5 = 0
  · rw [if_pos (hR.2.1.trans h3)] at hx
    rw [if_pos h3] at hy
    cases hx
    cases hy
    obtain ⟨⟨g1, g2, ⟨g3, g3', g3'', g3o⟩, g4, g5, g6, g7⟩, h14, hpl, hq⟩ := hR
    refine ⟨rfl, L + 1, d, ⟨⟨rfl, rfl, by omega⟩, g2, ⟨?_, ?_, ?_, ?_⟩, g4, g5, g6, g7⟩, h14, hpl, Or.inl ?_⟩
    · show upd (σ.2 1) L o = upd (τ.2 0) L o
      rw [g3]
    · show upd (σ.2 2) L a = upd (τ.2 1) L a
      rw [g3']
    · show upd (σ.2 3) L b = upd (τ.2 2) L b
      rw [g3'']
    · intro i hi
      show ∃ k, k ≤ 10 ∧ upd (τ.2 0) L o i = nI k
      by_cases e : i = L
      · rw [e, upd_s]
        exact nI_of2 (M := 10) (n := 10) (by decide) (fun q => h1 (Or.inl q)) (Classical.not_not.mp (fun q => h1 (Or.inr q)))
      · rw [upd_n _ _ e]
        exact g3o i (by omega)
    · rcases hq with h | h
      · exact h
      · exact absurd h3 h.1
  · rw [if_neg (fun q => h3 (hR.2.1.symm.trans q))] at hx
    rw [if_neg h3] at hy
    cases hx
    cases hy
    exact ⟨rfl, L, d, hR⟩
theorem jn_setL {L d : Nat} {v w r r2 : Int32} {σ σ' τ τ' : wdSt} (hR : wdR L d σ τ) (hx : (r, σ') = xSetL d v w σ) (hy : (r2, τ') = ySetL d v w τ) : r = r2 ∧ wdRR σ' τ' := by
  unfold xSetL at hx
  unfold ySetL at hy
  by_cases h0 : d = 0
  · rw [if_pos h0] at hx hy
    cases hx
    cases hy
    exact ⟨rfl, L, d, hR⟩
  rw [if_neg h0] at hx hy
  by_cases h1 : v < 0 ∨ ¬ v ≤ 3
  · rw [if_pos h1] at hx hy
    cases hx
    cases hy
    exact ⟨rfl, L, d, hR⟩
  rw [if_neg h1] at hx hy
  cases hx
  cases hy
  obtain ⟨⟨g1, g2, g3, g4, g5, g6, g7⟩, h14, hpl, hq⟩ := hR
  refine ⟨rfl, L, d, ⟨g1, g2, g3, g4, ?_, g6, g7⟩, h14, hpl, hq⟩
  show upd (σ.2 19) _ w = upd (τ.2 7) _ w
  rw [g5]
theorem jn_local {L d : Nat} {v w r r2 : Int32} {σ σ' τ τ' : wdSt} (hR : wdR L d σ τ) (hx : σ' = σ ∧ r = xLoc d v w σ) (hy : τ' = τ ∧ r2 = yLoc d v w τ) : r = r2 ∧ wdRR σ' τ' := by
  refine jn_same hR hx ⟨hy.1, ?_⟩
  rw [hy.2, xLoc, yLoc, hR.1.2.2.2.2.1]
theorem jn_out {L d : Nat} {v r r2 : Int32} {σ σ' τ τ' : wdSt} (hR : wdR L d σ τ) (hx : σ' = σ ∧ r = xOutp v σ) (hy : τ' = τ ∧ r2 = yOutp v τ) : r = r2 ∧ wdRR σ' τ' := by
  refine jn_same hR hx ⟨hy.1, ?_⟩
  rw [hy.2, xOutp, yOutp, hR.1.2.2.2.2.2.1.1]
  by_cases h : v < 0 ∨ 7 < v ∨ ¬ v < τ.1 11
  · rw [if_pos h, if_pos h]
  · rw [if_neg h, if_neg h]
    obtain ⟨j, hj, ej⟩ := wd_le7 (fun q => h (Or.inl q)) (fun q => h (Or.inr (Or.inl q)))
    have hlt : v < τ.1 11 := Classical.not_not.mp (fun q => h (Or.inr (Or.inr q)))
    rw [ej, nI_clamp (by omega)]
    exact (hR.1.2.2.2.2.2.1.2 j (by omega) (by rw [← ej]; exact hlt)).symm
theorem jn_skip {L d : Nat} {v r r2 : Int32} {σ σ' τ τ' : wdSt} (hR : wdR L d σ τ) (hx : σ' = σ ∧ r = xSkip L v σ) (hy : τ' = τ ∧ r2 = ySkip L v τ) : r = r2 ∧ wdRR σ' τ' := by
  have hL2 : L ≤ 20 := hR.1.1.2.2
  refine jn_same hR hx ⟨hy.1, ?_⟩
  rw [hy.2, xSkip, ySkip]
  by_cases h : v < 0 ∨ ¬ v < nI L
  · rw [if_pos h, if_pos h]
  · rw [if_neg h, if_neg h]
    obtain ⟨j, hj, ej⟩ := wdBad_ex hL2 h
    rw [ej, nI_clamp (by omega)]
    have hB := hR.1.2.2.2.1.1 j (by omega)
    by_cases e : σ.2 5 j = 0
    · rw [if_pos e, if_neg (wd_b0 hB e)]
    · rw [if_neg e, if_pos (wd_b1 hB e)]
      rcases hB with q | q
      · exact q.2.1.symm
      · exact absurd q.1 e
theorem jn_start (σ τ : wdSt) (h1 : σ = wdS wd0 14 0) (h2 : τ.1 = wd0.1 ∧ (∀ k, ¬ k = 4 → τ.2 k = wd0.2 k) ∧ ∀ i, i < 20 → τ.2 4 i = -1) : wdRR σ τ := by
  subst h1
  obtain ⟨t1, t2, t3⟩ := h2
  have z : ∀ k, τ.1 k = 0 := fun k => by rw [t1]; rfl
  have z2 : ∀ k i, ¬ k = 4 → τ.2 k i = 0 := fun k i hk => by rw [t2 k hk]; rfl
  refine ⟨0, 0, ⟨⟨rfl, z 3, by decide⟩, ⟨rfl, z 6, by decide⟩, ⟨(t2 0 (by decide)).symm, (t2 1 (by decide)).symm, (t2 2 (by decide)).symm, fun i hi => absurd hi (Nat.not_lt_zero i)⟩, ⟨fun i hi => Or.inr ⟨rfl, t3 i hi⟩, ?_⟩, (t2 7 (by decide)).symm, ⟨(z 11).symm, fun b hb q => absurd q (by rw [z 11]; exact nI_pos (by omega))⟩, ⟨fun f hf => by omega, fun f hf => ⟨0, by decide, z2 9 f (by decide)⟩⟩⟩, (z 5).symm, fun _ _ => rfl, Or.inl ⟨z 5, rfl⟩⟩
  show (0 : Int32) = nI (yBr (τ.2 4) 20)
  have e : yBr (τ.2 4) 20 = yBr (fun _ => -1) 20 := yBr_congr 20 (fun i hi => by rw [t3 i hi])
  rw [e]
  decide +kernel
end
section
/-! the law's two objects, and its calls -/
theorem wd_Dl {A : Nat → Prop} {w1 w2 : va_W} (h : va_D A (w1 ++ w2)) : va_D A w1 := by
  have key : ∀ (i : Nat) (x : Nat × va_E), w1[i]? = some x → (w1 ++ w2)[i]? = some x := fun i x hx => by
    rw [List.getElem?_append_left (List.getElem?_eq_some_iff.mp hx).1]
    exact hx
  exact ⟨fun i j x y hx hy => h.1 i j x y (key i x hx) (key j y hy), fun k x hx => h.2 k x (key k x hx)⟩
theorem wd_Dr {A : Nat → Prop} {w1 w2 : va_W} (h : va_D A (w1 ++ w2)) : va_D A w2 := by
  have key : ∀ (i : Nat) (x : Nat × va_E), w2[i]? = some x → (w1 ++ w2)[w1.length + i]? = some x := fun i x hx => by
    rw [List.getElem?_append_right (by omega), Nat.add_sub_cancel_left]
    exact hx
  refine ⟨fun i j x y hx hy hxy => ?_, fun k x hx => h.2 _ x (key k x hx)⟩
  have := h.1 _ _ x y (key i x hx) (key j y hy) hxy
  omega
theorem wd_ap {A : Nat → Prop} {w1 w2 : va_W} (h : va_D A (w1 ++ w2)) {k : Nat} {x : Nat × va_E} (hx : w2[k]? = some x) : x.1 ∉ w1.map (fun q => q.1) := by
  intro hm
  obtain ⟨y, hy, e⟩ := List.mem_map.mp hm
  obtain ⟨i, hi⟩ := List.getElem?_of_mem hy
  have hl := (List.getElem?_eq_some_iff.mp hi).1
  have h1 : (w1 ++ w2)[i]? = some y := by rw [List.getElem?_append_left hl]; exact hi
  have h2 : (w1 ++ w2)[w1.length + k]? = some x := by rw [List.getElem?_append_right (by omega), Nat.add_sub_cancel_left]; exact hx
  have := h.1 _ _ y x h1 h2 e
  omega
theorem wd_ap2 {A : Nat → Prop} {w1 w2 : va_W} (h : va_D A (w1 ++ w2)) {k : Nat} {x : Nat × va_E} (hx : w1[k]? = some x) : x.1 ∉ w2.map (fun q => q.1) := by
  intro hm
  obtain ⟨y, hy, e⟩ := List.mem_map.mp hm
  obtain ⟨i, hi⟩ := List.getElem?_of_mem hy
  have hl := (List.getElem?_eq_some_iff.mp hx).1
  have h1 : (w1 ++ w2)[k]? = some x := by rw [List.getElem?_append_left hl]; exact hx
  have h2 : (w1 ++ w2)[w1.length + i]? = some y := by rw [List.getElem?_append_right (by omega), Nat.add_sub_cancel_left]; exact hi
  have := h.1 _ _ x y h1 h2 e.symm
  omega
/-- the law's heap: a debugger at q, a model at r -/
def l_J (D : va_G) (q r : Nat → Nat) (cI cZ : ClassId) (A : Nat → Prop) (σ τ : wdSt) (s : State) (H : Heap) (locs : List Loc) : Prop := va_K D vwCl (wdTy cI cZ) s ∧ (∀ a : Nat, s.heap.size ≤ a → A a) ∧ va_P D vwCl (x_w q cI cZ σ) H ∧ va_P D vwCl (y_w r cI cZ τ) H ∧ va_D A (x_w q cI cZ σ ++ y_w r cI cZ τ) ∧ va_S A s.heap H locs
section LR
variable {p : Program} {l : Launch} {e : Env} {R : Room} {s : State} {m : MethodId} {args : Array Value} {below : List Frame} {meth : Method} {c : Code} {H : Heap} {locs : List Loc} {cells slots : Nat} {Q : State → Prop}
variable {cc : ByteArray} {pc nL : Nat} {ls : Array Slot} {rest : List Value} {D : va_G} {q r : Nat → Nat} {cI cZ : ClassId} {A : Nat → Prop} {σ τ : wdSt}
theorem l_x (J : l_J D q r cI cZ A σ τ s H locs) : x_J D q cI cZ A σ s H locs := ⟨J.1, J.2.1, J.2.2.1, wd_Dl J.2.2.2.2.1, J.2.2.2.2.2⟩
theorem l_y (J : l_J D q r cI cZ A σ τ s H locs) : y_J D r cI cZ A τ s H locs := ⟨J.1, J.2.1, J.2.2.2.1, wd_Dr J.2.2.2.2.1, J.2.2.2.2.2⟩
theorem l_Dc (σ' τ' : wdSt) (h : va_D A (x_w q cI cZ σ ++ y_w r cI cZ τ)) : va_D A (x_w q cI cZ σ' ++ y_w r cI cZ τ') := wd_Dc (ws := x_w q cI cZ σ ++ y_w r cI cZ τ) rfl h
/-- a call of the debugger: the model stays -/
theorem l_cx {own : String} {idx : Nat} {y : MethodName} {bytes : ByteArray} {maxL : Nat} {ret : Option FieldType} {ws : List Cond} {rm : Room} {post : Int32 → wdSt → Prop} {As st0 : List Value} (S : CallFix p m c cc nL s args lw_all own) (J : l_J D q r cI cZ A σ τ s H locs) (hM : Met l y ws rm (x_Pc D q cI cZ H.size σ As) (va_Qi post (x_B D q cI cZ) (x_A q H.size)) 0 0 (x_A q H.size)) {na : Nat} (cw : CallW R s args own RX0 idx y bytes maxL ret ws rm 0 0 na) (hna : As.length = na) (hsz : ls.size = nL) (hst : st0 = As.reverse ++ .ref (q 0) :: rest) (hW : (rest.map fun v => v.category).sum ≤ 8) (hdg : decode cc pc = .ok (.invokevirtual idx, 3)) (hcs : cells ≤ R.cells ∧ slots ≤ R.slots)
    (kk : ∀ (v : Int32) (σ1 : wdSt) (H1 : Heap) (locs1 : List Loc), post v σ1 → l_J D q r cI cZ A σ1 τ s H1 locs1 → W p l e R s m args below meth c H1 locs1 cells slots Q (F0 m (pc + 3) ls (.int v :: rest))) : W p l e R s m args below meth c H locs cells slots Q (F0 m pc ls st0) := by
  refine va_calli (va_runV (As := As) (rest := rest) S hM cw (x_preV (l_x J) As) rfl hna hsz hst (lv_room hW) hdg hcs) J.2.2.2.2.2 (fun a _ h => x_sub (l_x J) a h) (x_sub (l_x J)) (fun v u t H1 locs1 ht hvm hw hB hz hk hS => kk v u H1 locs1 hw ⟨J.1, J.2.1, by rw [← ht]; exact hB.1, J.2.2.2.1.kept (fun k x hx => hk x.1 (J.2.2.2.1 k x hx).lt ?_), l_Dc _ _ J.2.2.2.2.1, hS⟩)
  intro h
  rcases h with h | h
  · exact wd_ap J.2.2.2.2.1 hx h
  · exact absurd (J.2.2.2.1 k x hx).lt (Nat.not_lt.mpr h)
/-- a call of the model: the debugger stays -/
theorem l_cy {own : String} {idx : Nat} {y : MethodName} {bytes : ByteArray} {maxL : Nat} {ret : Option FieldType} {ws : List Cond} {rm : Room} {post : Int32 → wdSt → Prop} {As st0 : List Value} (S : CallFix p m c cc nL s args lw_all own) (J : l_J D q r cI cZ A σ τ s H locs) (hM : Met l y ws rm (y_Pc D r cI cZ H.size τ As) (va_Qi post (y_B D r cI cZ) (y_A r H.size)) 0 0 (y_A r H.size)) {na : Nat} (cw : CallW R s args own RX1 idx y bytes maxL ret ws rm 0 0 na) (hna : As.length = na) (hsz : ls.size = nL) (hst : st0 = As.reverse ++ .ref (r 0) :: rest) (hW : (rest.map fun v => v.category).sum ≤ 8) (hdg : decode cc pc = .ok (.invokevirtual idx, 3)) (hcs : cells ≤ R.cells ∧ slots ≤ R.slots)
    (kk : ∀ (v : Int32) (τ1 : wdSt) (H1 : Heap) (locs1 : List Loc), post v τ1 → l_J D q r cI cZ A σ τ1 s H1 locs1 → W p l e R s m args below meth c H1 locs1 cells slots Q (F0 m (pc + 3) ls (.int v :: rest))) : W p l e R s m args below meth c H locs cells slots Q (F0 m pc ls st0) := by
  refine va_calli (va_runV (As := As) (rest := rest) S hM cw (y_preV (l_y J) As) rfl hna hsz hst (lv_room hW) hdg hcs) J.2.2.2.2.2 (fun a _ h => y_sub (l_y J) a h) (y_sub (l_y J)) (fun v u t H1 locs1 ht hvm hw hB hz hk hS => kk v u H1 locs1 hw ⟨J.1, J.2.1, J.2.2.1.kept (fun k x hx => hk x.1 (J.2.2.1 k x hx).lt ?_), by rw [← ht]; exact hB.1, l_Dc _ _ J.2.2.2.2.1, hS⟩)
  intro h
  rcases h with h | h
  · exact wd_ap2 J.2.2.2.2.1 hx h
  · exact absurd (J.2.2.1 k x hx).lt (Nat.not_lt.mpr h)
/-- the script is read -/
theorem l_sld {own : String} {b L : Nat} {xs : Nat → Int32} (S : CallFix p m c cc nL s args lw_all own) (hX : va_X b L xs s s.heap) (hbl : b < s.heap.size) (hbA : ¬ A b) (J : l_J D q r cI cZ A σ τ s H locs) (n : Nat) (hn : n < L) (hL : L ≤ 256) (hdg : decode cc pc = .ok (.iaload, 1)) (kk : W p l e R s m args below meth c H locs cells slots Q (F0 m (pc + 1) ls (.int (xs n) :: rest))) : W p l e R s m args below meth c H locs cells slots Q (F0 m pc ls (.int (nI n) :: .ref b :: rest)) := by
  refine va_sld S.1 S.2.1 hX hbl hbA J.2.2.2.2.2 (vp_in_nI hn (by omega)) hdg ?_
  rw [nI_clamp (by omega)]
  exact kk
end LR
theorem wd_hd {i L : Nat} (hL : L ≤ 256) (hi : i ≤ L + 3) (h : ¬ (nI L - 4 < nI i)) : i + 4 ≤ L := by
  have h1 : nI i ≤ nI L - nI 4 := Int32.not_lt.mp h
  rw [Int32.le_iff_toInt_le, pk_sub_toInt (by omega) (by omega), nI_toInt (by omega)] at h1
  omega
end
section
/-! the law: written by gen/gen_law.py -/
set_option maxRecDepth 100000
theorem lxk_emit {R : Room} {s : State} {args : Array Value} (hts : ∀ w ∈ lw_all, w.before args s = true) (hR : 0 + 1 ≤ R.frames ∧ 8 + (5 + 11) + 0 ≤ R.locals) : CallW R s args R_law RX0 13 yX0_emit cX0_emit 5 (some .int) (ws_ yX0_emit cX0_emit 5 (some .int)) (wdRm 0 0) 0 0 3 := cwV 3 hts (lw_V q107 q108 q109 q22 q110) rfl rfl rfl (by decide +kernel) hR
theorem lyk_emit {R : Room} {s : State} {args : Array Value} (hts : ∀ w ∈ lw_all, w.before args s = true) (hR : 0 + 1 ≤ R.frames ∧ 8 + (4 + 11) + 0 ≤ R.locals) : CallW R s args R_law RX1 17 yX1_emit cX1_emit 4 (some .int) (ws_ yX1_emit cX1_emit 4 (some .int)) (wdRm 0 0) 0 0 3 := cwV 3 hts (lw_V q284 q285 q286 q23 q287) rfl rfl rfl (by decide +kernel) hR
theorem lxk_start {R : Room} {s : State} {args : Array Value} (hts : ∀ w ∈ lw_all, w.before args s = true) (hR : 2 + 1 ≤ R.frames ∧ 8 + (3 + 11) + 44 ≤ R.locals) : CallW R s args R_law RX0 18 yX0_start cX0_start 3 (some .int) (ws_ yX0_start cX0_start 3 (some .int)) (wdRm 2 44) 0 0 1 := cwV 1 hts (lw_V q111 q112 q113 q22 q114) rfl rfl rfl (by decide +kernel) hR
theorem lyk_start {R : Room} {s : State} {args : Array Value} (hts : ∀ w ∈ lw_all, w.before args s = true) (hR : 1 + 1 ≤ R.frames ∧ 8 + (3 + 11) + 21 ≤ R.locals) : CallW R s args R_law RX1 22 yX1_start cX1_start 3 (some .int) (ws_ yX1_start cX1_start 3 (some .int)) (wdRm 1 21) 0 0 1 := cwV 1 hts (lw_V q288 q289 q290 q23 q291) rfl rfl rfl (by decide +kernel) hR
theorem lxk_setBreak {R : Room} {s : State} {args : Array Value} (hts : ∀ w ∈ lw_all, w.before args s = true) (hR : 3 + 1 ≤ R.frames ∧ 8 + (3 + 11) + 65 ≤ R.locals) : CallW R s args R_law RX0 23 yX0_setBreak cX0_setBreak 3 (some .int) (ws_ yX0_setBreak cX0_setBreak 3 (some .int)) (wdRm 3 65) 0 0 2 := cwV 2 hts (lw_V q123 q124 q125 q22 q126) rfl rfl rfl (by decide +kernel) hR
theorem lyk_setBreak {R : Room} {s : State} {args : Array Value} (hts : ∀ w ∈ lw_all, w.before args s = true) (hR : 1 + 1 ≤ R.frames ∧ 8 + (3 + 11) + 22 ≤ R.locals) : CallW R s args R_law RX1 27 yX1_setBreak cX1_setBreak 3 (some .int) (ws_ yX1_setBreak cX1_setBreak 3 (some .int)) (wdRm 1 22) 0 0 2 := cwV 2 hts (lw_V q296 q297 q298 q23 q299) rfl rfl rfl (by decide +kernel) hR
theorem lxk_clearBreak {R : Room} {s : State} {args : Array Value} (hts : ∀ w ∈ lw_all, w.before args s = true) (hR : 3 + 1 ≤ R.frames ∧ 8 + (2 + 11) + 65 ≤ R.locals) : CallW R s args R_law RX0 28 yX0_clearBreak cX0_clearBreak 2 (some .int) (ws_ yX0_clearBreak cX0_clearBreak 2 (some .int)) (wdRm 3 65) 0 0 1 := cwV 1 hts (lw_V q131 q132 q133 q22 q134) rfl rfl rfl (by decide +kernel) hR
theorem lyk_clearBreak {R : Room} {s : State} {args : Array Value} (hts : ∀ w ∈ lw_all, w.before args s = true) (hR : 1 + 1 ≤ R.frames ∧ 8 + (2 + 11) + 22 ≤ R.locals) : CallW R s args R_law RX1 31 yX1_clearBreak cX1_clearBreak 2 (some .int) (ws_ yX1_clearBreak cX1_clearBreak 2 (some .int)) (wdRm 1 22) 0 0 1 := cwV 1 hts (lw_V q304 q305 q306 q23 q307) rfl rfl rfl (by decide +kernel) hR
theorem lxk_resume {R : Room} {s : State} {args : Array Value} (hts : ∀ w ∈ lw_all, w.before args s = true) (hR : 4 + 1 ≤ R.frames ∧ 8 + (3 + 11) + 92 ≤ R.locals) : CallW R s args R_law RX0 32 yX0_resume cX0_resume 3 (some .int) (ws_ yX0_resume cX0_resume 3 (some .int)) (wdRm 4 92) 0 0 1 := cwV 1 hts (lw_V q135 q136 q137 q22 q138) rfl rfl rfl (by decide +kernel) hR
theorem lyk_resume {R : Room} {s : State} {args : Array Value} (hts : ∀ w ∈ lw_all, w.before args s = true) (hR : 3 + 1 ≤ R.frames ∧ 8 + (2 + 11) + 73 ≤ R.locals) : CallW R s args R_law RX1 35 yX1_resume cX1_resume 2 (some .int) (ws_ yX1_resume cX1_resume 2 (some .int)) (wdRm 3 73) 0 0 1 := cwV 1 hts (lw_V q308 q309 q310 q23 q311) rfl rfl rfl (by decide +kernel) hR
theorem lxk_stepInto {R : Room} {s : State} {args : Array Value} (hts : ∀ w ∈ lw_all, w.before args s = true) (hR : 5 + 1 ≤ R.frames ∧ 8 + (1 + 11) + 114 ≤ R.locals) : CallW R s args R_law RX0 36 yX0_stepInto cX0_stepInto 1 (some .int) (ws_ yX0_stepInto cX0_stepInto 1 (some .int)) (wdRm 5 114) 0 0 0 := cwV 0 hts (lw_V q178 q179 q180 q22 q181) rfl rfl rfl (by decide +kernel) hR
theorem lyk_stepInto {R : Room} {s : State} {args : Array Value} (hts : ∀ w ∈ lw_all, w.before args s = true) (hR : 3 + 1 ≤ R.frames ∧ 8 + (1 + 11) + 73 ≤ R.locals) : CallW R s args R_law RX1 40 yX1_stepInto cX1_stepInto 1 (some .int) (ws_ yX1_stepInto cX1_stepInto 1 (some .int)) (wdRm 3 73) 0 0 0 := cwV 0 hts (lw_V q324 q325 q326 q23 q327) rfl rfl rfl (by decide +kernel) hR
theorem lxk_stepOver {R : Room} {s : State} {args : Array Value} (hts : ∀ w ∈ lw_all, w.before args s = true) (hR : 5 + 1 ≤ R.frames ∧ 8 + (3 + 11) + 114 ≤ R.locals) : CallW R s args R_law RX0 41 yX0_stepOver cX0_stepOver 3 (some .int) (ws_ yX0_stepOver cX0_stepOver 3 (some .int)) (wdRm 5 114) 0 0 1 := cwV 1 hts (lw_V q198 q199 q200 q22 q201) rfl rfl rfl (by decide +kernel) hR
theorem lyk_stepOver {R : Room} {s : State} {args : Array Value} (hts : ∀ w ∈ lw_all, w.before args s = true) (hR : 3 + 1 ≤ R.frames ∧ 8 + (2 + 11) + 73 ≤ R.locals) : CallW R s args R_law RX1 44 yX1_stepOver cX1_stepOver 2 (some .int) (ws_ yX1_stepOver cX1_stepOver 2 (some .int)) (wdRm 3 73) 0 0 1 := cwV 1 hts (lw_V q328 q329 q330 q23 q331) rfl rfl rfl (by decide +kernel) hR
theorem lxk_stepOut {R : Room} {s : State} {args : Array Value} (hts : ∀ w ∈ lw_all, w.before args s = true) (hR : 5 + 1 ≤ R.frames ∧ 8 + (3 + 11) + 114 ≤ R.locals) : CallW R s args R_law RX0 45 yX0_stepOut cX0_stepOut 3 (some .int) (ws_ yX0_stepOut cX0_stepOut 3 (some .int)) (wdRm 5 114) 0 0 1 := cwV 1 hts (lw_V q202 q203 q204 q22 q205) rfl rfl rfl (by decide +kernel) hR
theorem lyk_stepOut {R : Room} {s : State} {args : Array Value} (hts : ∀ w ∈ lw_all, w.before args s = true) (hR : 3 + 1 ≤ R.frames ∧ 8 + (2 + 11) + 73 ≤ R.locals) : CallW R s args R_law RX1 48 yX1_stepOut cX1_stepOut 2 (some .int) (ws_ yX1_stepOut cX1_stepOut 2 (some .int)) (wdRm 3 73) 0 0 1 := cwV 1 hts (lw_V q332 q333 q334 q23 q335) rfl rfl rfl (by decide +kernel) hR
theorem lxk_setLocal {R : Room} {s : State} {args : Array Value} (hts : ∀ w ∈ lw_all, w.before args s = true) (hR : 1 + 1 ≤ R.frames ∧ 8 + (3 + 11) + 20 ≤ R.locals) : CallW R s args R_law RX0 49 yX0_setLocal cX0_setLocal 3 (some .int) (ws_ yX0_setLocal cX0_setLocal 3 (some .int)) (wdRm 1 20) 0 0 2 := cwV 2 hts (lw_V q206 q207 q208 q22 q209) rfl rfl rfl (by decide +kernel) hR
theorem lyk_setLocal {R : Room} {s : State} {args : Array Value} (hts : ∀ w ∈ lw_all, w.before args s = true) (hR : 0 + 1 ≤ R.frames ∧ 8 + (3 + 11) + 0 ≤ R.locals) : CallW R s args R_law RX1 52 yX1_setLocal cX1_setLocal 3 (some .int) (ws_ yX1_setLocal cX1_setLocal 3 (some .int)) (wdRm 0 0) 0 0 2 := cwV 2 hts (lw_V q336 q337 q338 q23 q339) rfl rfl rfl (by decide +kernel) hR
theorem lxk_state {R : Room} {s : State} {args : Array Value} (hts : ∀ w ∈ lw_all, w.before args s = true) (hR : 0 + 1 ≤ R.frames ∧ 8 + (1 + 11) + 0 ≤ R.locals) : CallW R s args R_law RX0 53 yX0_state cX0_state 1 (some .int) (ws_ yX0_state cX0_state 1 (some .int)) (wdRm 0 0) 0 0 0 := cwV 0 hts (lw_V q210 q211 q212 q22 q213) rfl rfl rfl (by decide +kernel) hR
theorem lyk_state {R : Room} {s : State} {args : Array Value} (hts : ∀ w ∈ lw_all, w.before args s = true) (hR : 0 + 1 ≤ R.frames ∧ 8 + (1 + 11) + 0 ≤ R.locals) : CallW R s args R_law RX1 56 yX1_state cX1_state 1 (some .int) (ws_ yX1_state cX1_state 1 (some .int)) (wdRm 0 0) 0 0 0 := cwV 0 hts (lw_V q340 q341 q342 q23 q343) rfl rfl rfl (by decide +kernel) hR
theorem lxk_depth {R : Room} {s : State} {args : Array Value} (hts : ∀ w ∈ lw_all, w.before args s = true) (hR : 0 + 1 ≤ R.frames ∧ 8 + (1 + 11) + 0 ≤ R.locals) : CallW R s args R_law RX0 57 yX0_depth cX0_depth 1 (some .int) (ws_ yX0_depth cX0_depth 1 (some .int)) (wdRm 0 0) 0 0 0 := cwV 0 hts (lw_V q214 q215 q216 q22 q217) rfl rfl rfl (by decide +kernel) hR
theorem lyk_depth {R : Room} {s : State} {args : Array Value} (hts : ∀ w ∈ lw_all, w.before args s = true) (hR : 0 + 1 ≤ R.frames ∧ 8 + (1 + 11) + 0 ≤ R.locals) : CallW R s args R_law RX1 60 yX1_depth cX1_depth 1 (some .int) (ws_ yX1_depth cX1_depth 1 (some .int)) (wdRm 0 0) 0 0 0 := cwV 0 hts (lw_V q344 q345 q346 q23 q347) rfl rfl rfl (by decide +kernel) hR
theorem lxk_counter {R : Room} {s : State} {args : Array Value} (hts : ∀ w ∈ lw_all, w.before args s = true) (hR : 0 + 1 ≤ R.frames ∧ 8 + (2 + 11) + 0 ≤ R.locals) : CallW R s args R_law RX0 61 yX0_counter cX0_counter 2 (some .int) (ws_ yX0_counter cX0_counter 2 (some .int)) (wdRm 0 0) 0 0 1 := cwV 1 hts (lw_V q218 q219 q220 q22 q221) rfl rfl rfl (by decide +kernel) hR
theorem lyk_counter {R : Room} {s : State} {args : Array Value} (hts : ∀ w ∈ lw_all, w.before args s = true) (hR : 0 + 1 ≤ R.frames ∧ 8 + (2 + 11) + 0 ≤ R.locals) : CallW R s args R_law RX1 64 yX1_counter cX1_counter 2 (some .int) (ws_ yX1_counter cX1_counter 2 (some .int)) (wdRm 0 0) 0 0 1 := cwV 1 hts (lw_V q348 q349 q350 q23 q351) rfl rfl rfl (by decide +kernel) hR
theorem lxk_local {R : Room} {s : State} {args : Array Value} (hts : ∀ w ∈ lw_all, w.before args s = true) (hR : 0 + 1 ≤ R.frames ∧ 8 + (3 + 11) + 0 ≤ R.locals) : CallW R s args R_law RX0 65 yX0_local cX0_local 3 (some .int) (ws_ yX0_local cX0_local 3 (some .int)) (wdRm 0 0) 0 0 2 := cwV 2 hts (lw_V q222 q223 q224 q22 q225) rfl rfl rfl (by decide +kernel) hR
theorem lyk_local {R : Room} {s : State} {args : Array Value} (hts : ∀ w ∈ lw_all, w.before args s = true) (hR : 0 + 1 ≤ R.frames ∧ 8 + (3 + 11) + 0 ≤ R.locals) : CallW R s args R_law RX1 68 yX1_local cX1_local 3 (some .int) (ws_ yX1_local cX1_local 3 (some .int)) (wdRm 0 0) 0 0 2 := cwV 2 hts (lw_V q352 q353 q354 q23 q355) rfl rfl rfl (by decide +kernel) hR
theorem lxk_outputs {R : Room} {s : State} {args : Array Value} (hts : ∀ w ∈ lw_all, w.before args s = true) (hR : 0 + 1 ≤ R.frames ∧ 8 + (1 + 11) + 0 ≤ R.locals) : CallW R s args R_law RX0 69 yX0_outputs cX0_outputs 1 (some .int) (ws_ yX0_outputs cX0_outputs 1 (some .int)) (wdRm 0 0) 0 0 0 := cwV 0 hts (lw_V q226 q227 q228 q22 q229) rfl rfl rfl (by decide +kernel) hR
theorem lyk_outputs {R : Room} {s : State} {args : Array Value} (hts : ∀ w ∈ lw_all, w.before args s = true) (hR : 0 + 1 ≤ R.frames ∧ 8 + (1 + 11) + 0 ≤ R.locals) : CallW R s args R_law RX1 72 yX1_outputs cX1_outputs 1 (some .int) (ws_ yX1_outputs cX1_outputs 1 (some .int)) (wdRm 0 0) 0 0 0 := cwV 0 hts (lw_V q356 q357 q358 q23 q359) rfl rfl rfl (by decide +kernel) hR
theorem lxk_output {R : Room} {s : State} {args : Array Value} (hts : ∀ w ∈ lw_all, w.before args s = true) (hR : 0 + 1 ≤ R.frames ∧ 8 + (2 + 11) + 0 ≤ R.locals) : CallW R s args R_law RX0 73 yX0_output cX0_output 2 (some .int) (ws_ yX0_output cX0_output 2 (some .int)) (wdRm 0 0) 0 0 1 := cwV 1 hts (lw_V q230 q231 q232 q22 q233) rfl rfl rfl (by decide +kernel) hR
theorem lyk_output {R : Room} {s : State} {args : Array Value} (hts : ∀ w ∈ lw_all, w.before args s = true) (hR : 0 + 1 ≤ R.frames ∧ 8 + (2 + 11) + 0 ≤ R.locals) : CallW R s args R_law RX1 76 yX1_output cX1_output 2 (some .int) (ws_ yX1_output cX1_output 2 (some .int)) (wdRm 0 0) 0 0 1 := cwV 1 hts (lw_V q360 q361 q362 q23 q363) rfl rfl rfl (by decide +kernel) hR
theorem lxk_skip {R : Room} {s : State} {args : Array Value} (hts : ∀ w ∈ lw_all, w.before args s = true) (hR : 1 + 1 ≤ R.frames ∧ 8 + (2 + 11) + 21 ≤ R.locals) : CallW R s args R_law RX0 77 yX0_skip cX0_skip 2 (some .int) (ws_ yX0_skip cX0_skip 2 (some .int)) (wdRm 1 21) 0 0 1 := cwV 1 hts (lw_V q234 q235 q236 q22 q237) rfl rfl rfl (by decide +kernel) hR
theorem lyk_skip {R : Room} {s : State} {args : Array Value} (hts : ∀ w ∈ lw_all, w.before args s = true) (hR : 1 + 1 ≤ R.frames ∧ 8 + (2 + 11) + 21 ≤ R.locals) : CallW R s args R_law RX1 80 yX1_skip cX1_skip 2 (some .int) (ws_ yX1_skip cX1_skip 2 (some .int)) (wdRm 1 21) 0 0 1 := cwV 1 hts (lw_V q364 q365 q366 q23 q367) rfl rfl rfl (by decide +kernel) hR
set_option maxHeartbeats 4000000 in
set_option maxRecDepth 100000 in
/-- the law's loop at its head: i ints read, the two sides tied -/
theorem law_loop {p : Program} {e : Env} {s : State} {m : MethodId} {below : List Frame} {meth : Method} {c : Code} (l : Launch) {b L : Nat} {xs : Nat → Int32} (hL : L ≤ 256) (C0 : lw_At p s m meth c b L xs) {D : va_G} {q r : Nat → Nat} {cI cZ : ClassId} : ∀ (n i : Nat) (σ τ : wdSt), i ≤ L + 3 → L + 4 ≤ i + n → wdRR σ τ → ∀ (H : Heap) (locs : List Loc) (ls : Array Slot), l_J D q r cI cZ (fun z : Nat => s.heap.size ≤ z) σ τ s H locs → lv_has ls 4 [(0, .ref b), (1, .ref (q 0)), (2, .ref (r 0)), (3, .int (nI i))] → W p l e room_1 s m #[Value.ref b] below meth c H locs 25 511 (lw_Z below #[Value.ref b] s) (F0 m 18 ls []) := by
  obtain ⟨hx, hb, hr, hml, hown, hts0, hX, hbl, hlk, hgv⟩ := id C0
  have hts : ∀ w ∈ lw_all, w.before #[Value.ref b] s = true := fun w h => hts0 w (lw_all_tbl h)
  have S : CallFix p m c cL_law 4 s #[Value.ref b] lw_all R_law := ⟨hx, hb, hml, hown, hts⟩
  have hbA : ¬ (fun z : Nat => s.heap.size ≤ z) b := Nat.not_le.mpr hbl
  intro n
  induction n with
  | zero =>
    intro i σ τ h1 h2
    exact absurd h2 (by omega)
  | succ n ih =>
    intro i σ τ hi hin hRR H locs ls J hl
    obtain ⟨Lp, d, hR⟩ := hRR
    refine lv_iload_n hx hb dL_law_18 rfl (lv_at hl 3 rfl) ?_
    refine lv_aload_n hx hb dL_law_19 rfl (lv_at hl 0 rfl) ?_
    refine va_slen hx hb hX hbl hbA J.2.2.2.2.2 dL_law_20 ?_
    refine lv_iconst (v := 4) hx hb dL_law_21 ci_4 ?_
    refine lv_isub hx hb dL_law_22 ?_
    refine lv_icmp_gt (tgt := 496) hx hb dL_law_23 (by decide) (fun c_23 => ?_) (fun c_23 => ?_)
    · refine lv_iconst (v := 1) hx hb dL_law_496 ci_1 ?_
      refine va_forget (fun z hz => J.2.2.2.2.2.2.2 z hz) ?_
      refine W.widen (k := 600000) (n := 7290000) (Nat.le_of_ble_eq_true rfl) (Nat.le_of_ble_eq_true rfl) ?_
      exact lw_ret hx hb hr hlk dL_law_497
    · have hi4 : i + 4 ≤ L := wd_hd hL hi c_23
      refine lv_aload_n hx hb dL_law_26 rfl (lv_at hl 0 rfl) ?_
      refine lv_iload_n hx hb dL_law_27 rfl (lv_at hl 3 rfl) ?_
      refine l_sld S hX hbl hbA J i (by omega) hL dL_law_28 ?_
      refine lv_bipush (v := 15) hx hb dL_law_29 cb_15 ?_
      refine lv_iand hx hb dL_law_31 ?_
      obtain ⟨j, hj, ej⟩ := pk_andE (xs i) (m := 15) 4 (by decide)
      refine wd_top (nI j) ej ?_
      rcases (show j = 0 ∨ j = 1 ∨ j = 2 ∨ j = 3 ∨ j = 4 ∨ j = 5 ∨ j = 6 ∨ j = 7 ∨ j = 8 ∨ j = 9 ∨ j = 10 ∨ j = 11 ∨ j = 12 ∨ j = 13 ∨ j = 14 ∨ j = 15 by omega) with rfl | rfl | rfl | rfl | rfl | rfl | rfl | rfl | rfl | rfl | rfl | rfl | rfl | rfl | rfl | rfl
      · refine lv_tableIn (off := 80) (tgt := 112) hx hb dL_law_32 (by decide) (by decide) (by decide) (by decide) ?_
        refine lv_aload_n hx hb dL_law_112 rfl (lv_at hl 1 rfl) ?_
        refine lv_aload_n hx hb dL_law_113 rfl (lv_at hl 0 rfl) ?_
        refine lv_iload_n hx hb dL_law_114 rfl (lv_at hl 3 rfl) ?_
        refine lv_iconst (v := 1) hx hb dL_law_115 ci_1 ?_
        refine lv_iadd hx hb dL_law_116 ?_
        refine wd_top (nI (i + 1)) (nI_1 _) ?_
        refine l_sld S hX hbl hbA J (i + 1) (by omega) hL dL_law_117 ?_
        refine lv_aload_n hx hb dL_law_118 rfl (lv_at hl 0 rfl) ?_
        refine lv_iload_n hx hb dL_law_119 rfl (lv_at hl 3 rfl) ?_
        refine lv_iconst (v := 2) hx hb dL_law_120 ci_2 ?_
        refine lv_iadd hx hb dL_law_121 ?_
        refine wd_top (nI (i + 2)) (nI_add _ 2) ?_
        refine l_sld S hX hbl hbA J (i + 2) (by omega) hL dL_law_122 ?_
        refine lv_aload_n hx hb dL_law_123 rfl (lv_at hl 0 rfl) ?_
        refine lv_iload_n hx hb dL_law_124 rfl (lv_at hl 3 rfl) ?_
        refine lv_iconst (v := 3) hx hb dL_law_125 ci_3 ?_
        refine lv_iadd hx hb dL_law_126 ?_
        refine wd_top (nI (i + 3)) (nI_add _ 3) ?_
        refine l_sld S hX hbl hbA J (i + 3) (by omega) hL dL_law_127 ?_
        refine l_cx S J (xc_emit l D q cI cZ _ σ Lp hR.1.1.1 hR.1.1.2.2 (xs (i + 1)) (xs (i + 2)) (xs (i + 3))) (lxk_emit S.2.2.2.2 ⟨Nat.le_of_ble_eq_true rfl, Nat.le_of_ble_eq_true rfl⟩) rfl hl.1 rfl (Nat.le_of_ble_eq_true rfl) dL_law_128 ⟨Nat.le_of_ble_eq_true rfl, Nat.le_of_ble_eq_true rfl⟩ (fun v1 σ1 H locs w1 J => ?_)
        refine lv_aload_n hx hb dL_law_131 rfl (lv_at hl 2 rfl) ?_
        refine lv_aload_n hx hb dL_law_132 rfl (lv_at hl 0 rfl) ?_
        refine lv_iload_n hx hb dL_law_133 rfl (lv_at hl 3 rfl) ?_
        refine lv_iconst (v := 1) hx hb dL_law_134 ci_1 ?_
        refine lv_iadd hx hb dL_law_135 ?_
        refine wd_top (nI (i + 1)) (nI_1 _) ?_
        refine l_sld S hX hbl hbA J (i + 1) (by omega) hL dL_law_136 ?_
        refine lv_aload_n hx hb dL_law_137 rfl (lv_at hl 0 rfl) ?_
        refine lv_iload_n hx hb dL_law_138 rfl (lv_at hl 3 rfl) ?_
        refine lv_iconst (v := 2) hx hb dL_law_139 ci_2 ?_
        refine lv_iadd hx hb dL_law_140 ?_
        refine wd_top (nI (i + 2)) (nI_add _ 2) ?_
        refine l_sld S hX hbl hbA J (i + 2) (by omega) hL dL_law_141 ?_
        refine lv_aload_n hx hb dL_law_142 rfl (lv_at hl 0 rfl) ?_
        refine lv_iload_n hx hb dL_law_143 rfl (lv_at hl 3 rfl) ?_
        refine lv_iconst (v := 3) hx hb dL_law_144 ci_3 ?_
        refine lv_iadd hx hb dL_law_145 ?_
        refine wd_top (nI (i + 3)) (nI_add _ 3) ?_
        refine l_sld S hX hbl hbA J (i + 3) (by omega) hL dL_law_146 ?_
        refine l_cy S J (yc_emit l D r cI cZ _ τ Lp hR.1.1.2.1 hR.1.1.2.2 (xs (i + 1)) (xs (i + 2)) (xs (i + 3))) (lyk_emit S.2.2.2.2 ⟨Nat.le_of_ble_eq_true rfl, Nat.le_of_ble_eq_true rfl⟩) rfl hl.1 rfl (Nat.le_of_ble_eq_true rfl) dL_law_147 ⟨Nat.le_of_ble_eq_true rfl, Nat.le_of_ble_eq_true rfl⟩ (fun v2 τ1 H locs w2 J => ?_)
        obtain ⟨ej, hRR⟩ := jn_emit hR w1 w2
        refine lv_icmp_eq (tgt := 490) hx hb dL_law_150 (by decide) (fun c_150 => ?_) (fun c_150 => absurd ej c_150)
        refine lv_iinc (v := nI (i + 4)) (lv' := [(3, .int (nI (i + 4))), (0, .ref b), (1, .ref (q 0)), (2, .ref (r 0))]) hx hb dL_law_490 hl (k := 3) rfl (nI_add i 4) (by decide) rfl (fun ls hl => ?_)
        refine lv_goto (tgt := 18) hx hb dL_law_493 (by decide) ?_
        exact ih (i + 4) σ1 τ1 (by omega) (by omega) hRR _ _ _ J (lv_sub hl [1, 2, 3, 0] rfl)
      · refine lv_tableIn (off := 123) (tgt := 155) hx hb dL_law_32 (by decide) (by decide) (by decide) (by decide) ?_
        refine lv_aload_n hx hb dL_law_155 rfl (lv_at hl 1 rfl) ?_
        refine lv_aload_n hx hb dL_law_156 rfl (lv_at hl 0 rfl) ?_
        refine lv_iload_n hx hb dL_law_157 rfl (lv_at hl 3 rfl) ?_
        refine lv_iconst (v := 1) hx hb dL_law_158 ci_1 ?_
        refine lv_iadd hx hb dL_law_159 ?_
        refine wd_top (nI (i + 1)) (nI_1 _) ?_
        refine l_sld S hX hbl hbA J (i + 1) (by omega) hL dL_law_160 ?_
        refine l_cx S J (xc_start l D q cI cZ _ σ Lp d τ hR (xs (i + 1))) (lxk_start S.2.2.2.2 ⟨Nat.le_of_ble_eq_true rfl, Nat.le_of_ble_eq_true rfl⟩) rfl hl.1 rfl (Nat.le_of_ble_eq_true rfl) dL_law_161 ⟨Nat.le_of_ble_eq_true rfl, Nat.le_of_ble_eq_true rfl⟩ (fun v1 σ1 H locs w1 J => ?_)
        refine lv_aload_n hx hb dL_law_164 rfl (lv_at hl 2 rfl) ?_
        refine lv_aload_n hx hb dL_law_165 rfl (lv_at hl 0 rfl) ?_
        refine lv_iload_n hx hb dL_law_166 rfl (lv_at hl 3 rfl) ?_
        refine lv_iconst (v := 1) hx hb dL_law_167 ci_1 ?_
        refine lv_iadd hx hb dL_law_168 ?_
        refine wd_top (nI (i + 1)) (nI_1 _) ?_
        refine l_sld S hX hbl hbA J (i + 1) (by omega) hL dL_law_169 ?_
        refine l_cy S J (yc_start l D r cI cZ _ τ Lp hR.1.1.2.1 hR.1.1.2.2 (xs (i + 1))) (lyk_start S.2.2.2.2 ⟨Nat.le_of_ble_eq_true rfl, Nat.le_of_ble_eq_true rfl⟩) rfl hl.1 rfl (Nat.le_of_ble_eq_true rfl) dL_law_170 ⟨Nat.le_of_ble_eq_true rfl, Nat.le_of_ble_eq_true rfl⟩ (fun v2 τ1 H locs w2 J => ?_)
        obtain ⟨ej, hRR⟩ := jn_pair w1 w2
        refine lv_icmp_eq (tgt := 490) hx hb dL_law_173 (by decide) (fun c_173 => ?_) (fun c_173 => absurd ej c_173)
        refine lv_iinc (v := nI (i + 4)) (lv' := [(3, .int (nI (i + 4))), (0, .ref b), (1, .ref (q 0)), (2, .ref (r 0))]) hx hb dL_law_490 hl (k := 3) rfl (nI_add i 4) (by decide) rfl (fun ls hl => ?_)
        refine lv_goto (tgt := 18) hx hb dL_law_493 (by decide) ?_
        exact ih (i + 4) σ1 τ1 (by omega) (by omega) hRR _ _ _ J (lv_sub hl [1, 2, 3, 0] rfl)
      · refine lv_tableIn (off := 146) (tgt := 178) hx hb dL_law_32 (by decide) (by decide) (by decide) (by decide) ?_
        refine lv_aload_n hx hb dL_law_178 rfl (lv_at hl 1 rfl) ?_
        refine lv_aload_n hx hb dL_law_179 rfl (lv_at hl 0 rfl) ?_
        refine lv_iload_n hx hb dL_law_180 rfl (lv_at hl 3 rfl) ?_
        refine lv_iconst (v := 1) hx hb dL_law_181 ci_1 ?_
        refine lv_iadd hx hb dL_law_182 ?_
        refine wd_top (nI (i + 1)) (nI_1 _) ?_
        refine l_sld S hX hbl hbA J (i + 1) (by omega) hL dL_law_183 ?_
        refine lv_aload_n hx hb dL_law_184 rfl (lv_at hl 0 rfl) ?_
        refine lv_iload_n hx hb dL_law_185 rfl (lv_at hl 3 rfl) ?_
        refine lv_iconst (v := 2) hx hb dL_law_186 ci_2 ?_
        refine lv_iadd hx hb dL_law_187 ?_
        refine wd_top (nI (i + 2)) (nI_add _ 2) ?_
        refine l_sld S hX hbl hbA J (i + 2) (by omega) hL dL_law_188 ?_
        refine l_cx S J (xc_setBreak l D q cI cZ _ σ Lp d τ hR (xs (i + 1)) (xs (i + 2))) (lxk_setBreak S.2.2.2.2 ⟨Nat.le_of_ble_eq_true rfl, Nat.le_of_ble_eq_true rfl⟩) rfl hl.1 rfl (Nat.le_of_ble_eq_true rfl) dL_law_189 ⟨Nat.le_of_ble_eq_true rfl, Nat.le_of_ble_eq_true rfl⟩ (fun v1 σ1 H locs w1 J => ?_)
        refine lv_aload_n hx hb dL_law_192 rfl (lv_at hl 2 rfl) ?_
        refine lv_aload_n hx hb dL_law_193 rfl (lv_at hl 0 rfl) ?_
        refine lv_iload_n hx hb dL_law_194 rfl (lv_at hl 3 rfl) ?_
        refine lv_iconst (v := 1) hx hb dL_law_195 ci_1 ?_
        refine lv_iadd hx hb dL_law_196 ?_
        refine wd_top (nI (i + 1)) (nI_1 _) ?_
        refine l_sld S hX hbl hbA J (i + 1) (by omega) hL dL_law_197 ?_
        refine lv_aload_n hx hb dL_law_198 rfl (lv_at hl 0 rfl) ?_
        refine lv_iload_n hx hb dL_law_199 rfl (lv_at hl 3 rfl) ?_
        refine lv_iconst (v := 2) hx hb dL_law_200 ci_2 ?_
        refine lv_iadd hx hb dL_law_201 ?_
        refine wd_top (nI (i + 2)) (nI_add _ 2) ?_
        refine l_sld S hX hbl hbA J (i + 2) (by omega) hL dL_law_202 ?_
        refine l_cy S J (yc_setBreak l D r cI cZ _ τ Lp hR.1.1.2.1 hR.1.1.2.2 (xs (i + 1)) (xs (i + 2))) (lyk_setBreak S.2.2.2.2 ⟨Nat.le_of_ble_eq_true rfl, Nat.le_of_ble_eq_true rfl⟩) rfl hl.1 rfl (Nat.le_of_ble_eq_true rfl) dL_law_203 ⟨Nat.le_of_ble_eq_true rfl, Nat.le_of_ble_eq_true rfl⟩ (fun v2 τ1 H locs w2 J => ?_)
        obtain ⟨ej, hRR⟩ := jn_pair w1 w2
        refine lv_icmp_eq (tgt := 490) hx hb dL_law_206 (by decide) (fun c_206 => ?_) (fun c_206 => absurd ej c_206)
        refine lv_iinc (v := nI (i + 4)) (lv' := [(3, .int (nI (i + 4))), (0, .ref b), (1, .ref (q 0)), (2, .ref (r 0))]) hx hb dL_law_490 hl (k := 3) rfl (nI_add i 4) (by decide) rfl (fun ls hl => ?_)
        refine lv_goto (tgt := 18) hx hb dL_law_493 (by decide) ?_
        exact ih (i + 4) σ1 τ1 (by omega) (by omega) hRR _ _ _ J (lv_sub hl [1, 2, 3, 0] rfl)
      · refine lv_tableIn (off := 179) (tgt := 211) hx hb dL_law_32 (by decide) (by decide) (by decide) (by decide) ?_
        refine lv_aload_n hx hb dL_law_211 rfl (lv_at hl 1 rfl) ?_
        refine lv_aload_n hx hb dL_law_212 rfl (lv_at hl 0 rfl) ?_
        refine lv_iload_n hx hb dL_law_213 rfl (lv_at hl 3 rfl) ?_
        refine lv_iconst (v := 1) hx hb dL_law_214 ci_1 ?_
        refine lv_iadd hx hb dL_law_215 ?_
        refine wd_top (nI (i + 1)) (nI_1 _) ?_
        refine l_sld S hX hbl hbA J (i + 1) (by omega) hL dL_law_216 ?_
        refine l_cx S J (xc_clearBreak l D q cI cZ _ σ Lp d τ hR (xs (i + 1))) (lxk_clearBreak S.2.2.2.2 ⟨Nat.le_of_ble_eq_true rfl, Nat.le_of_ble_eq_true rfl⟩) rfl hl.1 rfl (Nat.le_of_ble_eq_true rfl) dL_law_217 ⟨Nat.le_of_ble_eq_true rfl, Nat.le_of_ble_eq_true rfl⟩ (fun v1 σ1 H locs w1 J => ?_)
        refine lv_aload_n hx hb dL_law_220 rfl (lv_at hl 2 rfl) ?_
        refine lv_aload_n hx hb dL_law_221 rfl (lv_at hl 0 rfl) ?_
        refine lv_iload_n hx hb dL_law_222 rfl (lv_at hl 3 rfl) ?_
        refine lv_iconst (v := 1) hx hb dL_law_223 ci_1 ?_
        refine lv_iadd hx hb dL_law_224 ?_
        refine wd_top (nI (i + 1)) (nI_1 _) ?_
        refine l_sld S hX hbl hbA J (i + 1) (by omega) hL dL_law_225 ?_
        refine l_cy S J (yc_clearBreak l D r cI cZ _ τ Lp hR.1.1.2.1 hR.1.1.2.2 (xs (i + 1))) (lyk_clearBreak S.2.2.2.2 ⟨Nat.le_of_ble_eq_true rfl, Nat.le_of_ble_eq_true rfl⟩) rfl hl.1 rfl (Nat.le_of_ble_eq_true rfl) dL_law_226 ⟨Nat.le_of_ble_eq_true rfl, Nat.le_of_ble_eq_true rfl⟩ (fun v2 τ1 H locs w2 J => ?_)
        obtain ⟨ej, hRR⟩ := jn_pair w1 w2
        refine lv_icmp_eq (tgt := 490) hx hb dL_law_229 (by decide) (fun c_229 => ?_) (fun c_229 => absurd ej c_229)
        refine lv_iinc (v := nI (i + 4)) (lv' := [(3, .int (nI (i + 4))), (0, .ref b), (1, .ref (q 0)), (2, .ref (r 0))]) hx hb dL_law_490 hl (k := 3) rfl (nI_add i 4) (by decide) rfl (fun ls hl => ?_)
        refine lv_goto (tgt := 18) hx hb dL_law_493 (by decide) ?_
        exact ih (i + 4) σ1 τ1 (by omega) (by omega) hRR _ _ _ J (lv_sub hl [1, 2, 3, 0] rfl)
      · refine lv_tableIn (off := 202) (tgt := 234) hx hb dL_law_32 (by decide) (by decide) (by decide) (by decide) ?_
        refine lv_aload_n hx hb dL_law_234 rfl (lv_at hl 1 rfl) ?_
        refine lv_aload_n hx hb dL_law_235 rfl (lv_at hl 0 rfl) ?_
        refine lv_iload_n hx hb dL_law_236 rfl (lv_at hl 3 rfl) ?_
        refine lv_iconst (v := 1) hx hb dL_law_237 ci_1 ?_
        refine lv_iadd hx hb dL_law_238 ?_
        refine wd_top (nI (i + 1)) (nI_1 _) ?_
        refine l_sld S hX hbl hbA J (i + 1) (by omega) hL dL_law_239 ?_
        refine l_cx S J (xc_resume l D q cI cZ _ σ Lp d τ hR (xs (i + 1))) (lxk_resume S.2.2.2.2 ⟨Nat.le_of_ble_eq_true rfl, Nat.le_of_ble_eq_true rfl⟩) rfl hl.1 rfl (Nat.le_of_ble_eq_true rfl) dL_law_240 ⟨Nat.le_of_ble_eq_true rfl, Nat.le_of_ble_eq_true rfl⟩ (fun v1 σ1 H locs w1 J => ?_)
        refine lv_aload_n hx hb dL_law_243 rfl (lv_at hl 2 rfl) ?_
        refine lv_aload_n hx hb dL_law_244 rfl (lv_at hl 0 rfl) ?_
        refine lv_iload_n hx hb dL_law_245 rfl (lv_at hl 3 rfl) ?_
        refine lv_iconst (v := 1) hx hb dL_law_246 ci_1 ?_
        refine lv_iadd hx hb dL_law_247 ?_
        refine wd_top (nI (i + 1)) (nI_1 _) ?_
        refine l_sld S hX hbl hbA J (i + 1) (by omega) hL dL_law_248 ?_
        refine l_cy S J (yc_resume l D r cI cZ _ τ Lp hR.1.1.2.1 hR.1.1.2.2 (wdR_yI hR) (xs (i + 1))) (lyk_resume S.2.2.2.2 ⟨Nat.le_of_ble_eq_true rfl, Nat.le_of_ble_eq_true rfl⟩) rfl hl.1 rfl (Nat.le_of_ble_eq_true rfl) dL_law_249 ⟨Nat.le_of_ble_eq_true rfl, Nat.le_of_ble_eq_true rfl⟩ (fun v2 τ1 H locs w2 J => ?_)
        obtain ⟨ej, hRR⟩ := jn_pair w1 w2
        refine lv_icmp_eq (tgt := 490) hx hb dL_law_252 (by decide) (fun c_252 => ?_) (fun c_252 => absurd ej c_252)
        refine lv_iinc (v := nI (i + 4)) (lv' := [(3, .int (nI (i + 4))), (0, .ref b), (1, .ref (q 0)), (2, .ref (r 0))]) hx hb dL_law_490 hl (k := 3) rfl (nI_add i 4) (by decide) rfl (fun ls hl => ?_)
        refine lv_goto (tgt := 18) hx hb dL_law_493 (by decide) ?_
        exact ih (i + 4) σ1 τ1 (by omega) (by omega) hRR _ _ _ J (lv_sub hl [1, 2, 3, 0] rfl)
      · refine lv_tableIn (off := 225) (tgt := 257) hx hb dL_law_32 (by decide) (by decide) (by decide) (by decide) ?_
        refine lv_aload_n hx hb dL_law_257 rfl (lv_at hl 1 rfl) ?_
        refine l_cx S J (xc_stepInto l D q cI cZ _ σ Lp d τ hR) (lxk_stepInto S.2.2.2.2 ⟨Nat.le_of_ble_eq_true rfl, Nat.le_of_ble_eq_true rfl⟩) rfl hl.1 rfl (Nat.le_of_ble_eq_true rfl) dL_law_258 ⟨Nat.le_of_ble_eq_true rfl, Nat.le_of_ble_eq_true rfl⟩ (fun v1 σ1 H locs w1 J => ?_)
        refine lv_aload_n hx hb dL_law_261 rfl (lv_at hl 2 rfl) ?_
        refine l_cy S J (yc_stepInto l D r cI cZ _ τ Lp hR.1.1.2.1 hR.1.1.2.2 (wdR_yI hR)) (lyk_stepInto S.2.2.2.2 ⟨Nat.le_of_ble_eq_true rfl, Nat.le_of_ble_eq_true rfl⟩) rfl hl.1 rfl (Nat.le_of_ble_eq_true rfl) dL_law_262 ⟨Nat.le_of_ble_eq_true rfl, Nat.le_of_ble_eq_true rfl⟩ (fun v2 τ1 H locs w2 J => ?_)
        obtain ⟨ej, hRR⟩ := jn_pair w1 w2
        refine lv_icmp_eq (tgt := 490) hx hb dL_law_265 (by decide) (fun c_265 => ?_) (fun c_265 => absurd ej c_265)
        refine lv_iinc (v := nI (i + 4)) (lv' := [(3, .int (nI (i + 4))), (0, .ref b), (1, .ref (q 0)), (2, .ref (r 0))]) hx hb dL_law_490 hl (k := 3) rfl (nI_add i 4) (by decide) rfl (fun ls hl => ?_)
        refine lv_goto (tgt := 18) hx hb dL_law_493 (by decide) ?_
        exact ih (i + 4) σ1 τ1 (by omega) (by omega) hRR _ _ _ J (lv_sub hl [1, 2, 3, 0] rfl)
      · refine lv_tableIn (off := 238) (tgt := 270) hx hb dL_law_32 (by decide) (by decide) (by decide) (by decide) ?_
        refine lv_aload_n hx hb dL_law_270 rfl (lv_at hl 1 rfl) ?_
        refine lv_aload_n hx hb dL_law_271 rfl (lv_at hl 0 rfl) ?_
        refine lv_iload_n hx hb dL_law_272 rfl (lv_at hl 3 rfl) ?_
        refine lv_iconst (v := 1) hx hb dL_law_273 ci_1 ?_
        refine lv_iadd hx hb dL_law_274 ?_
        refine wd_top (nI (i + 1)) (nI_1 _) ?_
        refine l_sld S hX hbl hbA J (i + 1) (by omega) hL dL_law_275 ?_
        refine l_cx S J (xc_stepOver l D q cI cZ _ σ Lp d τ hR (xs (i + 1))) (lxk_stepOver S.2.2.2.2 ⟨Nat.le_of_ble_eq_true rfl, Nat.le_of_ble_eq_true rfl⟩) rfl hl.1 rfl (Nat.le_of_ble_eq_true rfl) dL_law_276 ⟨Nat.le_of_ble_eq_true rfl, Nat.le_of_ble_eq_true rfl⟩ (fun v1 σ1 H locs w1 J => ?_)
        refine lv_aload_n hx hb dL_law_279 rfl (lv_at hl 2 rfl) ?_
        refine lv_aload_n hx hb dL_law_280 rfl (lv_at hl 0 rfl) ?_
        refine lv_iload_n hx hb dL_law_281 rfl (lv_at hl 3 rfl) ?_
        refine lv_iconst (v := 1) hx hb dL_law_282 ci_1 ?_
        refine lv_iadd hx hb dL_law_283 ?_
        refine wd_top (nI (i + 1)) (nI_1 _) ?_
        refine l_sld S hX hbl hbA J (i + 1) (by omega) hL dL_law_284 ?_
        refine l_cy S J (yc_stepOver l D r cI cZ _ τ Lp hR.1.1.2.1 hR.1.1.2.2 (wdR_yI hR) (xs (i + 1))) (lyk_stepOver S.2.2.2.2 ⟨Nat.le_of_ble_eq_true rfl, Nat.le_of_ble_eq_true rfl⟩) rfl hl.1 rfl (Nat.le_of_ble_eq_true rfl) dL_law_285 ⟨Nat.le_of_ble_eq_true rfl, Nat.le_of_ble_eq_true rfl⟩ (fun v2 τ1 H locs w2 J => ?_)
        obtain ⟨ej, hRR⟩ := jn_pair w1 w2
        refine lv_icmp_eq (tgt := 490) hx hb dL_law_288 (by decide) (fun c_288 => ?_) (fun c_288 => absurd ej c_288)
        refine lv_iinc (v := nI (i + 4)) (lv' := [(3, .int (nI (i + 4))), (0, .ref b), (1, .ref (q 0)), (2, .ref (r 0))]) hx hb dL_law_490 hl (k := 3) rfl (nI_add i 4) (by decide) rfl (fun ls hl => ?_)
        refine lv_goto (tgt := 18) hx hb dL_law_493 (by decide) ?_
        exact ih (i + 4) σ1 τ1 (by omega) (by omega) hRR _ _ _ J (lv_sub hl [1, 2, 3, 0] rfl)
      · refine lv_tableIn (off := 261) (tgt := 293) hx hb dL_law_32 (by decide) (by decide) (by decide) (by decide) ?_
        refine lv_aload_n hx hb dL_law_293 rfl (lv_at hl 1 rfl) ?_
        refine lv_aload_n hx hb dL_law_294 rfl (lv_at hl 0 rfl) ?_
        refine lv_iload_n hx hb dL_law_295 rfl (lv_at hl 3 rfl) ?_
        refine lv_iconst (v := 1) hx hb dL_law_296 ci_1 ?_
        refine lv_iadd hx hb dL_law_297 ?_
        refine wd_top (nI (i + 1)) (nI_1 _) ?_
        refine l_sld S hX hbl hbA J (i + 1) (by omega) hL dL_law_298 ?_
        refine l_cx S J (xc_stepOut l D q cI cZ _ σ Lp d τ hR (xs (i + 1))) (lxk_stepOut S.2.2.2.2 ⟨Nat.le_of_ble_eq_true rfl, Nat.le_of_ble_eq_true rfl⟩) rfl hl.1 rfl (Nat.le_of_ble_eq_true rfl) dL_law_299 ⟨Nat.le_of_ble_eq_true rfl, Nat.le_of_ble_eq_true rfl⟩ (fun v1 σ1 H locs w1 J => ?_)
        refine lv_aload_n hx hb dL_law_302 rfl (lv_at hl 2 rfl) ?_
        refine lv_aload_n hx hb dL_law_303 rfl (lv_at hl 0 rfl) ?_
        refine lv_iload_n hx hb dL_law_304 rfl (lv_at hl 3 rfl) ?_
        refine lv_iconst (v := 1) hx hb dL_law_305 ci_1 ?_
        refine lv_iadd hx hb dL_law_306 ?_
        refine wd_top (nI (i + 1)) (nI_1 _) ?_
        refine l_sld S hX hbl hbA J (i + 1) (by omega) hL dL_law_307 ?_
        refine l_cy S J (yc_stepOut l D r cI cZ _ τ Lp hR.1.1.2.1 hR.1.1.2.2 (wdR_yI hR) (xs (i + 1))) (lyk_stepOut S.2.2.2.2 ⟨Nat.le_of_ble_eq_true rfl, Nat.le_of_ble_eq_true rfl⟩) rfl hl.1 rfl (Nat.le_of_ble_eq_true rfl) dL_law_308 ⟨Nat.le_of_ble_eq_true rfl, Nat.le_of_ble_eq_true rfl⟩ (fun v2 τ1 H locs w2 J => ?_)
        obtain ⟨ej, hRR⟩ := jn_pair w1 w2
        refine lv_icmp_eq (tgt := 490) hx hb dL_law_311 (by decide) (fun c_311 => ?_) (fun c_311 => absurd ej c_311)
        refine lv_iinc (v := nI (i + 4)) (lv' := [(3, .int (nI (i + 4))), (0, .ref b), (1, .ref (q 0)), (2, .ref (r 0))]) hx hb dL_law_490 hl (k := 3) rfl (nI_add i 4) (by decide) rfl (fun ls hl => ?_)
        refine lv_goto (tgt := 18) hx hb dL_law_493 (by decide) ?_
        exact ih (i + 4) σ1 τ1 (by omega) (by omega) hRR _ _ _ J (lv_sub hl [1, 2, 3, 0] rfl)
      · refine lv_tableIn (off := 284) (tgt := 316) hx hb dL_law_32 (by decide) (by decide) (by decide) (by decide) ?_
        refine lv_aload_n hx hb dL_law_316 rfl (lv_at hl 1 rfl) ?_
        refine lv_aload_n hx hb dL_law_317 rfl (lv_at hl 0 rfl) ?_
        refine lv_iload_n hx hb dL_law_318 rfl (lv_at hl 3 rfl) ?_
        refine lv_iconst (v := 1) hx hb dL_law_319 ci_1 ?_
        refine lv_iadd hx hb dL_law_320 ?_
        refine wd_top (nI (i + 1)) (nI_1 _) ?_
        refine l_sld S hX hbl hbA J (i + 1) (by omega) hL dL_law_321 ?_
        refine lv_aload_n hx hb dL_law_322 rfl (lv_at hl 0 rfl) ?_
        refine lv_iload_n hx hb dL_law_323 rfl (lv_at hl 3 rfl) ?_
        refine lv_iconst (v := 2) hx hb dL_law_324 ci_2 ?_
        refine lv_iadd hx hb dL_law_325 ?_
        refine wd_top (nI (i + 2)) (nI_add _ 2) ?_
        refine l_sld S hX hbl hbA J (i + 2) (by omega) hL dL_law_326 ?_
        refine l_cx S J (xc_setLocal l D q cI cZ _ σ d hR.1.2.1.1 hR.1.2.1.2.2 (xs (i + 1)) (xs (i + 2))) (lxk_setLocal S.2.2.2.2 ⟨Nat.le_of_ble_eq_true rfl, Nat.le_of_ble_eq_true rfl⟩) rfl hl.1 rfl (Nat.le_of_ble_eq_true rfl) dL_law_327 ⟨Nat.le_of_ble_eq_true rfl, Nat.le_of_ble_eq_true rfl⟩ (fun v1 σ1 H locs w1 J => ?_)
        refine lv_aload_n hx hb dL_law_330 rfl (lv_at hl 2 rfl) ?_
        refine lv_aload_n hx hb dL_law_331 rfl (lv_at hl 0 rfl) ?_
        refine lv_iload_n hx hb dL_law_332 rfl (lv_at hl 3 rfl) ?_
        refine lv_iconst (v := 1) hx hb dL_law_333 ci_1 ?_
        refine lv_iadd hx hb dL_law_334 ?_
        refine wd_top (nI (i + 1)) (nI_1 _) ?_
        refine l_sld S hX hbl hbA J (i + 1) (by omega) hL dL_law_335 ?_
        refine lv_aload_n hx hb dL_law_336 rfl (lv_at hl 0 rfl) ?_
        refine lv_iload_n hx hb dL_law_337 rfl (lv_at hl 3 rfl) ?_
        refine lv_iconst (v := 2) hx hb dL_law_338 ci_2 ?_
        refine lv_iadd hx hb dL_law_339 ?_
        refine wd_top (nI (i + 2)) (nI_add _ 2) ?_
        refine l_sld S hX hbl hbA J (i + 2) (by omega) hL dL_law_340 ?_
        refine l_cy S J (yc_setLocal l D r cI cZ _ τ d hR.1.2.1.2.1 hR.1.2.1.2.2 (xs (i + 1)) (xs (i + 2))) (lyk_setLocal S.2.2.2.2 ⟨Nat.le_of_ble_eq_true rfl, Nat.le_of_ble_eq_true rfl⟩) rfl hl.1 rfl (Nat.le_of_ble_eq_true rfl) dL_law_341 ⟨Nat.le_of_ble_eq_true rfl, Nat.le_of_ble_eq_true rfl⟩ (fun v2 τ1 H locs w2 J => ?_)
        obtain ⟨ej, hRR⟩ := jn_setL hR w1 w2
        refine lv_icmp_eq (tgt := 490) hx hb dL_law_344 (by decide) (fun c_344 => ?_) (fun c_344 => absurd ej c_344)
        refine lv_iinc (v := nI (i + 4)) (lv' := [(3, .int (nI (i + 4))), (0, .ref b), (1, .ref (q 0)), (2, .ref (r 0))]) hx hb dL_law_490 hl (k := 3) rfl (nI_add i 4) (by decide) rfl (fun ls hl => ?_)
        refine lv_goto (tgt := 18) hx hb dL_law_493 (by decide) ?_
        exact ih (i + 4) σ1 τ1 (by omega) (by omega) hRR _ _ _ J (lv_sub hl [1, 2, 3, 0] rfl)
      · refine lv_tableIn (off := 317) (tgt := 349) hx hb dL_law_32 (by decide) (by decide) (by decide) (by decide) ?_
        refine lv_aload_n hx hb dL_law_349 rfl (lv_at hl 1 rfl) ?_
        refine l_cx S J (xc_state l D q cI cZ _ σ) (lxk_state S.2.2.2.2 ⟨Nat.le_of_ble_eq_true rfl, Nat.le_of_ble_eq_true rfl⟩) rfl hl.1 rfl (Nat.le_of_ble_eq_true rfl) dL_law_350 ⟨Nat.le_of_ble_eq_true rfl, Nat.le_of_ble_eq_true rfl⟩ (fun v1 σ1 H locs w1 J => ?_)
        refine lv_aload_n hx hb dL_law_353 rfl (lv_at hl 2 rfl) ?_
        refine l_cy S J (yc_state l D r cI cZ _ τ) (lyk_state S.2.2.2.2 ⟨Nat.le_of_ble_eq_true rfl, Nat.le_of_ble_eq_true rfl⟩) rfl hl.1 rfl (Nat.le_of_ble_eq_true rfl) dL_law_354 ⟨Nat.le_of_ble_eq_true rfl, Nat.le_of_ble_eq_true rfl⟩ (fun v2 τ1 H locs w2 J => ?_)
        obtain ⟨ej, hRR⟩ := jn_same hR ⟨w1.1, w1.2.trans hR.2.1⟩ w2
        refine lv_icmp_eq (tgt := 490) hx hb dL_law_357 (by decide) (fun c_357 => ?_) (fun c_357 => absurd ej c_357)
        refine lv_iinc (v := nI (i + 4)) (lv' := [(3, .int (nI (i + 4))), (0, .ref b), (1, .ref (q 0)), (2, .ref (r 0))]) hx hb dL_law_490 hl (k := 3) rfl (nI_add i 4) (by decide) rfl (fun ls hl => ?_)
        refine lv_goto (tgt := 18) hx hb dL_law_493 (by decide) ?_
        exact ih (i + 4) σ1 τ1 (by omega) (by omega) hRR _ _ _ J (lv_sub hl [1, 2, 3, 0] rfl)
      · refine lv_tableIn (off := 330) (tgt := 362) hx hb dL_law_32 (by decide) (by decide) (by decide) (by decide) ?_
        refine lv_aload_n hx hb dL_law_362 rfl (lv_at hl 1 rfl) ?_
        refine l_cx S J (xc_depth l D q cI cZ _ σ) (lxk_depth S.2.2.2.2 ⟨Nat.le_of_ble_eq_true rfl, Nat.le_of_ble_eq_true rfl⟩) rfl hl.1 rfl (Nat.le_of_ble_eq_true rfl) dL_law_363 ⟨Nat.le_of_ble_eq_true rfl, Nat.le_of_ble_eq_true rfl⟩ (fun v1 σ1 H locs w1 J => ?_)
        refine lv_aload_n hx hb dL_law_366 rfl (lv_at hl 2 rfl) ?_
        refine l_cy S J (yc_depth l D r cI cZ _ τ) (lyk_depth S.2.2.2.2 ⟨Nat.le_of_ble_eq_true rfl, Nat.le_of_ble_eq_true rfl⟩) rfl hl.1 rfl (Nat.le_of_ble_eq_true rfl) dL_law_367 ⟨Nat.le_of_ble_eq_true rfl, Nat.le_of_ble_eq_true rfl⟩ (fun v2 τ1 H locs w2 J => ?_)
        obtain ⟨ej, hRR⟩ := jn_same hR ⟨w1.1, w1.2.trans (hR.1.2.1.1.trans hR.1.2.1.2.1.symm)⟩ w2
        refine lv_icmp_eq (tgt := 490) hx hb dL_law_370 (by decide) (fun c_370 => ?_) (fun c_370 => absurd ej c_370)
        refine lv_iinc (v := nI (i + 4)) (lv' := [(3, .int (nI (i + 4))), (0, .ref b), (1, .ref (q 0)), (2, .ref (r 0))]) hx hb dL_law_490 hl (k := 3) rfl (nI_add i 4) (by decide) rfl (fun ls hl => ?_)
        refine lv_goto (tgt := 18) hx hb dL_law_493 (by decide) ?_
        exact ih (i + 4) σ1 τ1 (by omega) (by omega) hRR _ _ _ J (lv_sub hl [1, 2, 3, 0] rfl)
      · refine lv_tableIn (off := 343) (tgt := 375) hx hb dL_law_32 (by decide) (by decide) (by decide) (by decide) ?_
        refine lv_aload_n hx hb dL_law_375 rfl (lv_at hl 1 rfl) ?_
        refine lv_aload_n hx hb dL_law_376 rfl (lv_at hl 0 rfl) ?_
        refine lv_iload_n hx hb dL_law_377 rfl (lv_at hl 3 rfl) ?_
        refine lv_iconst (v := 1) hx hb dL_law_378 ci_1 ?_
        refine lv_iadd hx hb dL_law_379 ?_
        refine wd_top (nI (i + 1)) (nI_1 _) ?_
        refine l_sld S hX hbl hbA J (i + 1) (by omega) hL dL_law_380 ?_
        refine l_cx S J (xc_counter l D q cI cZ _ σ Lp d τ hR (xs (i + 1))) (lxk_counter S.2.2.2.2 ⟨Nat.le_of_ble_eq_true rfl, Nat.le_of_ble_eq_true rfl⟩) rfl hl.1 rfl (Nat.le_of_ble_eq_true rfl) dL_law_381 ⟨Nat.le_of_ble_eq_true rfl, Nat.le_of_ble_eq_true rfl⟩ (fun v1 σ1 H locs w1 J => ?_)
        refine lv_aload_n hx hb dL_law_384 rfl (lv_at hl 2 rfl) ?_
        refine lv_aload_n hx hb dL_law_385 rfl (lv_at hl 0 rfl) ?_
        refine lv_iload_n hx hb dL_law_386 rfl (lv_at hl 3 rfl) ?_
        refine lv_iconst (v := 1) hx hb dL_law_387 ci_1 ?_
        refine lv_iadd hx hb dL_law_388 ?_
        refine wd_top (nI (i + 1)) (nI_1 _) ?_
        refine l_sld S hX hbl hbA J (i + 1) (by omega) hL dL_law_389 ?_
        refine l_cy S J (yc_counter l D r cI cZ _ τ d hR.1.2.1.2.1 hR.1.2.1.2.2 (xs (i + 1))) (lyk_counter S.2.2.2.2 ⟨Nat.le_of_ble_eq_true rfl, Nat.le_of_ble_eq_true rfl⟩) rfl hl.1 rfl (Nat.le_of_ble_eq_true rfl) dL_law_390 ⟨Nat.le_of_ble_eq_true rfl, Nat.le_of_ble_eq_true rfl⟩ (fun v2 τ1 H locs w2 J => ?_)
        obtain ⟨ej, hRR⟩ := jn_same hR w1 w2
        refine lv_icmp_eq (tgt := 490) hx hb dL_law_393 (by decide) (fun c_393 => ?_) (fun c_393 => absurd ej c_393)
        refine lv_iinc (v := nI (i + 4)) (lv' := [(3, .int (nI (i + 4))), (0, .ref b), (1, .ref (q 0)), (2, .ref (r 0))]) hx hb dL_law_490 hl (k := 3) rfl (nI_add i 4) (by decide) rfl (fun ls hl => ?_)
        refine lv_goto (tgt := 18) hx hb dL_law_493 (by decide) ?_
        exact ih (i + 4) σ1 τ1 (by omega) (by omega) hRR _ _ _ J (lv_sub hl [1, 2, 3, 0] rfl)
      · refine lv_tableIn (off := 366) (tgt := 398) hx hb dL_law_32 (by decide) (by decide) (by decide) (by decide) ?_
        refine lv_aload_n hx hb dL_law_398 rfl (lv_at hl 1 rfl) ?_
        refine lv_aload_n hx hb dL_law_399 rfl (lv_at hl 0 rfl) ?_
        refine lv_iload_n hx hb dL_law_400 rfl (lv_at hl 3 rfl) ?_
        refine lv_iconst (v := 1) hx hb dL_law_401 ci_1 ?_
        refine lv_iadd hx hb dL_law_402 ?_
        refine wd_top (nI (i + 1)) (nI_1 _) ?_
        refine l_sld S hX hbl hbA J (i + 1) (by omega) hL dL_law_403 ?_
        refine lv_aload_n hx hb dL_law_404 rfl (lv_at hl 0 rfl) ?_
        refine lv_iload_n hx hb dL_law_405 rfl (lv_at hl 3 rfl) ?_
        refine lv_iconst (v := 2) hx hb dL_law_406 ci_2 ?_
        refine lv_iadd hx hb dL_law_407 ?_
        refine wd_top (nI (i + 2)) (nI_add _ 2) ?_
        refine l_sld S hX hbl hbA J (i + 2) (by omega) hL dL_law_408 ?_
        refine l_cx S J (xc_local l D q cI cZ _ σ d hR.1.2.1.1 hR.1.2.1.2.2 (xs (i + 1)) (xs (i + 2))) (lxk_local S.2.2.2.2 ⟨Nat.le_of_ble_eq_true rfl, Nat.le_of_ble_eq_true rfl⟩) rfl hl.1 rfl (Nat.le_of_ble_eq_true rfl) dL_law_409 ⟨Nat.le_of_ble_eq_true rfl, Nat.le_of_ble_eq_true rfl⟩ (fun v1 σ1 H locs w1 J => ?_)
        refine lv_aload_n hx hb dL_law_412 rfl (lv_at hl 2 rfl) ?_
        refine lv_aload_n hx hb dL_law_413 rfl (lv_at hl 0 rfl) ?_
        refine lv_iload_n hx hb dL_law_414 rfl (lv_at hl 3 rfl) ?_
        refine lv_iconst (v := 1) hx hb dL_law_415 ci_1 ?_
        refine lv_iadd hx hb dL_law_416 ?_
        refine wd_top (nI (i + 1)) (nI_1 _) ?_
        refine l_sld S hX hbl hbA J (i + 1) (by omega) hL dL_law_417 ?_
        refine lv_aload_n hx hb dL_law_418 rfl (lv_at hl 0 rfl) ?_
        refine lv_iload_n hx hb dL_law_419 rfl (lv_at hl 3 rfl) ?_
        refine lv_iconst (v := 2) hx hb dL_law_420 ci_2 ?_
        refine lv_iadd hx hb dL_law_421 ?_
        refine wd_top (nI (i + 2)) (nI_add _ 2) ?_
        refine l_sld S hX hbl hbA J (i + 2) (by omega) hL dL_law_422 ?_
        refine l_cy S J (yc_local l D r cI cZ _ τ d hR.1.2.1.2.1 hR.1.2.1.2.2 (xs (i + 1)) (xs (i + 2))) (lyk_local S.2.2.2.2 ⟨Nat.le_of_ble_eq_true rfl, Nat.le_of_ble_eq_true rfl⟩) rfl hl.1 rfl (Nat.le_of_ble_eq_true rfl) dL_law_423 ⟨Nat.le_of_ble_eq_true rfl, Nat.le_of_ble_eq_true rfl⟩ (fun v2 τ1 H locs w2 J => ?_)
        obtain ⟨ej, hRR⟩ := jn_local hR w1 w2
        refine lv_icmp_eq (tgt := 490) hx hb dL_law_426 (by decide) (fun c_426 => ?_) (fun c_426 => absurd ej c_426)
        refine lv_iinc (v := nI (i + 4)) (lv' := [(3, .int (nI (i + 4))), (0, .ref b), (1, .ref (q 0)), (2, .ref (r 0))]) hx hb dL_law_490 hl (k := 3) rfl (nI_add i 4) (by decide) rfl (fun ls hl => ?_)
        refine lv_goto (tgt := 18) hx hb dL_law_493 (by decide) ?_
        exact ih (i + 4) σ1 τ1 (by omega) (by omega) hRR _ _ _ J (lv_sub hl [1, 2, 3, 0] rfl)
      · refine lv_tableIn (off := 399) (tgt := 431) hx hb dL_law_32 (by decide) (by decide) (by decide) (by decide) ?_
        refine lv_aload_n hx hb dL_law_431 rfl (lv_at hl 1 rfl) ?_
        refine l_cx S J (xc_outputs l D q cI cZ _ σ) (lxk_outputs S.2.2.2.2 ⟨Nat.le_of_ble_eq_true rfl, Nat.le_of_ble_eq_true rfl⟩) rfl hl.1 rfl (Nat.le_of_ble_eq_true rfl) dL_law_432 ⟨Nat.le_of_ble_eq_true rfl, Nat.le_of_ble_eq_true rfl⟩ (fun v1 σ1 H locs w1 J => ?_)
        refine lv_aload_n hx hb dL_law_435 rfl (lv_at hl 2 rfl) ?_
        refine l_cy S J (yc_outputs l D r cI cZ _ τ) (lyk_outputs S.2.2.2.2 ⟨Nat.le_of_ble_eq_true rfl, Nat.le_of_ble_eq_true rfl⟩) rfl hl.1 rfl (Nat.le_of_ble_eq_true rfl) dL_law_436 ⟨Nat.le_of_ble_eq_true rfl, Nat.le_of_ble_eq_true rfl⟩ (fun v2 τ1 H locs w2 J => ?_)
        obtain ⟨ej, hRR⟩ := jn_same hR ⟨w1.1, w1.2.trans hR.1.2.2.2.2.2.1.1⟩ w2
        refine lv_icmp_eq (tgt := 490) hx hb dL_law_439 (by decide) (fun c_439 => ?_) (fun c_439 => absurd ej c_439)
        refine lv_iinc (v := nI (i + 4)) (lv' := [(3, .int (nI (i + 4))), (0, .ref b), (1, .ref (q 0)), (2, .ref (r 0))]) hx hb dL_law_490 hl (k := 3) rfl (nI_add i 4) (by decide) rfl (fun ls hl => ?_)
        refine lv_goto (tgt := 18) hx hb dL_law_493 (by decide) ?_
        exact ih (i + 4) σ1 τ1 (by omega) (by omega) hRR _ _ _ J (lv_sub hl [1, 2, 3, 0] rfl)
      · refine lv_tableIn (off := 412) (tgt := 444) hx hb dL_law_32 (by decide) (by decide) (by decide) (by decide) ?_
        refine lv_aload_n hx hb dL_law_444 rfl (lv_at hl 1 rfl) ?_
        refine lv_aload_n hx hb dL_law_445 rfl (lv_at hl 0 rfl) ?_
        refine lv_iload_n hx hb dL_law_446 rfl (lv_at hl 3 rfl) ?_
        refine lv_iconst (v := 1) hx hb dL_law_447 ci_1 ?_
        refine lv_iadd hx hb dL_law_448 ?_
        refine wd_top (nI (i + 1)) (nI_1 _) ?_
        refine l_sld S hX hbl hbA J (i + 1) (by omega) hL dL_law_449 ?_
        refine l_cx S J (xc_output l D q cI cZ _ σ (xs (i + 1))) (lxk_output S.2.2.2.2 ⟨Nat.le_of_ble_eq_true rfl, Nat.le_of_ble_eq_true rfl⟩) rfl hl.1 rfl (Nat.le_of_ble_eq_true rfl) dL_law_450 ⟨Nat.le_of_ble_eq_true rfl, Nat.le_of_ble_eq_true rfl⟩ (fun v1 σ1 H locs w1 J => ?_)
        refine lv_aload_n hx hb dL_law_453 rfl (lv_at hl 2 rfl) ?_
        refine lv_aload_n hx hb dL_law_454 rfl (lv_at hl 0 rfl) ?_
        refine lv_iload_n hx hb dL_law_455 rfl (lv_at hl 3 rfl) ?_
        refine lv_iconst (v := 1) hx hb dL_law_456 ci_1 ?_
        refine lv_iadd hx hb dL_law_457 ?_
        refine wd_top (nI (i + 1)) (nI_1 _) ?_
        refine l_sld S hX hbl hbA J (i + 1) (by omega) hL dL_law_458 ?_
        refine l_cy S J (yc_output l D r cI cZ _ τ (xs (i + 1))) (lyk_output S.2.2.2.2 ⟨Nat.le_of_ble_eq_true rfl, Nat.le_of_ble_eq_true rfl⟩) rfl hl.1 rfl (Nat.le_of_ble_eq_true rfl) dL_law_459 ⟨Nat.le_of_ble_eq_true rfl, Nat.le_of_ble_eq_true rfl⟩ (fun v2 τ1 H locs w2 J => ?_)
        obtain ⟨ej, hRR⟩ := jn_out hR w1 w2
        refine lv_icmp_eq (tgt := 490) hx hb dL_law_462 (by decide) (fun c_462 => ?_) (fun c_462 => absurd ej c_462)
        refine lv_iinc (v := nI (i + 4)) (lv' := [(3, .int (nI (i + 4))), (0, .ref b), (1, .ref (q 0)), (2, .ref (r 0))]) hx hb dL_law_490 hl (k := 3) rfl (nI_add i 4) (by decide) rfl (fun ls hl => ?_)
        refine lv_goto (tgt := 18) hx hb dL_law_493 (by decide) ?_
        exact ih (i + 4) σ1 τ1 (by omega) (by omega) hRR _ _ _ J (lv_sub hl [1, 2, 3, 0] rfl)
      · refine lv_tableIn (off := 435) (tgt := 467) hx hb dL_law_32 (by decide) (by decide) (by decide) (by decide) ?_
        refine lv_aload_n hx hb dL_law_467 rfl (lv_at hl 1 rfl) ?_
        refine lv_aload_n hx hb dL_law_468 rfl (lv_at hl 0 rfl) ?_
        refine lv_iload_n hx hb dL_law_469 rfl (lv_at hl 3 rfl) ?_
        refine lv_iconst (v := 1) hx hb dL_law_470 ci_1 ?_
        refine lv_iadd hx hb dL_law_471 ?_
        refine wd_top (nI (i + 1)) (nI_1 _) ?_
        refine l_sld S hX hbl hbA J (i + 1) (by omega) hL dL_law_472 ?_
        refine l_cx S J (xc_skip l D q cI cZ _ σ Lp hR.1.1.1 hR.1.1.2.2 (xs (i + 1))) (lxk_skip S.2.2.2.2 ⟨Nat.le_of_ble_eq_true rfl, Nat.le_of_ble_eq_true rfl⟩) rfl hl.1 rfl (Nat.le_of_ble_eq_true rfl) dL_law_473 ⟨Nat.le_of_ble_eq_true rfl, Nat.le_of_ble_eq_true rfl⟩ (fun v1 σ1 H locs w1 J => ?_)
        refine lv_aload_n hx hb dL_law_476 rfl (lv_at hl 2 rfl) ?_
        refine lv_aload_n hx hb dL_law_477 rfl (lv_at hl 0 rfl) ?_
        refine lv_iload_n hx hb dL_law_478 rfl (lv_at hl 3 rfl) ?_
        refine lv_iconst (v := 1) hx hb dL_law_479 ci_1 ?_
        refine lv_iadd hx hb dL_law_480 ?_
        refine wd_top (nI (i + 1)) (nI_1 _) ?_
        refine l_sld S hX hbl hbA J (i + 1) (by omega) hL dL_law_481 ?_
        refine l_cy S J (yc_skip l D r cI cZ _ τ Lp hR.1.1.2.1 hR.1.1.2.2 (xs (i + 1))) (lyk_skip S.2.2.2.2 ⟨Nat.le_of_ble_eq_true rfl, Nat.le_of_ble_eq_true rfl⟩) rfl hl.1 rfl (Nat.le_of_ble_eq_true rfl) dL_law_482 ⟨Nat.le_of_ble_eq_true rfl, Nat.le_of_ble_eq_true rfl⟩ (fun v2 τ1 H locs w2 J => ?_)
        obtain ⟨ej, hRR⟩ := jn_skip hR w1 w2
        refine lv_icmp_eq (tgt := 490) hx hb dL_law_485 (by decide) (fun c_485 => ?_) (fun c_485 => absurd ej c_485)
        refine lv_iinc (v := nI (i + 4)) (lv' := [(3, .int (nI (i + 4))), (0, .ref b), (1, .ref (q 0)), (2, .ref (r 0))]) hx hb dL_law_490 hl (k := 3) rfl (nI_add i 4) (by decide) rfl (fun ls hl => ?_)
        refine lv_goto (tgt := 18) hx hb dL_law_493 (by decide) ?_
        exact ih (i + 4) σ1 τ1 (by omega) (by omega) hRR _ _ _ J (lv_sub hl [1, 2, 3, 0] rfl)
section WT
variable {p : Program} {l : Launch} {e : Env} {R : Room} {s : State} {m : MethodId} {args : Array Value} {below : List Frame} {meth : Method} {c : Code} {H : Heap} {locs : List Loc} {cells slots : Nat} {Q : State → Prop} {pc : Nat} {ls : Array Slot} {rest : List Value}
theorem wd_topr {x : Nat} (y : Nat) (h : y = x) (k : W p l e R s m args below meth c H locs cells slots Q (F0 m pc ls (.ref y :: rest))) : W p l e R s m args below meth c H locs cells slots Q (F0 m pc ls (.ref x :: rest)) := by rw [← h]; exact k
end WT
theorem wd_Pl {D : va_G} {cl : List vw_C} {w1 w2 : va_W} {H : Heap} (h : va_P D cl (w1 ++ w2) H) : va_P D cl w1 H := fun k x hx => h k x (by rw [List.getElem?_append_left (List.getElem?_eq_some_iff.mp hx).1]; exact hx)
set_option maxHeartbeats 4000000 in
set_option maxRecDepth 100000 in
/-- THE LAW, from its entry -/
theorem whole_start {p : Program} {e : Env} {s : State} {m : MethodId} {below : List Frame} {meth : Method} {c : Code} (l : Launch) {b L : Nat} {xs : Nat → Int32} (hL : L ≤ 256) (C0 : lw_At p s m meth c b L xs) : W p l e room_1 s m #[Value.ref b] below meth c s.heap [] 0 0 (lw_Z below #[Value.ref b] s) (entryFrame m ([Value.ref b] : List Value).toArray 4) := by
  obtain ⟨hx, hb, hr, hml, hown, hts0, hX, hbl, hlk, hgv⟩ := id C0
  have hts : ∀ w ∈ lw_all, w.before #[Value.ref b] s = true := fun w h => hts0 w (lw_all_tbl h)
  have S : CallFix p m c cL_law 4 s #[Value.ref b] lw_all R_law := ⟨hx, hb, hml, hown, hts⟩
  have hA : ∀ z : Nat, s.heap.size ≤ z → (fun z : Nat => s.heap.size ≤ z) z := fun _ h => h
  obtain ⟨c0_, iS0, hKn0⟩ := u_known (C := RX0) (T := TX0) (N := 24) (n := 24) hts in_X0 (hts _ q25)
  obtain ⟨c1_, iS1, hKn1⟩ := u_known (C := RX1) (T := TX1) (N := 13) (n := 13) hts in_X1 (hts _ q239)
  obtain ⟨D, hKc⟩ : ∃ D : va_G, ∀ (k : Nat) (z : vw_C), vwCl[k]? = some z → u_Kn s z.1 z.2.1 z.2.2 (D.1 k) (D.2 k) := by
    refine ⟨(fun k => if k = 0 then c0_ else c1_, fun k => if k = 0 then iS0 else iS1), ?_⟩
    intro k z hz
    match k, hz with
    | 0, hz => cases hz; exact hKn0
    | 1, hz => cases hz; exact hKn1
    | k + 2, hz => simp [vwCl] at hz
  obtain ⟨cI, kI, compI, fI, gI, tI⟩ := Cond.arrayClass_spec (hts _ q105)
  obtain ⟨cZ, kZ, compZ, fZ, gZ, tZ⟩ := Cond.arrayClass_spec (hts _ q106)
  have hK : va_K D vwCl (wdTy cI cZ) s := by
    refine ⟨hKc, fun k z hz => ?_⟩
    match k, hz with
    | 0, hz => cases hz; exact ⟨fun n z => ⟨fun k h => (by cases h), kI, gI, compI, tI⟩, fI⟩
    | 1, hz => cases hz; exact ⟨fun n z => ⟨fun k h => (by cases h), kZ, gZ, compZ, tZ⟩, fZ⟩
    | k + 2, hz => simp [wdTy] at hz
  have hS : va_S (fun z : Nat => s.heap.size ≤ z) s.heap s.heap [] := va_S.rf
  have hP : va_P D vwCl [] s.heap := fun k z h => by simp at h
  have hD : va_D (fun z : Nat => s.heap.size ≤ z) [] := ⟨fun i j x y h => by simp at h, fun k z h => by simp at h⟩
  have hl := lv_entry ([.ref b]) (n := 4) (Nat.le_of_ble_eq_true rfl)
  rw [lg_entry_eq]
  generalize (lg_sl ([.ref b]) ++ List.replicate (4 - (lg_sl ([.ref b])).length) Slot.unset).toArray = ls at hl ⊢
  have hl : lv_has ls 4 [(0, .ref b)] := hl
  refine va_new (ci := 0) (fs := [.int 0, .null, .null, .null, .int 0, .null, .null, .null, .int 0, .null, .null, .null, .null, .null, .int 0, .int 0, .int 0, .int 0, .int 0, .null, .null, .null, .int 0, .null]) (C := RX0) (T := TX0) (N := 24) hx hb hts in_X0 tyX0 tyX0_ok hown (hts _ q24) (hts _ q25) (hts _ q22) hK hP hD hS hA rfl (fun j hj => by rcases (show j = 0 ∨ j = 1 ∨ j = 2 ∨ j = 3 ∨ j = 4 ∨ j = 5 ∨ j = 6 ∨ j = 7 ∨ j = 8 ∨ j = 9 ∨ j = 10 ∨ j = 11 ∨ j = 12 ∨ j = 13 ∨ j = 14 ∨ j = 15 ∨ j = 16 ∨ j = 17 ∨ j = 18 ∨ j = 19 ∨ j = 20 ∨ j = 21 ∨ j = 22 ∨ j = 23 by omega) with rfl | rfl | rfl | rfl | rfl | rfl | rfl | rfl | rfl | rfl | rfl | rfl | rfl | rfl | rfl | rfl | rfl | rfl | rfl | rfl | rfl | rfl | rfl | rfl <;> rfl) (Nat.le_of_ble_eq_true rfl) (Nat.le_of_ble_eq_true rfl) dL_law_0 (fun q0 H hP hD hS => ?_)
  have hP : va_P D vwCl [(q0, .inr (0, [.int 0, .null, .null, .null, .int 0, .null, .null, .null, .int 0, .null, .null, .null, .null, .null, .int 0, .int 0, .int 0, .int 0, .int 0, .null, .null, .null, .int 0, .null]))] H := hP
  have hD : va_D (fun z : Nat => s.heap.size ≤ z) [(q0, .inr (0, [.int 0, .null, .null, .null, .int 0, .null, .null, .null, .int 0, .null, .null, .null, .null, .null, .int 0, .int 0, .int 0, .int 0, .int 0, .null, .null, .null, .int 0, .null]))] := hD
  refine W.widen (k := 1) (n := 24) (Nat.le_of_ble_eq_true rfl) (Nat.le_of_ble_eq_true rfl) ?_
  refine lv_dup hx hb dL_law_3 rfl ?_
  have hPc := hP
  have hDc := hD
  have hFc := va_free (wc := [(q0, .inr (0, [.int 0, .null, .null, .null, .int 0, .null, .null, .null, .int 0, .null, .null, .null, .null, .null, .int 0, .int 0, .int 0, .int 0, .int 0, .null, .null, .null, .int 0, .null]))]) hD hS hA [0] rfl
  refine va_callv (va_runI (As := []) (rest := [.ref q0]) S (xc_init l D cI cZ H.size q0) (cwI 0 hts (lw_meth q28) rfl rfl rfl (hts _ q22) (hts _ q26) (hts _ q27) rfl (by decide +kernel) ⟨Nat.le_of_ble_eq_true rfl, Nat.le_of_ble_eq_true rfl⟩) ⟨fun a U g mk z => by obtain ⟨z0, z1, zP, zK, zD⟩ := z; exact ⟨z0, z1, zP, va_K.moved (u := U) (U := U.calling g mk a) (Vm.Alike.refl U.vm) zK, zD⟩, fun U hU hW => ⟨rfl, by rw [hU], by rw [hU]; exact hPc, va_K.moved hW.alike hK, hDc.weaken (fun _ _ _ _ => trivial)⟩⟩ rfl rfl hl.1 rfl (lv_room (Nat.le_of_ble_eq_true rfl)) dL_law_4 ⟨Nat.le_of_ble_eq_true rfl, Nat.le_of_ble_eq_true rfl⟩) hS (fun z _ h => hFc z h) hFc (fun q t H1 locs ht hvm hw1 hB hz1 hk1 hS => ?_)
  have hw1 : q 0 = q0 := hw1
  obtain ⟨hP1, hK1, hD1⟩ := hB
  rw [ht] at hP1
  have hP : va_P D vwCl (x_w q cI cZ (wdS wd0 14 0)) H1 := hP1
  have hD : va_D (fun z : Nat => s.heap.size ≤ z) (x_w q cI cZ (wdS wd0 14 0)) := hD1.weaken (fun k z _ h => hFc z.1 h)
  refine W.widen (k := 16) (n := 374) (Nat.le_of_ble_eq_true rfl) (Nat.le_of_ble_eq_true rfl) ?_
  refine wd_topr (q 0) hw1 ?_
  refine lv_astore_n (lv' := [(1, .ref (q 0)), (0, .ref b)]) hx hb dL_law_7 rfl hl (by decide) rfl (fun ls hl => ?_)
  refine va_new (ci := 1) (fs := [.null, .null, .null, .int 0, .null, .int 0, .int 0, .null, .null, .null, .int 0, .int 0, .null]) (C := RX1) (T := TX1) (N := 13) hx hb hts in_X1 tyX1 tyX1_ok hown (hts _ q238) (hts _ q239) (hts _ q23) hK hP hD hS hA rfl (fun j hj => by rcases (show j = 0 ∨ j = 1 ∨ j = 2 ∨ j = 3 ∨ j = 4 ∨ j = 5 ∨ j = 6 ∨ j = 7 ∨ j = 8 ∨ j = 9 ∨ j = 10 ∨ j = 11 ∨ j = 12 by omega) with rfl | rfl | rfl | rfl | rfl | rfl | rfl | rfl | rfl | rfl | rfl | rfl | rfl <;> rfl) (Nat.le_of_ble_eq_true rfl) (Nat.le_of_ble_eq_true rfl) dL_law_8 (fun r0 H hP hD hS => ?_)
  refine W.widen (k := 17) (n := 387) (Nat.le_of_ble_eq_true rfl) (Nat.le_of_ble_eq_true rfl) ?_
  refine lv_dup hx hb dL_law_11 rfl ?_
  have hPc := hP.sub (ws' := [(r0, .inr (1, [.null, .null, .null, .int 0, .null, .int 0, .int 0, .null, .null, .null, .int 0, .int 0, .null]))]) [16] rfl
  have hDc := hD.sub (ws' := [(r0, .inr (1, [.null, .null, .null, .int 0, .null, .int 0, .int 0, .null, .null, .null, .int 0, .int 0, .null]))]) [16] (by decide) rfl
  have hFc := va_free (wc := [(r0, .inr (1, [.null, .null, .null, .int 0, .null, .int 0, .int 0, .null, .null, .null, .int 0, .int 0, .null]))]) hD hS hA [16] rfl
  refine va_callv (va_runI (As := []) (rest := [.ref r0]) S (yc_init l D cI cZ H.size r0) (cwI 0 hts (lw_meth q242) rfl rfl rfl (hts _ q23) (hts _ q240) (hts _ q241) rfl (by decide +kernel) ⟨Nat.le_of_ble_eq_true rfl, Nat.le_of_ble_eq_true rfl⟩) ⟨fun a U g mk z => by obtain ⟨z0, z1, zP, zK, zD⟩ := z; exact ⟨z0, z1, zP, va_K.moved (u := U) (U := U.calling g mk a) (Vm.Alike.refl U.vm) zK, zD⟩, fun U hU hW => ⟨rfl, by rw [hU], by rw [hU]; exact hPc, va_K.moved hW.alike hK, hDc.weaken (fun _ _ _ _ => trivial)⟩⟩ rfl rfl hl.1 rfl (lv_room (Nat.le_of_ble_eq_true rfl)) dL_law_12 ⟨Nat.le_of_ble_eq_true rfl, Nat.le_of_ble_eq_true rfl⟩) hS (fun z _ h => hFc z h) hFc (fun u t H1 locs ht hvm hw2 hB hz1 hk1 hS => ?_)
  obtain ⟨r, τ⟩ := u
  obtain ⟨hw2, hi2⟩ := hw2
  have hw2 : r 0 = r0 := hw2
  obtain ⟨hP1, hK1, hD1⟩ := hB
  rw [ht] at hP1
  obtain ⟨hP, hD⟩ := va_join (wr := (x_w q cI cZ (wdS wd0 14 0))) (w1 := y_w r cI cZ τ) hP hD [16] [0, 1, 2, 3, 4, 5, 6, 7, 8, 9, 10, 11, 12, 13, 14, 15] rfl rfl (by decide) (by decide) hk1 hFc hP1 hD1
  have J : l_J D q r cI cZ (fun z : Nat => s.heap.size ≤ z) (wdS wd0 14 0) τ s H1 locs := ⟨hK, hA, wd_Pl hP, hP1, hD, hS⟩
  refine W.widen (k := 25) (n := 511) (Nat.le_of_ble_eq_true rfl) (Nat.le_of_ble_eq_true rfl) ?_
  refine wd_topr (r 0) hw2 ?_
  refine lv_astore_n (lv' := [(2, .ref (r 0)), (1, .ref (q 0)), (0, .ref b)]) hx hb dL_law_15 rfl hl (by decide) rfl (fun ls hl => ?_)
  refine lv_iconst (v := 0) hx hb dL_law_16 ci_0 ?_
  refine lv_istore_n (lv' := [(3, .int 0), (2, .ref (r 0)), (1, .ref (q 0)), (0, .ref b)]) hx hb dL_law_17 rfl hl (by decide) rfl (fun ls hl => ?_)
  exact law_loop l hL C0 (L + 4) 0 _ τ (by omega) (by omega) (jn_start _ τ rfl hi2) _ _ _ J (lv_sub hl [3, 2, 1, 0] rfl)
end
section
set_option maxRecDepth 100000
set_option maxHeartbeats 4000000 in
theorem lw_walk (l : Launch) (b : Addr) (xs : List Int32) : MetFree l x (headSpec (Jvm.Cond.code x code maxLocals ret :: tables_1) room_1) (lw_P b xs) (fun _ _ _ _ _ => True) lw_Q := by
  refine MetFree.of_bodyS (code := code) (maxLocals := maxLocals) (ret := ret) (by decide) ?_ ?_
  · intro args s m h hn
    obtain ⟨meth, c, h1, h2, h3, h4, h5, h6, -, -⟩ := Cond.code_spec hn (atoms_spec (ws := Jvm.Cond.code x code maxLocals ret :: tables_1) h _ List.mem_cons_self)
    exact ⟨meth, c, h1, h2, h3, h4, h5, h6⟩
  · intro p e s m args below meth c s₁ B hml0 hP _
    obtain ⟨rfl, hx, hbd, hgv⟩ := hP
    obtain ⟨scr, harrAt, hlist, hof, hsmall⟩ := hx
    obtain ⟨hcb, hkn, -, -⟩ := State.arrayAt?_spec harrAt
    have hown : s.vm.findClass R_law = some m.cls := findClass_of_methodNamed B.named
    have hts0 : ∀ c ∈ (Jvm.Cond.code x code maxLocals ret :: tables_1), c.before #[Value.ref b] s = true := atoms_spec (ws := Jvm.Cond.code x code maxLocals ret :: tables_1) B.pre
    have hts : ∀ w ∈ lw_tbl, w.before #[Value.ref b] s = true := k2_hts_sels lw_privs (fun w hw => hts0 w (List.mem_cons_of_mem _ hw)) lw_privs_ok
    have hml : c.maxLocals = 4 := B.maxLocals_eq (hts0 _ List.mem_cons_self)
    have X₀ : Stand p l e room_1 s m #[Value.ref b] below meth c s₁ [] 0 0 := Stand.of_body B
    have hh0 : s₁.heap = s.heap := by rw [B.state]; rfl
    have hsz : scr.slots.size = xs.length := by rw [← Array.length_toList, hlist, List.length_map]
    have hval : ∀ j : Nat, j < xs.length → scr.slots[j]? = some (.int (xs.getD j 0)) := fun j hj => by
      rw [← Array.getElem?_toList, hlist]
      simp [hj]
    have hbl : b < s.heap.size := (Array.getElem?_eq_some_iff.mp hcb).1
    have hX : va_X b xs.length (fun j => xs.getD j 0) s s.heap := ⟨scr, hcb, hof, hkn, hsz, hval⟩
    have K : W p l e room_1 s m #[Value.ref b] below meth c s₁.heap [] 0 0 (lw_Z below #[Value.ref b] s) (entryFrame m ([Value.ref b] : List Value).toArray 4) := by
      rw [hh0]
      exact whole_start l hbd ⟨B.exec, B.bytes, B.returns, hml, hown, hts, hX, hbl, B.notSynchronized, hgv⟩
    obtain ⟨t, a1, o, b1, b2, b3⟩ := K s₁ rfl X₀
    exact ⟨t, o, a1, b1, b2, b3⟩
theorem lw_pre_spec {args : Array Value} {s : State} (h : (Jvm.Cond.and given_1 narrow_1).before args s = true) (hr : rest_1_c.before args s = true) : ∃ (b : Addr) (xs : List Int32), lw_P b xs args s := by
  have hs := flat_of_before _ h
  have hq := flat_of_before _ hr
  have hc : (Cond.count 1).before args s = true := hs _ (by decide +kernel)
  have harr : (Cond.arrayOf (.arg 0) .int).before args s = true := hs _ (by decide +kernel)
  have hle : (Cond.le (.length (.arg 0)) (.int 256)).before args s = true := hs _ (by decide +kernel)
  have hlen : (Cond.isInt (.length (.arg 0))).before args s = true := hq _ (by decide +kernel)
  have hall : (Cond.all (.arg 0) (.isInt (.elem (.arg 0) (.index 0)))).before args s = true := hq _ (by decide +kernel)
  obtain ⟨b, xs, hb, hx⟩ := State.ints_of_pre rfl harr hlen hall
  have hsm : xs.length < 2 ^ 31 := hx.choose_spec.2.2.2
  have hev : (Term.length (.arg 0)).eval args s none [] s = some (.int xs.length.toInt32) := hx.length_eval hb
  have hv := Cond.le_ints hev (show (Term.int 256).eval args s none [] s = some (.int 256) from rfl)
  have hd : xs.length.toInt32 ≤ 256 := by
    simpa [Cond.before, Cond.holds, hv] using hle
  have hN : xs.length ≤ 256 := (Int32.ofNat_le_ofNat hsm (by decide)).mp (show Int32.ofNat xs.length ≤ Int32.ofNat 256 from hd)
  exact ⟨b, xs, Cond.one_arg hc (show args[0]? = some (.ref b) from hb), hx, hN, h⟩
theorem lw_comes (l : Launch) : Comes l x (Jvm.Cond.code x code maxLocals ret :: tables_1) room_1 (fun tb e args s => Calls_1 tb e args s ∧ rest_1 tb e args s ∧ Pre_1 tb e args s)
    (fun _ _ args s o t => lw_Q args s o t) := by
  intro p e ha hc hk s m args below hf hfit hheap happ hpre
  obtain ⟨b, xs, hP⟩ := lw_pre_spec hpre.2.2 hpre.2.1
  obtain ⟨k, o, h1, h2, h3, hQ⟩ := lw_walk l b xs p e ha hc hk s m args below hf ((Spec.applies_iff_loose hf).mp happ).1 hP trivial
  exact ⟨k, o, h1, h2, h3, hQ⟩
theorem lw_frame {s t : State} {o : Outcome} {args : Array Value} (h : Framed s o t [] 600000 7290000) :
    Framed s o t (fieldLocs frame_1_writes args s ++ arrayLocs frame_1_arrays args s ++ staticLocs frame_1_statics s) 600000 7290000 := h
theorem lw_limb (L : Cond) (hL : ∀ (args : Array Value) (s t : State), L.after args s (.returned (some (.int 1))) t = true) :
    ArmFor flags0 classFile x code maxLocals ret World_1 tables_1 room_1 Calls_1 rest_1 Pre_1
      (fun tb e a s o t => postC L tb e a s o t ∧ Framed s o t (fieldLocs frame_1_writes a s ++ arrayLocs frame_1_arrays a s ++ staticLocs frame_1_statics s) 600000 7290000) := by
  intro l _ _ _ p e ha hc hk s m args below hf hfit hheap happ hpre
  obtain ⟨k, o, h1, h2, h3, rfl, hF⟩ := lw_comes l p e ha hc hk s m args below hf hfit hheap happ hpre
  exact ⟨k, _, h1, h2, h3, hL args s _, lw_frame hF⟩
theorem i_vc : Claimed_1_1 ∧ Claimed_1_2 := ⟨lw_limb limb_1_1 (fun args s t => by simp [limb_1_1, Cond.after, Cond.holds, Cond.value]), lw_limb limb_1_2 (fun args s t => Cond.after_iff.mpr (by
  first | (rw [show limb_1_2 = Cond.eq .result (.int 1) from rfl, Cond.eq_ints (x := 1) (y := 1) rfl rfl]; simp; done) | (simp [limb_1_2, Cond.value, Term.eval]; done)))⟩
end
