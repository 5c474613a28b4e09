section
-- ===== PART A: goes FIRST, ahead of the names: the tables' words, and 'selects' of the private methods out of them =====
/-- a private method of a class that the tables say can be made, by its rows of tables_1 -/
def lw_okq (q : MethodName × Nat) : Prop := (q.1.cls ≠ "java/lang/invoke/MethodHandle" ∧ q.1.cls ≠ "java/lang/invoke/VarHandle") ∧ Cond.instantiable q.1.cls q.2 ∈ tables_1 ∧ Cond.privateMethod q.1 ∈ tables_1 ∧ Cond.instanceMethod q.1 ∈ tables_1
set_option maxRecDepth 100000
theorem lw_t1 {w : Cond} (h : w ∈ tables_1_1) : w ∈ tables_1 := List.mem_append_left _ h
theorem lw_t2 {w : Cond} (h : w ∈ tables_1_2) : w ∈ tables_1 := List.mem_append_right _ h
theorem lw_p0 : lw_okq (⟨"FpuStackTrans", "forgetBlocks", "()V"⟩, 21) := ⟨⟨by decide +kernel, by decide +kernel⟩, lw_t1 (List.mem_of_getElem? (i := 4) rfl), lw_t1 (List.mem_of_getElem? (i := 12) rfl), lw_t1 (List.mem_of_getElem? (i := 13) rfl)⟩
theorem lw_p1 : lw_okq (⟨"FpuStackTrans", "isInstruction", "(II)Z"⟩, 21) := ⟨⟨by decide +kernel, by decide +kernel⟩, lw_t1 (List.mem_of_getElem? (i := 4) rfl), lw_t1 (List.mem_of_getElem? (i := 87) rfl), lw_t1 (List.mem_of_getElem? (i := 88) rfl)⟩
theorem lw_p2 : lw_okq (⟨"FpuStackTrans", "blockAt", "(II)I"⟩, 21) := ⟨⟨by decide +kernel, by decide +kernel⟩, lw_t1 (List.mem_of_getElem? (i := 4) rfl), lw_t1 (List.mem_of_getElem? (i := 107) rfl), lw_t1 (List.mem_of_getElem? (i := 108) rfl)⟩
theorem lw_p3 : lw_okq (⟨"FpuStackTrans", "translate", "(III)V"⟩, 21) := ⟨⟨by decide +kernel, by decide +kernel⟩, lw_t1 (List.mem_of_getElem? (i := 4) rfl), lw_t1 (List.mem_of_getElem? (i := 111) rfl), lw_t1 (List.mem_of_getElem? (i := 112) rfl)⟩
theorem lw_p4 : lw_okq (⟨"FpuStackTrans", "faults", "(III)Z"⟩, 21) := ⟨⟨by decide +kernel, by decide +kernel⟩, lw_t1 (List.mem_of_getElem? (i := 4) rfl), lw_t1 (List.mem_of_getElem? (i := 115) rfl), lw_t1 (List.mem_of_getElem? (i := 116) rfl)⟩
theorem lw_p5 : lw_okq (⟨"FpuStackTrans", "straighten", "()V"⟩, 21) := ⟨⟨by decide +kernel, by decide +kernel⟩, lw_t1 (List.mem_of_getElem? (i := 4) rfl), lw_t1 (List.mem_of_getElem? (i := 119) rfl), lw_t1 (List.mem_of_getElem? (i := 120) rfl)⟩
theorem lw_p6 : lw_okq (⟨"FpuStackTrans", "write", "(IIII)V"⟩, 21) := ⟨⟨by decide +kernel, by decide +kernel⟩, lw_t1 (List.mem_of_getElem? (i := 4) rfl), lw_t1 (List.mem_of_getElem? (i := 123) rfl), lw_t1 (List.mem_of_getElem? (i := 124) rfl)⟩
theorem lw_p7 : lw_okq (⟨"FpuStackTrans", "translateOne", "(I)Z"⟩, 21) := ⟨⟨by decide +kernel, by decide +kernel⟩, lw_t1 (List.mem_of_getElem? (i := 4) rfl), lw_t1 (List.mem_of_getElem? (i := 127) rfl), lw_t1 (List.mem_of_getElem? (i := 128) rfl)⟩
theorem lw_p8 : lw_okq (⟨"FpuStackTrans", "translateMove", "(II)V"⟩, 21) := ⟨⟨by decide +kernel, by decide +kernel⟩, lw_t1 (List.mem_of_getElem? (i := 4) rfl), lw_t1 (List.mem_of_getElem? (i := 131) rfl), lw_t1 (List.mem_of_getElem? (i := 132) rfl)⟩
theorem lw_p9 : lw_okq (⟨"FpuStackTrans", "freeRegister", "()I"⟩, 21) := ⟨⟨by decide +kernel, by decide +kernel⟩, lw_t1 (List.mem_of_getElem? (i := 4) rfl), lw_t1 (List.mem_of_getElem? (i := 135) rfl), lw_t1 (List.mem_of_getElem? (i := 136) rfl)⟩
theorem lw_p10 : lw_okq (⟨"FpuStackTrans", "translateCombine", "(II)V"⟩, 21) := ⟨⟨by decide +kernel, by decide +kernel⟩, lw_t1 (List.mem_of_getElem? (i := 4) rfl), lw_t1 (List.mem_of_getElem? (i := 139) rfl), lw_t1 (List.mem_of_getElem? (i := 140) rfl)⟩
theorem lw_p11 : lw_okq (⟨"FpuStackTrans", "execute", "(I)V"⟩, 21) := ⟨⟨by decide +kernel, by decide +kernel⟩, lw_t1 (List.mem_of_getElem? (i := 4) rfl), lw_t1 (List.mem_of_getElem? (i := 143) rfl), lw_t1 (List.mem_of_getElem? (i := 144) rfl)⟩
theorem lw_p12 : lw_okq (⟨"FpuStackTrans", "work", "(I)V"⟩, 21) := ⟨⟨by decide +kernel, by decide +kernel⟩, lw_t1 (List.mem_of_getElem? (i := 4) rfl), lw_t1 (List.mem_of_getElem? (i := 147) rfl), lw_t1 (List.mem_of_getElem? (i := 148) rfl)⟩
theorem lw_p13 : lw_okq (⟨"FpuStackTrans", "tryOne", "()V"⟩, 21) := ⟨⟨by decide +kernel, by decide +kernel⟩, lw_t1 (List.mem_of_getElem? (i := 4) rfl), lw_t1 (List.mem_of_getElem? (i := 151) rfl), lw_t1 (List.mem_of_getElem? (i := 152) rfl)⟩
theorem lw_p14 : lw_okq (⟨"FpuStackTrans", "popAndBranch", "(II)I"⟩, 21) := ⟨⟨by decide +kernel, by decide +kernel⟩, lw_t1 (List.mem_of_getElem? (i := 4) rfl), lw_t1 (List.mem_of_getElem? (i := 155) rfl), lw_t1 (List.mem_of_getElem? (i := 156) rfl)⟩
theorem lw_p15 : lw_okq (⟨"FpuStackTrans", "moveOne", "(II)V"⟩, 21) := ⟨⟨by decide +kernel, by decide +kernel⟩, lw_t1 (List.mem_of_getElem? (i := 4) rfl), lw_t1 (List.mem_of_getElem? (i := 159) rfl), lw_t1 (List.mem_of_getElem? (i := 160) rfl)⟩
def lw_privs_1 : List (MethodName × Nat) := [(⟨"FpuStackTrans", "forgetBlocks", "()V"⟩, 21), (⟨"FpuStackTrans", "isInstruction", "(II)Z"⟩, 21), (⟨"FpuStackTrans", "blockAt", "(II)I"⟩, 21), (⟨"FpuStackTrans", "translate", "(III)V"⟩, 21), (⟨"FpuStackTrans", "faults", "(III)Z"⟩, 21), (⟨"FpuStackTrans", "straighten", "()V"⟩, 21), (⟨"FpuStackTrans", "write", "(IIII)V"⟩, 21), (⟨"FpuStackTrans", "translateOne", "(I)Z"⟩, 21), (⟨"FpuStackTrans", "translateMove", "(II)V"⟩, 21), (⟨"FpuStackTrans", "freeRegister", "()I"⟩, 21), (⟨"FpuStackTrans", "translateCombine", "(II)V"⟩, 21), (⟨"FpuStackTrans", "execute", "(I)V"⟩, 21), (⟨"FpuStackTrans", "work", "(I)V"⟩, 21), (⟨"FpuStackTrans", "tryOne", "()V"⟩, 21), (⟨"FpuStackTrans", "popAndBranch", "(II)I"⟩, 21), (⟨"FpuStackTrans", "moveOne", "(II)V"⟩, 21)]
theorem lw_r1 : ∀ q ∈ lw_privs_1, lw_okq q := List.forall_mem_cons.mpr ⟨lw_p0, List.forall_mem_cons.mpr ⟨lw_p1, List.forall_mem_cons.mpr ⟨lw_p2, List.forall_mem_cons.mpr ⟨lw_p3, List.forall_mem_cons.mpr ⟨lw_p4, List.forall_mem_cons.mpr ⟨lw_p5, List.forall_mem_cons.mpr ⟨lw_p6, List.forall_mem_cons.mpr ⟨lw_p7, List.forall_mem_cons.mpr ⟨lw_p8, List.forall_mem_cons.mpr ⟨lw_p9, List.forall_mem_cons.mpr ⟨lw_p10, List.forall_mem_cons.mpr ⟨lw_p11, List.forall_mem_cons.mpr ⟨lw_p12, List.forall_mem_cons.mpr ⟨lw_p13, List.forall_mem_cons.mpr ⟨lw_p14, List.forall_mem_cons.mpr ⟨lw_p15, fun _ h => absurd h List.not_mem_nil⟩⟩⟩⟩⟩⟩⟩⟩⟩⟩⟩⟩⟩⟩⟩⟩
theorem lw_p16 : lw_okq (⟨"FpuStackTrans", "combineOne", "(II)V"⟩, 21) := ⟨⟨by decide +kernel, by decide +kernel⟩, lw_t1 (List.mem_of_getElem? (i := 4) rfl), lw_t1 (List.mem_of_getElem? (i := 163) rfl), lw_t1 (List.mem_of_getElem? (i := 164) rfl)⟩
theorem lw_p17 : lw_okq (⟨"FpuStackTransModel", "fits", "(II)Z"⟩, 9) := ⟨⟨by decide +kernel, by decide +kernel⟩, lw_t1 (List.mem_of_getElem? (i := 187) rfl), lw_t1 (List.mem_of_getElem? (i := 225) rfl), lw_t1 (List.mem_of_getElem? (i := 226) rfl)⟩
theorem lw_p18 : lw_okq (⟨"FpuStackTransModel", "attempt", "()V"⟩, 9) := ⟨⟨by decide +kernel, by decide +kernel⟩, lw_t1 (List.mem_of_getElem? (i := 187) rfl), lw_t2 (List.mem_of_getElem? (i := 5) rfl), lw_t2 (List.mem_of_getElem? (i := 6) rfl)⟩
theorem lw_p19 : lw_okq (⟨"FpuStackTransModel", "faulty", "(II)Z"⟩, 9) := ⟨⟨by decide +kernel, by decide +kernel⟩, lw_t1 (List.mem_of_getElem? (i := 187) rfl), lw_t2 (List.mem_of_getElem? (i := 9) rfl), lw_t2 (List.mem_of_getElem? (i := 10) rfl)⟩
theorem lw_p20 : lw_okq (⟨"FpuStackTransModel", "needs", "(II)I"⟩, 9) := ⟨⟨by decide +kernel, by decide +kernel⟩, lw_t1 (List.mem_of_getElem? (i := 187) rfl), lw_t2 (List.mem_of_getElem? (i := 13) rfl), lw_t2 (List.mem_of_getElem? (i := 14) rfl)⟩
theorem lw_p21 : lw_okq (⟨"FpuStackTransModel", "push", "(I)V"⟩, 9) := ⟨⟨by decide +kernel, by decide +kernel⟩, lw_t1 (List.mem_of_getElem? (i := 187) rfl), lw_t2 (List.mem_of_getElem? (i := 17) rfl), lw_t2 (List.mem_of_getElem? (i := 18) rfl)⟩
theorem lw_p22 : lw_okq (⟨"FpuStackTransModel", "pop", "()I"⟩, 9) := ⟨⟨by decide +kernel, by decide +kernel⟩, lw_t1 (List.mem_of_getElem? (i := 187) rfl), lw_t2 (List.mem_of_getElem? (i := 21) rfl), lw_t2 (List.mem_of_getElem? (i := 22) rfl)⟩
theorem lw_p23 : lw_okq (⟨"FpuStackTransModel", "calculate", "(II)V"⟩, 9) := ⟨⟨by decide +kernel, by decide +kernel⟩, lw_t1 (List.mem_of_getElem? (i := 187) rfl), lw_t2 (List.mem_of_getElem? (i := 25) rfl), lw_t2 (List.mem_of_getElem? (i := 26) rfl)⟩
def lw_privs_2 : List (MethodName × Nat) := [(⟨"FpuStackTrans", "combineOne", "(II)V"⟩, 21), (⟨"FpuStackTransModel", "fits", "(II)Z"⟩, 9), (⟨"FpuStackTransModel", "attempt", "()V"⟩, 9), (⟨"FpuStackTransModel", "faulty", "(II)Z"⟩, 9), (⟨"FpuStackTransModel", "needs", "(II)I"⟩, 9), (⟨"FpuStackTransModel", "push", "(I)V"⟩, 9), (⟨"FpuStackTransModel", "pop", "()I"⟩, 9), (⟨"FpuStackTransModel", "calculate", "(II)V"⟩, 9)]
theorem lw_r2 : ∀ q ∈ lw_privs_2, lw_okq q := List.forall_mem_cons.mpr ⟨lw_p16, List.forall_mem_cons.mpr ⟨lw_p17, List.forall_mem_cons.mpr ⟨lw_p18, List.forall_mem_cons.mpr ⟨lw_p19, List.forall_mem_cons.mpr ⟨lw_p20, List.forall_mem_cons.mpr ⟨lw_p21, List.forall_mem_cons.mpr ⟨lw_p22, List.forall_mem_cons.mpr ⟨lw_p23, fun _ h => absurd h List.not_mem_nil⟩⟩⟩⟩⟩⟩⟩⟩
def lw_privs : List (MethodName × Nat) := lw_privs_1 ++ (lw_privs_2)
def lw_tbl : List Cond := k2_sels lw_privs ++ tables_1
theorem lw_privs_ok : ∀ q ∈ lw_privs, lw_okq q := by
  show ∀ q ∈ lw_privs_1 ++ (lw_privs_2), lw_okq q
  exact List.forall_mem_append.mpr ⟨lw_r1, lw_r2⟩
-- ===== ONE list of words for every method: the tables' words that hold all through a run =====
def lw_all : List Cond := lw_tbl.filter goodWord
/-- a word of the tables by its place: claim/WORDS.tsv -/
theorem lw_w {w : Cond} (i : Nat) (h : lw_tbl[i]? = some w) (g : goodWord w = true) : w ∈ lw_all := List.mem_filter.mpr ⟨List.mem_of_getElem? h, g⟩
theorem lw_all_tbl {w : Cond} (h : w ∈ lw_all) : w ∈ lw_tbl := (List.mem_filter.mp h).1
theorem lw_self : GoodIn lw_all lw_all := fun w h => ⟨h, good_of_word (List.mem_filter.mp h).2⟩
/-- a class's field words, by their places -/
theorem lw_in (ws : List Cond) (ps : List Nat) (hp : ws = ps.filterMap (fun i => lw_tbl[i]?)) (hg : ws.all goodWord = true) : ∀ w ∈ ws, w ∈ lw_all := by
  intro w h
  have h1 := List.all_eq_true.mp hg w h
  rw [hp] at h
  obtain ⟨i, -, hi⟩ := List.mem_filterMap.mp h
  exact lw_w i hi h1
/-- the words of a contract for the method y with code b, L locals, answer r -/
abbrev ws_ (y : MethodName) (b : ByteArray) (L : Nat) (r : Option FieldType) : List Cond := Cond.code y b L r :: lw_all
theorem lw_meth {y : MethodName} {b : ByteArray} {L : Nat} {r : Option FieldType} (h : Cond.code y b L r ∈ lw_all) : GoodIn lw_all (ws_ y b L r) := by
  intro w hw
  rcases List.mem_cons.mp hw with e | e
  · rw [e]
    exact lw_self _ h
  · exact lw_self _ e
theorem lw_app {a c : List Cond} (ha : ∀ w ∈ a, w ∈ lw_all) (hc : GoodIn lw_all c) : GoodIn lw_all (a ++ c) := by
  intro w hw
  rcases List.mem_append.mp hw with e | e
  · exact lw_self w (ha w e)
  · exact hc w e
/-- what a call through an object asks: cwV n hts (lw_V ..) -/
theorem lw_V {own : String} {idx : Nat} {C : String} {y : MethodName} {b : ByteArray} {L : Nat} {r : Option FieldType} (h1 : Cond.methodLink own idx y ∈ lw_all) (h2 : Cond.instanceMethod y ∈ lw_all) (h3 : Cond.selects C y y ∈ lw_all) (h4 : Cond.initialized C ∈ lw_all) (h5 : Cond.code y b L r ∈ lw_all) : GoodIn lw_all (wsV own idx C y (ws_ y b L r)) := by
  refine lw_app ?_ (lw_meth h5)
  intro w hw
  simp only [List.mem_cons, List.not_mem_nil, or_false] at hw
  rcases hw with e | e | e | e
  · rw [e]; exact h1
  · rw [e]; exact h2
  · rw [e]; exact h3
  · rw [e]; exact h4
/-- what a static call asks: va_cwS n hts (lw_S ..) -/
theorem lw_S {own : String} {idx : Nat} {y : MethodName} {b : ByteArray} {L : Nat} {r : Option FieldType} (h1 : Cond.methodLink own idx y ∈ lw_all) (h2 : Cond.static y ∈ lw_all) (h3 : Cond.initialized y.cls ∈ lw_all) (h4 : Cond.code y b L r ∈ lw_all) : GoodIn lw_all (va_wsS own idx y (ws_ y b L r)) := by
  refine lw_app ?_ (lw_meth h4)
  intro w hw
  simp only [List.mem_cons, List.not_mem_nil, or_false] at hw
  rcases hw with e | e | e
  · rw [e]; exact h1
  · rw [e]; exact h2
  · rw [e]; exact h3
/-- the words of a contract for a method WITH HANDLERS (hh: its table) -/
abbrev wsW_ (y : MethodName) (b : ByteArray) (L : Nat) (r : Option FieldType) (hh : List (Nat × Nat × Nat × Nat)) : List Cond := Cond.codeWith y b L r hh :: lw_all
theorem lw_methW {y : MethodName} {b : ByteArray} {L : Nat} {r : Option FieldType} {hh : List (Nat × Nat × Nat × Nat)} (h : Cond.codeWith y b L r hh ∈ lw_all) : GoodIn lw_all (wsW_ y b L r hh) := by
  intro w hw
  rcases List.mem_cons.mp hw with e | e
  · rw [e]
    exact lw_self _ h
  · exact lw_self _ e
/-- any list of words by their places (lw_in), good -/
theorem lw_good {ws : List Cond} (h : ∀ w ∈ ws, w ∈ lw_all) : GoodIn lw_all ws := fun w hw => lw_self w (h w hw)
/-- what a call of a method with handlers asks: vx_cwVW n hts (lw_VW ..), vx_cwSW n hts (lw_SW ..) -/
theorem lw_VW {own : String} {idx : Nat} {C : String} {y : MethodName} {b : ByteArray} {L : Nat} {r : Option FieldType} {hh : List (Nat × Nat × Nat × Nat)} (h1 : Cond.methodLink own idx y ∈ lw_all) (h2 : Cond.instanceMethod y ∈ lw_all) (h3 : Cond.selects C y y ∈ lw_all) (h4 : Cond.initialized C ∈ lw_all) (h5 : Cond.codeWith y b L r hh ∈ lw_all) : GoodIn lw_all (wsV own idx C y (wsW_ y b L r hh)) := by
  refine lw_app ?_ (lw_methW h5)
  intro w hw
  simp only [List.mem_cons, List.not_mem_nil, or_false] at hw
  rcases hw with e | e | e | e
  · rw [e]; exact h1
  · rw [e]; exact h2
  · rw [e]; exact h3
  · rw [e]; exact h4
theorem lw_SW {own : String} {idx : Nat} {y : MethodName} {b : ByteArray} {L : Nat} {r : Option FieldType} {hh : List (Nat × Nat × Nat × Nat)} (h1 : Cond.methodLink own idx y ∈ lw_all) (h2 : Cond.static y ∈ lw_all) (h3 : Cond.initialized y.cls ∈ lw_all) (h4 : Cond.codeWith y b L r hh ∈ lw_all) : GoodIn lw_all (va_wsS own idx y (wsW_ y b L r hh)) := by
  refine lw_app ?_ (lw_methW h4)
  intro w hw
  simp only [List.mem_cons, List.not_mem_nil, or_false] at hw
  rcases hw with e | e | e
  · rw [e]; exact h1
  · rw [e]; exact h2
  · rw [e]; exact h3
/-- a word by its place in its run of the tables -/
theorem lw_at {r : List Cond} (hr : ∀ w ∈ r, w ∈ lw_tbl) {w : Cond} (i : Nat) (h : r[i]? = some w) : w ∈ lw_tbl := hr w (List.mem_of_getElem? h)
theorem lw_g {w : Cond} (h : w ∈ lw_tbl) (g : goodWord w = true) : w ∈ lw_all := List.mem_filter.mpr ⟨h, g⟩
theorem lw_ms : ∀ w ∈ k2_sels lw_privs, w ∈ lw_tbl := fun w h => show w ∈ k2_sels lw_privs ++ tables_1 from List.mem_append_left _ h
theorem lw_m1 : ∀ w ∈ tables_1_1, w ∈ lw_tbl := fun w h => show w ∈ k2_sels lw_privs ++ tables_1 from List.mem_append_right (k2_sels lw_privs) (show w ∈ tables_1 from List.mem_append_left _ h)
theorem lw_m2 : ∀ w ∈ tables_1_2, w ∈ lw_tbl := fun w h => show w ∈ k2_sels lw_privs ++ tables_1 from List.mem_append_right (k2_sels lw_privs) (show w ∈ tables_1 from List.mem_append_right _ h)
theorem qs0 : (Cond.selects "FpuStackTrans" ⟨"FpuStackTrans", "forgetBlocks", "()V"⟩ ⟨"FpuStackTrans", "forgetBlocks", "()V"⟩) ∈ lw_all := lw_g (lw_at lw_ms 0 rfl) rfl
theorem qs1 : (Cond.selects "FpuStackTrans" ⟨"FpuStackTrans", "isInstruction", "(II)Z"⟩ ⟨"FpuStackTrans", "isInstruction", "(II)Z"⟩) ∈ lw_all := lw_g (lw_at lw_ms 1 rfl) rfl
theorem qs2 : (Cond.selects "FpuStackTrans" ⟨"FpuStackTrans", "blockAt", "(II)I"⟩ ⟨"FpuStackTrans", "blockAt", "(II)I"⟩) ∈ lw_all := lw_g (lw_at lw_ms 2 rfl) rfl
theorem qs3 : (Cond.selects "FpuStackTrans" ⟨"FpuStackTrans", "translate", "(III)V"⟩ ⟨"FpuStackTrans", "translate", "(III)V"⟩) ∈ lw_all := lw_g (lw_at lw_ms 3 rfl) rfl
theorem qs4 : (Cond.selects "FpuStackTrans" ⟨"FpuStackTrans", "faults", "(III)Z"⟩ ⟨"FpuStackTrans", "faults", "(III)Z"⟩) ∈ lw_all := lw_g (lw_at lw_ms 4 rfl) rfl
theorem qs5 : (Cond.selects "FpuStackTrans" ⟨"FpuStackTrans", "straighten", "()V"⟩ ⟨"FpuStackTrans", "straighten", "()V"⟩) ∈ lw_all := lw_g (lw_at lw_ms 5 rfl) rfl
theorem qs6 : (Cond.selects "FpuStackTrans" ⟨"FpuStackTrans", "write", "(IIII)V"⟩ ⟨"FpuStackTrans", "write", "(IIII)V"⟩) ∈ lw_all := lw_g (lw_at lw_ms 6 rfl) rfl
theorem qs7 : (Cond.selects "FpuStackTrans" ⟨"FpuStackTrans", "translateOne", "(I)Z"⟩ ⟨"FpuStackTrans", "translateOne", "(I)Z"⟩) ∈ lw_all := lw_g (lw_at lw_ms 7 rfl) rfl
theorem qs8 : (Cond.selects "FpuStackTrans" ⟨"FpuStackTrans", "translateMove", "(II)V"⟩ ⟨"FpuStackTrans", "translateMove", "(II)V"⟩) ∈ lw_all := lw_g (lw_at lw_ms 8 rfl) rfl
theorem qs9 : (Cond.selects "FpuStackTrans" ⟨"FpuStackTrans", "freeRegister", "()I"⟩ ⟨"FpuStackTrans", "freeRegister", "()I"⟩) ∈ lw_all := lw_g (lw_at lw_ms 9 rfl) rfl
theorem qs10 : (Cond.selects "FpuStackTrans" ⟨"FpuStackTrans", "translateCombine", "(II)V"⟩ ⟨"FpuStackTrans", "translateCombine", "(II)V"⟩) ∈ lw_all := lw_g (lw_at lw_ms 10 rfl) rfl
theorem qs11 : (Cond.selects "FpuStackTrans" ⟨"FpuStackTrans", "execute", "(I)V"⟩ ⟨"FpuStackTrans", "execute", "(I)V"⟩) ∈ lw_all := lw_g (lw_at lw_ms 11 rfl) rfl
theorem qs12 : (Cond.selects "FpuStackTrans" ⟨"FpuStackTrans", "work", "(I)V"⟩ ⟨"FpuStackTrans", "work", "(I)V"⟩) ∈ lw_all := lw_g (lw_at lw_ms 12 rfl) rfl
theorem qs13 : (Cond.selects "FpuStackTrans" ⟨"FpuStackTrans", "tryOne", "()V"⟩ ⟨"FpuStackTrans", "tryOne", "()V"⟩) ∈ lw_all := lw_g (lw_at lw_ms 13 rfl) rfl
theorem qs14 : (Cond.selects "FpuStackTrans" ⟨"FpuStackTrans", "popAndBranch", "(II)I"⟩ ⟨"FpuStackTrans", "popAndBranch", "(II)I"⟩) ∈ lw_all := lw_g (lw_at lw_ms 14 rfl) rfl
theorem qs15 : (Cond.selects "FpuStackTrans" ⟨"FpuStackTrans", "moveOne", "(II)V"⟩ ⟨"FpuStackTrans", "moveOne", "(II)V"⟩) ∈ lw_all := lw_g (lw_at lw_ms 15 rfl) rfl
theorem qs16 : (Cond.selects "FpuStackTrans" ⟨"FpuStackTrans", "combineOne", "(II)V"⟩ ⟨"FpuStackTrans", "combineOne", "(II)V"⟩) ∈ lw_all := lw_g (lw_at lw_ms 16 rfl) rfl
theorem qs17 : (Cond.selects "FpuStackTransModel" ⟨"FpuStackTransModel", "fits", "(II)Z"⟩ ⟨"FpuStackTransModel", "fits", "(II)Z"⟩) ∈ lw_all := lw_g (lw_at lw_ms 17 rfl) rfl
theorem qs18 : (Cond.selects "FpuStackTransModel" ⟨"FpuStackTransModel", "attempt", "()V"⟩ ⟨"FpuStackTransModel", "attempt", "()V"⟩) ∈ lw_all := lw_g (lw_at lw_ms 18 rfl) rfl
theorem qs19 : (Cond.selects "FpuStackTransModel" ⟨"FpuStackTransModel", "faulty", "(II)Z"⟩ ⟨"FpuStackTransModel", "faulty", "(II)Z"⟩) ∈ lw_all := lw_g (lw_at lw_ms 19 rfl) rfl
theorem qs20 : (Cond.selects "FpuStackTransModel" ⟨"FpuStackTransModel", "needs", "(II)I"⟩ ⟨"FpuStackTransModel", "needs", "(II)I"⟩) ∈ lw_all := lw_g (lw_at lw_ms 20 rfl) rfl
theorem qs21 : (Cond.selects "FpuStackTransModel" ⟨"FpuStackTransModel", "push", "(I)V"⟩ ⟨"FpuStackTransModel", "push", "(I)V"⟩) ∈ lw_all := lw_g (lw_at lw_ms 21 rfl) rfl
theorem qs22 : (Cond.selects "FpuStackTransModel" ⟨"FpuStackTransModel", "pop", "()I"⟩ ⟨"FpuStackTransModel", "pop", "()I"⟩) ∈ lw_all := lw_g (lw_at lw_ms 22 rfl) rfl
theorem qs23 : (Cond.selects "FpuStackTransModel" ⟨"FpuStackTransModel", "calculate", "(II)V"⟩ ⟨"FpuStackTransModel", "calculate", "(II)V"⟩) ∈ lw_all := lw_g (lw_at lw_ms 23 rfl) rfl
end
section
/-! FpuStackTrans -/
set_option maxRecDepth 100000
def RX0 : String := "FpuStackTrans"
def TX0 : u_T := fun k => match k with
  | 0 => ("FpuStackTrans", "length", "I", false)
  | 1 => ("FpuStackTrans", "operation", "[B", true)
  | 2 => ("FpuStackTrans", "number", "[I", true)
  | 3 => ("FpuStackTrans", "cells", "[I", true)
  | 4 => ("FpuStackTrans", "flat", "[I", true)
  | 5 => ("FpuStackTrans", "height", "I", false)
  | 6 => ("FpuStackTrans", "pc", "I", false)
  | 7 => ("FpuStackTrans", "status", "I", false)
  | 8 => ("FpuStackTrans", "count", "I", false)
  | 9 => ("FpuStackTrans", "blockOf", "[S", true)
  | 10 => ("FpuStackTrans", "blockCount", "I", false)
  | 11 => ("FpuStackTrans", "blockStart", "[S", true)
  | 12 => ("FpuStackTrans", "blockTries", "[B", true)
  | 13 => ("FpuStackTrans", "blockDone", "[B", true)
  | 14 => ("FpuStackTrans", "codeEnd", "I", false)
  | 15 => ("FpuStackTrans", "code", "[B", true)
  | 16 => ("FpuStackTrans", "target", "[B", true)
  | 17 => ("FpuStackTrans", "left", "[B", true)
  | 18 => ("FpuStackTrans", "right", "[I", true)
  | 19 => ("FpuStackTrans", "depthNow", "I", false)
  | _ => ("FpuStackTrans", "home", "[B", true)
def tyX0 : Nat → FieldType := fun k => match k with
  | 0 => .int
  | 1 => .array .byte
  | 2 => .array .int
  | 3 => .array .int
  | 4 => .array .int
  | 5 => .int
  | 6 => .int
  | 7 => .int
  | 8 => .int
  | 9 => .array .short
  | 10 => .int
  | 11 => .array .short
  | 12 => .array .byte
  | 13 => .array .byte
  | 14 => .int
  | 15 => .array .byte
  | 16 => .array .byte
  | 17 => .array .byte
  | 18 => .array .int
  | 19 => .int
  | _ => .array .byte
abbrev wsX00 : List Cond := u_ws RX0 TX0 21
set_option maxRecDepth 100000 in
theorem nmX0 : ∀ a, a < 21 → ∀ b, b < 21 → a ≠ b → (TX0 a).2.1 ≠ (TX0 b).2.1 := by decide +kernel
set_option maxRecDepth 100000 in
theorem tyX0_ok : ∀ k, k < 21 → parseFieldDescriptor (TX0 k).2.2.1 = some (tyX0 k) := by decide +kernel
abbrev cX0_init : ByteArray := prog_1_method_1_code
def yX0_init : MethodName := ⟨RX0, "<init>", "()V"⟩
theorem dX0_init_0 : decode cX0_init 0 = .ok (.aload_n 0, 1) := by decide +kernel
theorem dX0_init_1 : decode cX0_init 1 = .ok (.invokespecial 1, 3) := by decide +kernel
theorem dX0_init_4 : decode cX0_init 4 = .ok (.aload_n 0, 1) := by decide +kernel
theorem dX0_init_5 : decode cX0_init 5 = .ok (.bipush 32, 2) := by decide +kernel
theorem dX0_init_7 : decode cX0_init 7 = .ok (.newarray .byte, 2) := by decide +kernel
theorem dX0_init_9 : decode cX0_init 9 = .ok (.putfield 7, 3) := by decide +kernel
theorem dX0_init_12 : decode cX0_init 12 = .ok (.aload_n 0, 1) := by decide +kernel
theorem dX0_init_13 : decode cX0_init 13 = .ok (.bipush 32, 2) := by decide +kernel
theorem dX0_init_15 : decode cX0_init 15 = .ok (.newarray .int, 2) := by decide +kernel
theorem dX0_init_17 : decode cX0_init 17 = .ok (.putfield 13, 3) := by decide +kernel
theorem dX0_init_20 : decode cX0_init 20 = .ok (.aload_n 0, 1) := by decide +kernel
theorem dX0_init_21 : decode cX0_init 21 = .ok (.bipush 8, 2) := by decide +kernel
theorem dX0_init_23 : decode cX0_init 23 = .ok (.newarray .int, 2) := by decide +kernel
theorem dX0_init_25 : decode cX0_init 25 = .ok (.putfield 17, 3) := by decide +kernel
theorem dX0_init_28 : decode cX0_init 28 = .ok (.aload_n 0, 1) := by decide +kernel
theorem dX0_init_29 : decode cX0_init 29 = .ok (.bipush 10, 2) := by decide +kernel
theorem dX0_init_31 : decode cX0_init 31 = .ok (.newarray .int, 2) := by decide +kernel
theorem dX0_init_33 : decode cX0_init 33 = .ok (.putfield 20, 3) := by decide +kernel
theorem dX0_init_36 : decode cX0_init 36 = .ok (.aload_n 0, 1) := by decide +kernel
theorem dX0_init_37 : decode cX0_init 37 = .ok (.sipush 297, 3) := by decide +kernel
theorem dX0_init_40 : decode cX0_init 40 = .ok (.newarray .short, 2) := by decide +kernel
theorem dX0_init_42 : decode cX0_init 42 = .ok (.putfield 23, 3) := by decide +kernel
theorem dX0_init_45 : decode cX0_init 45 = .ok (.aload_n 0, 1) := by decide +kernel
theorem dX0_init_46 : decode cX0_init 46 = .ok (.bipush 48, 2) := by decide +kernel
theorem dX0_init_48 : decode cX0_init 48 = .ok (.newarray .short, 2) := by decide +kernel
theorem dX0_init_50 : decode cX0_init 50 = .ok (.putfield 27, 3) := by decide +kernel
theorem dX0_init_53 : decode cX0_init 53 = .ok (.aload_n 0, 1) := by decide +kernel
theorem dX0_init_54 : decode cX0_init 54 = .ok (.bipush 48, 2) := by decide +kernel
theorem dX0_init_56 : decode cX0_init 56 = .ok (.newarray .byte, 2) := by decide +kernel
theorem dX0_init_58 : decode cX0_init 58 = .ok (.putfield 30, 3) := by decide +kernel
theorem dX0_init_61 : decode cX0_init 61 = .ok (.aload_n 0, 1) := by decide +kernel
theorem dX0_init_62 : decode cX0_init 62 = .ok (.bipush 48, 2) := by decide +kernel
theorem dX0_init_64 : decode cX0_init 64 = .ok (.newarray .byte, 2) := by decide +kernel
theorem dX0_init_66 : decode cX0_init 66 = .ok (.putfield 33, 3) := by decide +kernel
theorem dX0_init_69 : decode cX0_init 69 = .ok (.aload_n 0, 1) := by decide +kernel
theorem dX0_init_70 : decode cX0_init 70 = .ok (.sipush 640, 3) := by decide +kernel
theorem dX0_init_73 : decode cX0_init 73 = .ok (.newarray .byte, 2) := by decide +kernel
theorem dX0_init_75 : decode cX0_init 75 = .ok (.putfield 36, 3) := by decide +kernel
theorem dX0_init_78 : decode cX0_init 78 = .ok (.aload_n 0, 1) := by decide +kernel
theorem dX0_init_79 : decode cX0_init 79 = .ok (.sipush 640, 3) := by decide +kernel
theorem dX0_init_82 : decode cX0_init 82 = .ok (.newarray .byte, 2) := by decide +kernel
theorem dX0_init_84 : decode cX0_init 84 = .ok (.putfield 39, 3) := by decide +kernel
theorem dX0_init_87 : decode cX0_init 87 = .ok (.aload_n 0, 1) := by decide +kernel
theorem dX0_init_88 : decode cX0_init 88 = .ok (.sipush 640, 3) := by decide +kernel
theorem dX0_init_91 : decode cX0_init 91 = .ok (.newarray .byte, 2) := by decide +kernel
theorem dX0_init_93 : decode cX0_init 93 = .ok (.putfield 42, 3) := by decide +kernel
theorem dX0_init_96 : decode cX0_init 96 = .ok (.aload_n 0, 1) := by decide +kernel
theorem dX0_init_97 : decode cX0_init 97 = .ok (.sipush 640, 3) := by decide +kernel
theorem dX0_init_100 : decode cX0_init 100 = .ok (.newarray .int, 2) := by decide +kernel
theorem dX0_init_102 : decode cX0_init 102 = .ok (.putfield 45, 3) := by decide +kernel
theorem dX0_init_105 : decode cX0_init 105 = .ok (.aload_n 0, 1) := by decide +kernel
theorem dX0_init_106 : decode cX0_init 106 = .ok (.bipush 8, 2) := by decide +kernel
theorem dX0_init_108 : decode cX0_init 108 = .ok (.newarray .byte, 2) := by decide +kernel
theorem dX0_init_110 : decode cX0_init 110 = .ok (.putfield 48, 3) := by decide +kernel
theorem dX0_init_113 : decode cX0_init 113 = .ok (.aload_n 0, 1) := by decide +kernel
theorem dX0_init_114 : decode cX0_init 114 = .ok (.invokevirtual 51, 3) := by decide +kernel
theorem dX0_init_117 : decode cX0_init 117 = .ok (.return_, 1) := by decide +kernel
abbrev cX0_forgetBlocks : ByteArray := prog_1_method_18_code
def yX0_forgetBlocks : MethodName := ⟨RX0, "forgetBlocks", "()V"⟩
theorem dX0_forgetBlocks_0 : decode cX0_forgetBlocks 0 = .ok (.iconst 0, 1) := by decide +kernel
theorem dX0_forgetBlocks_1 : decode cX0_forgetBlocks 1 = .ok (.istore_n 1, 1) := by decide +kernel
theorem dX0_forgetBlocks_2 : decode cX0_forgetBlocks 2 = .ok (.iload_n 1, 1) := by decide +kernel
theorem dX0_forgetBlocks_3 : decode cX0_forgetBlocks 3 = .ok (.sipush 297, 3) := by decide +kernel
theorem dX0_forgetBlocks_6 : decode cX0_forgetBlocks 6 = .ok (.if_icmp .ge 16, 3) := by decide +kernel
theorem dX0_forgetBlocks_9 : decode cX0_forgetBlocks 9 = .ok (.aload_n 0, 1) := by decide +kernel
theorem dX0_forgetBlocks_10 : decode cX0_forgetBlocks 10 = .ok (.getfield 23, 3) := by decide +kernel
theorem dX0_forgetBlocks_13 : decode cX0_forgetBlocks 13 = .ok (.iload_n 1, 1) := by decide +kernel
theorem dX0_forgetBlocks_14 : decode cX0_forgetBlocks 14 = .ok (.iconst (-1), 1) := by decide +kernel
theorem dX0_forgetBlocks_15 : decode cX0_forgetBlocks 15 = .ok (.sastore, 1) := by decide +kernel
theorem dX0_forgetBlocks_16 : decode cX0_forgetBlocks 16 = .ok (.iinc 1 1, 3) := by decide +kernel
theorem dX0_forgetBlocks_19 : decode cX0_forgetBlocks 19 = .ok (.goto (-17), 3) := by decide +kernel
theorem dX0_forgetBlocks_22 : decode cX0_forgetBlocks 22 = .ok (.aload_n 0, 1) := by decide +kernel
theorem dX0_forgetBlocks_23 : decode cX0_forgetBlocks 23 = .ok (.iconst 0, 1) := by decide +kernel
theorem dX0_forgetBlocks_24 : decode cX0_forgetBlocks 24 = .ok (.putfield 99, 3) := by decide +kernel
theorem dX0_forgetBlocks_27 : decode cX0_forgetBlocks 27 = .ok (.aload_n 0, 1) := by decide +kernel
theorem dX0_forgetBlocks_28 : decode cX0_forgetBlocks 28 = .ok (.iconst 0, 1) := by decide +kernel
theorem dX0_forgetBlocks_29 : decode cX0_forgetBlocks 29 = .ok (.putfield 102, 3) := by decide +kernel
theorem dX0_forgetBlocks_32 : decode cX0_forgetBlocks 32 = .ok (.return_, 1) := by decide +kernel
abbrev cX0_emit : ByteArray := prog_1_method_2_code
def yX0_emit : MethodName := ⟨RX0, "emit", "(II)I"⟩
theorem dX0_emit_0 : decode cX0_emit 0 = .ok (.aload_n 0, 1) := by decide +kernel
theorem dX0_emit_1 : decode cX0_emit 1 = .ok (.getfield 54, 3) := by decide +kernel
theorem dX0_emit_4 : decode cX0_emit 4 = .ok (.bipush 32, 2) := by decide +kernel
theorem dX0_emit_6 : decode cX0_emit 6 = .ok (.if_icmp .lt 6, 3) := by decide +kernel
theorem dX0_emit_9 : decode cX0_emit 9 = .ok (.bipush (-2), 2) := by decide +kernel
theorem dX0_emit_11 : decode cX0_emit 11 = .ok (.ireturn, 1) := by decide +kernel
theorem dX0_emit_12 : decode cX0_emit 12 = .ok (.aload_n 0, 1) := by decide +kernel
theorem dX0_emit_13 : decode cX0_emit 13 = .ok (.iload_n 1, 1) := by decide +kernel
theorem dX0_emit_14 : decode cX0_emit 14 = .ok (.iload_n 2, 1) := by decide +kernel
theorem dX0_emit_15 : decode cX0_emit 15 = .ok (.invokevirtual 58, 3) := by decide +kernel
theorem dX0_emit_18 : decode cX0_emit 18 = .ok (.ifCond .ne 5, 3) := by decide +kernel
theorem dX0_emit_21 : decode cX0_emit 21 = .ok (.iconst (-1), 1) := by decide +kernel
theorem dX0_emit_22 : decode cX0_emit 22 = .ok (.ireturn, 1) := by decide +kernel
theorem dX0_emit_23 : decode cX0_emit 23 = .ok (.aload_n 0, 1) := by decide +kernel
theorem dX0_emit_24 : decode cX0_emit 24 = .ok (.getfield 7, 3) := by decide +kernel
theorem dX0_emit_27 : decode cX0_emit 27 = .ok (.aload_n 0, 1) := by decide +kernel
theorem dX0_emit_28 : decode cX0_emit 28 = .ok (.getfield 54, 3) := by decide +kernel
theorem dX0_emit_31 : decode cX0_emit 31 = .ok (.iload_n 1, 1) := by decide +kernel
theorem dX0_emit_32 : decode cX0_emit 32 = .ok (.i2b, 1) := by decide +kernel
theorem dX0_emit_33 : decode cX0_emit 33 = .ok (.bastore, 1) := by decide +kernel
theorem dX0_emit_34 : decode cX0_emit 34 = .ok (.aload_n 0, 1) := by decide +kernel
theorem dX0_emit_35 : decode cX0_emit 35 = .ok (.getfield 13, 3) := by decide +kernel
theorem dX0_emit_38 : decode cX0_emit 38 = .ok (.aload_n 0, 1) := by decide +kernel
theorem dX0_emit_39 : decode cX0_emit 39 = .ok (.getfield 54, 3) := by decide +kernel
theorem dX0_emit_42 : decode cX0_emit 42 = .ok (.iload_n 2, 1) := by decide +kernel
theorem dX0_emit_43 : decode cX0_emit 43 = .ok (.iastore, 1) := by decide +kernel
theorem dX0_emit_44 : decode cX0_emit 44 = .ok (.aload_n 0, 1) := by decide +kernel
theorem dX0_emit_45 : decode cX0_emit 45 = .ok (.dup, 1) := by decide +kernel
theorem dX0_emit_46 : decode cX0_emit 46 = .ok (.getfield 54, 3) := by decide +kernel
theorem dX0_emit_49 : decode cX0_emit 49 = .ok (.iconst 1, 1) := by decide +kernel
theorem dX0_emit_50 : decode cX0_emit 50 = .ok (.iadd, 1) := by decide +kernel
theorem dX0_emit_51 : decode cX0_emit 51 = .ok (.putfield 54, 3) := by decide +kernel
theorem dX0_emit_54 : decode cX0_emit 54 = .ok (.aload_n 0, 1) := by decide +kernel
theorem dX0_emit_55 : decode cX0_emit 55 = .ok (.invokevirtual 51, 3) := by decide +kernel
theorem dX0_emit_58 : decode cX0_emit 58 = .ok (.aload_n 0, 1) := by decide +kernel
theorem dX0_emit_59 : decode cX0_emit 59 = .ok (.getfield 54, 3) := by decide +kernel
theorem dX0_emit_62 : decode cX0_emit 62 = .ok (.ireturn, 1) := by decide +kernel
abbrev cX0_isInstruction : ByteArray := prog_1_method_4_code
def yX0_isInstruction : MethodName := ⟨RX0, "isInstruction", "(II)Z"⟩
theorem dX0_isInstruction_0 : decode cX0_isInstruction 0 = .ok (.iload_n 1, 1) := by decide +kernel
theorem dX0_isInstruction_1 : decode cX0_isInstruction 1 = .ok (.ifCond .lt 9, 3) := by decide +kernel
theorem dX0_isInstruction_4 : decode cX0_isInstruction 4 = .ok (.iload_n 1, 1) := by decide +kernel
theorem dX0_isInstruction_5 : decode cX0_isInstruction 5 = .ok (.bipush 13, 2) := by decide +kernel
theorem dX0_isInstruction_7 : decode cX0_isInstruction 7 = .ok (.if_icmp .le 5, 3) := by decide +kernel
theorem dX0_isInstruction_10 : decode cX0_isInstruction 10 = .ok (.iconst 0, 1) := by decide +kernel
theorem dX0_isInstruction_11 : decode cX0_isInstruction 11 = .ok (.ireturn, 1) := by decide +kernel
theorem dX0_isInstruction_12 : decode cX0_isInstruction 12 = .ok (.iload_n 1, 1) := by decide +kernel
theorem dX0_isInstruction_13 : decode cX0_isInstruction 13 = .ok (.ifCond .eq 9, 3) := by decide +kernel
theorem dX0_isInstruction_16 : decode cX0_isInstruction 16 = .ok (.iload_n 1, 1) := by decide +kernel
theorem dX0_isInstruction_17 : decode cX0_isInstruction 17 = .ok (.bipush 13, 2) := by decide +kernel
theorem dX0_isInstruction_19 : decode cX0_isInstruction 19 = .ok (.if_icmp .ne 5, 3) := by decide +kernel
theorem dX0_isInstruction_22 : decode cX0_isInstruction 22 = .ok (.iconst 1, 1) := by decide +kernel
theorem dX0_isInstruction_23 : decode cX0_isInstruction 23 = .ok (.ireturn, 1) := by decide +kernel
theorem dX0_isInstruction_24 : decode cX0_isInstruction 24 = .ok (.iload_n 1, 1) := by decide +kernel
theorem dX0_isInstruction_25 : decode cX0_isInstruction 25 = .ok (.bipush 10, 2) := by decide +kernel
theorem dX0_isInstruction_27 : decode cX0_isInstruction 27 = .ok (.if_icmp .lt 19, 3) := by decide +kernel
theorem dX0_isInstruction_30 : decode cX0_isInstruction 30 = .ok (.iload_n 2, 1) := by decide +kernel
theorem dX0_isInstruction_31 : decode cX0_isInstruction 31 = .ok (.ifCond .lt 13, 3) := by decide +kernel
theorem dX0_isInstruction_34 : decode cX0_isInstruction 34 = .ok (.iload_n 2, 1) := by decide +kernel
theorem dX0_isInstruction_35 : decode cX0_isInstruction 35 = .ok (.bipush 31, 2) := by decide +kernel
theorem dX0_isInstruction_37 : decode cX0_isInstruction 37 = .ok (.if_icmp .gt 7, 3) := by decide +kernel
theorem dX0_isInstruction_40 : decode cX0_isInstruction 40 = .ok (.iconst 1, 1) := by decide +kernel
theorem dX0_isInstruction_41 : decode cX0_isInstruction 41 = .ok (.goto 4, 3) := by decide +kernel
theorem dX0_isInstruction_44 : decode cX0_isInstruction 44 = .ok (.iconst 0, 1) := by decide +kernel
theorem dX0_isInstruction_45 : decode cX0_isInstruction 45 = .ok (.ireturn, 1) := by decide +kernel
theorem dX0_isInstruction_46 : decode cX0_isInstruction 46 = .ok (.iload_n 1, 1) := by decide +kernel
theorem dX0_isInstruction_47 : decode cX0_isInstruction 47 = .ok (.bipush 8, 2) := by decide +kernel
theorem dX0_isInstruction_49 : decode cX0_isInstruction 49 = .ok (.if_icmp .lt 20, 3) := by decide +kernel
theorem dX0_isInstruction_52 : decode cX0_isInstruction 52 = .ok (.iload_n 2, 1) := by decide +kernel
theorem dX0_isInstruction_53 : decode cX0_isInstruction 53 = .ok (.iconst 1, 1) := by decide +kernel
theorem dX0_isInstruction_54 : decode cX0_isInstruction 54 = .ok (.if_icmp .lt 13, 3) := by decide +kernel
theorem dX0_isInstruction_57 : decode cX0_isInstruction 57 = .ok (.iload_n 2, 1) := by decide +kernel
theorem dX0_isInstruction_58 : decode cX0_isInstruction 58 = .ok (.bipush 7, 2) := by decide +kernel
theorem dX0_isInstruction_60 : decode cX0_isInstruction 60 = .ok (.if_icmp .gt 7, 3) := by decide +kernel
theorem dX0_isInstruction_63 : decode cX0_isInstruction 63 = .ok (.iconst 1, 1) := by decide +kernel
theorem dX0_isInstruction_64 : decode cX0_isInstruction 64 = .ok (.goto 4, 3) := by decide +kernel
theorem dX0_isInstruction_67 : decode cX0_isInstruction 67 = .ok (.iconst 0, 1) := by decide +kernel
theorem dX0_isInstruction_68 : decode cX0_isInstruction 68 = .ok (.ireturn, 1) := by decide +kernel
theorem dX0_isInstruction_69 : decode cX0_isInstruction 69 = .ok (.iload_n 2, 1) := by decide +kernel
theorem dX0_isInstruction_70 : decode cX0_isInstruction 70 = .ok (.ifCond .lt 13, 3) := by decide +kernel
theorem dX0_isInstruction_73 : decode cX0_isInstruction 73 = .ok (.iload_n 2, 1) := by decide +kernel
theorem dX0_isInstruction_74 : decode cX0_isInstruction 74 = .ok (.bipush 7, 2) := by decide +kernel
theorem dX0_isInstruction_76 : decode cX0_isInstruction 76 = .ok (.if_icmp .gt 7, 3) := by decide +kernel
theorem dX0_isInstruction_79 : decode cX0_isInstruction 79 = .ok (.iconst 1, 1) := by decide +kernel
theorem dX0_isInstruction_80 : decode cX0_isInstruction 80 = .ok (.goto 4, 3) := by decide +kernel
theorem dX0_isInstruction_83 : decode cX0_isInstruction 83 = .ok (.iconst 0, 1) := by decide +kernel
theorem dX0_isInstruction_84 : decode cX0_isInstruction 84 = .ok (.ireturn, 1) := by decide +kernel
abbrev cX0_patch : ByteArray := prog_1_method_3_code
def yX0_patch : MethodName := ⟨RX0, "patch", "(III)I"⟩
theorem dX0_patch_0 : decode cX0_patch 0 = .ok (.iload_n 1, 1) := by decide +kernel
theorem dX0_patch_1 : decode cX0_patch 1 = .ok (.ifCond .lt 20, 3) := by decide +kernel
theorem dX0_patch_4 : decode cX0_patch 4 = .ok (.iload_n 1, 1) := by decide +kernel
theorem dX0_patch_5 : decode cX0_patch 5 = .ok (.aload_n 0, 1) := by decide +kernel
theorem dX0_patch_6 : decode cX0_patch 6 = .ok (.getfield 54, 3) := by decide +kernel
theorem dX0_patch_9 : decode cX0_patch 9 = .ok (.if_icmp .ge 12, 3) := by decide +kernel
theorem dX0_patch_12 : decode cX0_patch 12 = .ok (.aload_n 0, 1) := by decide +kernel
theorem dX0_patch_13 : decode cX0_patch 13 = .ok (.iload_n 2, 1) := by decide +kernel
theorem dX0_patch_14 : decode cX0_patch 14 = .ok (.iload_n 3, 1) := by decide +kernel
theorem dX0_patch_15 : decode cX0_patch 15 = .ok (.invokevirtual 58, 3) := by decide +kernel
theorem dX0_patch_18 : decode cX0_patch 18 = .ok (.ifCond .ne 5, 3) := by decide +kernel
theorem dX0_patch_21 : decode cX0_patch 21 = .ok (.iconst (-1), 1) := by decide +kernel
theorem dX0_patch_22 : decode cX0_patch 22 = .ok (.ireturn, 1) := by decide +kernel
theorem dX0_patch_23 : decode cX0_patch 23 = .ok (.aload_n 0, 1) := by decide +kernel
theorem dX0_patch_24 : decode cX0_patch 24 = .ok (.getfield 7, 3) := by decide +kernel
theorem dX0_patch_27 : decode cX0_patch 27 = .ok (.iload_n 1, 1) := by decide +kernel
theorem dX0_patch_28 : decode cX0_patch 28 = .ok (.iload_n 2, 1) := by decide +kernel
theorem dX0_patch_29 : decode cX0_patch 29 = .ok (.i2b, 1) := by decide +kernel
theorem dX0_patch_30 : decode cX0_patch 30 = .ok (.bastore, 1) := by decide +kernel
theorem dX0_patch_31 : decode cX0_patch 31 = .ok (.aload_n 0, 1) := by decide +kernel
theorem dX0_patch_32 : decode cX0_patch 32 = .ok (.getfield 13, 3) := by decide +kernel
theorem dX0_patch_35 : decode cX0_patch 35 = .ok (.iload_n 1, 1) := by decide +kernel
theorem dX0_patch_36 : decode cX0_patch 36 = .ok (.iload_n 3, 1) := by decide +kernel
theorem dX0_patch_37 : decode cX0_patch 37 = .ok (.iastore, 1) := by decide +kernel
theorem dX0_patch_38 : decode cX0_patch 38 = .ok (.aload_n 0, 1) := by decide +kernel
theorem dX0_patch_39 : decode cX0_patch 39 = .ok (.invokevirtual 51, 3) := by decide +kernel
theorem dX0_patch_42 : decode cX0_patch 42 = .ok (.aload_n 0, 1) := by decide +kernel
theorem dX0_patch_43 : decode cX0_patch 43 = .ok (.getfield 54, 3) := by decide +kernel
theorem dX0_patch_46 : decode cX0_patch 46 = .ok (.ireturn, 1) := by decide +kernel
abbrev cX0_poke : ByteArray := prog_1_method_5_code
def yX0_poke : MethodName := ⟨RX0, "poke", "(II)Z"⟩
theorem dX0_poke_0 : decode cX0_poke 0 = .ok (.iload_n 1, 1) := by decide +kernel
theorem dX0_poke_1 : decode cX0_poke 1 = .ok (.ifCond .lt 9, 3) := by decide +kernel
theorem dX0_poke_4 : decode cX0_poke 4 = .ok (.iload_n 1, 1) := by decide +kernel
theorem dX0_poke_5 : decode cX0_poke 5 = .ok (.bipush 7, 2) := by decide +kernel
theorem dX0_poke_7 : decode cX0_poke 7 = .ok (.if_icmp .le 5, 3) := by decide +kernel
theorem dX0_poke_10 : decode cX0_poke 10 = .ok (.iconst 0, 1) := by decide +kernel
theorem dX0_poke_11 : decode cX0_poke 11 = .ok (.ireturn, 1) := by decide +kernel
theorem dX0_poke_12 : decode cX0_poke 12 = .ok (.aload_n 0, 1) := by decide +kernel
theorem dX0_poke_13 : decode cX0_poke 13 = .ok (.getfield 17, 3) := by decide +kernel
theorem dX0_poke_16 : decode cX0_poke 16 = .ok (.iload_n 1, 1) := by decide +kernel
theorem dX0_poke_17 : decode cX0_poke 17 = .ok (.iload_n 2, 1) := by decide +kernel
theorem dX0_poke_18 : decode cX0_poke 18 = .ok (.iastore, 1) := by decide +kernel
theorem dX0_poke_19 : decode cX0_poke 19 = .ok (.iconst 1, 1) := by decide +kernel
theorem dX0_poke_20 : decode cX0_poke 20 = .ok (.ireturn, 1) := by decide +kernel
abbrev cX0_start : ByteArray := prog_1_method_6_code
def yX0_start : MethodName := ⟨RX0, "start", "()V"⟩
theorem dX0_start_0 : decode cX0_start 0 = .ok (.aload_n 0, 1) := by decide +kernel
theorem dX0_start_1 : decode cX0_start 1 = .ok (.iconst 0, 1) := by decide +kernel
theorem dX0_start_2 : decode cX0_start 2 = .ok (.putfield 62, 3) := by decide +kernel
theorem dX0_start_5 : decode cX0_start 5 = .ok (.aload_n 0, 1) := by decide +kernel
theorem dX0_start_6 : decode cX0_start 6 = .ok (.iconst 0, 1) := by decide +kernel
theorem dX0_start_7 : decode cX0_start 7 = .ok (.putfield 65, 3) := by decide +kernel
theorem dX0_start_10 : decode cX0_start 10 = .ok (.aload_n 0, 1) := by decide +kernel
theorem dX0_start_11 : decode cX0_start 11 = .ok (.iconst 0, 1) := by decide +kernel
theorem dX0_start_12 : decode cX0_start 12 = .ok (.putfield 68, 3) := by decide +kernel
theorem dX0_start_15 : decode cX0_start 15 = .ok (.aload_n 0, 1) := by decide +kernel
theorem dX0_start_16 : decode cX0_start 16 = .ok (.iconst 0, 1) := by decide +kernel
theorem dX0_start_17 : decode cX0_start 17 = .ok (.putfield 71, 3) := by decide +kernel
theorem dX0_start_20 : decode cX0_start 20 = .ok (.return_, 1) := by decide +kernel
abbrev cX0_run : ByteArray := prog_1_method_7_code
def yX0_run : MethodName := ⟨RX0, "run", "(I)I"⟩
theorem dX0_run_0 : decode cX0_run 0 = .ok (.iload_n 1, 1) := by decide +kernel
theorem dX0_run_1 : decode cX0_run 1 = .ok (.ifCond .ge 7, 3) := by decide +kernel
theorem dX0_run_4 : decode cX0_run 4 = .ok (.iconst 0, 1) := by decide +kernel
theorem dX0_run_5 : decode cX0_run 5 = .ok (.goto 17, 3) := by decide +kernel
theorem dX0_run_8 : decode cX0_run 8 = .ok (.iload_n 1, 1) := by decide +kernel
theorem dX0_run_9 : decode cX0_run 9 = .ok (.sipush 200, 3) := by decide +kernel
theorem dX0_run_12 : decode cX0_run 12 = .ok (.if_icmp .le 9, 3) := by decide +kernel
theorem dX0_run_15 : decode cX0_run 15 = .ok (.sipush 200, 3) := by decide +kernel
theorem dX0_run_18 : decode cX0_run 18 = .ok (.goto 4, 3) := by decide +kernel
theorem dX0_run_21 : decode cX0_run 21 = .ok (.iload_n 1, 1) := by decide +kernel
theorem dX0_run_22 : decode cX0_run 22 = .ok (.istore_n 2, 1) := by decide +kernel
theorem dX0_run_23 : decode cX0_run 23 = .ok (.iload_n 2, 1) := by decide +kernel
theorem dX0_run_24 : decode cX0_run 24 = .ok (.ifCond .le 80, 3) := by decide +kernel
theorem dX0_run_27 : decode cX0_run 27 = .ok (.aload_n 0, 1) := by decide +kernel
theorem dX0_run_28 : decode cX0_run 28 = .ok (.getfield 71, 3) := by decide +kernel
theorem dX0_run_31 : decode cX0_run 31 = .ok (.ifCond .ne 73, 3) := by decide +kernel
theorem dX0_run_34 : decode cX0_run 34 = .ok (.aload_n 0, 1) := by decide +kernel
theorem dX0_run_35 : decode cX0_run 35 = .ok (.aload_n 0, 1) := by decide +kernel
theorem dX0_run_36 : decode cX0_run 36 = .ok (.getfield 65, 3) := by decide +kernel
theorem dX0_run_39 : decode cX0_run 39 = .ok (.aload_n 0, 1) := by decide +kernel
theorem dX0_run_40 : decode cX0_run 40 = .ok (.getfield 62, 3) := by decide +kernel
theorem dX0_run_43 : decode cX0_run 43 = .ok (.invokevirtual 74, 3) := by decide +kernel
theorem dX0_run_46 : decode cX0_run 46 = .ok (.istore_n 3, 1) := by decide +kernel
theorem dX0_run_47 : decode cX0_run 47 = .ok (.aload_n 0, 1) := by decide +kernel
theorem dX0_run_48 : decode cX0_run 48 = .ok (.getfield 30, 3) := by decide +kernel
theorem dX0_run_51 : decode cX0_run 51 = .ok (.iload_n 3, 1) := by decide +kernel
theorem dX0_run_52 : decode cX0_run 52 = .ok (.baload, 1) := by decide +kernel
theorem dX0_run_53 : decode cX0_run 53 = .ok (.iload_n 2, 1) := by decide +kernel
theorem dX0_run_54 : decode cX0_run 54 = .ok (.if_icmp .gt 40, 3) := by decide +kernel
theorem dX0_run_57 : decode cX0_run 57 = .ok (.iload_n 2, 1) := by decide +kernel
theorem dX0_run_58 : decode cX0_run 58 = .ok (.aload_n 0, 1) := by decide +kernel
theorem dX0_run_59 : decode cX0_run 59 = .ok (.getfield 30, 3) := by decide +kernel
theorem dX0_run_62 : decode cX0_run 62 = .ok (.iload_n 3, 1) := by decide +kernel
theorem dX0_run_63 : decode cX0_run 63 = .ok (.baload, 1) := by decide +kernel
theorem dX0_run_64 : decode cX0_run 64 = .ok (.isub, 1) := by decide +kernel
theorem dX0_run_65 : decode cX0_run 65 = .ok (.istore_n 2, 1) := by decide +kernel
theorem dX0_run_66 : decode cX0_run 66 = .ok (.aload_n 0, 1) := by decide +kernel
theorem dX0_run_67 : decode cX0_run 67 = .ok (.dup, 1) := by decide +kernel
theorem dX0_run_68 : decode cX0_run 68 = .ok (.getfield 68, 3) := by decide +kernel
theorem dX0_run_71 : decode cX0_run 71 = .ok (.aload_n 0, 1) := by decide +kernel
theorem dX0_run_72 : decode cX0_run 72 = .ok (.getfield 33, 3) := by decide +kernel
theorem dX0_run_75 : decode cX0_run 75 = .ok (.iload_n 3, 1) := by decide +kernel
theorem dX0_run_76 : decode cX0_run 76 = .ok (.baload, 1) := by decide +kernel
theorem dX0_run_77 : decode cX0_run 77 = .ok (.iadd, 1) := by decide +kernel
theorem dX0_run_78 : decode cX0_run 78 = .ok (.putfield 68, 3) := by decide +kernel
theorem dX0_run_81 : decode cX0_run 81 = .ok (.aload_n 0, 1) := by decide +kernel
theorem dX0_run_82 : decode cX0_run 82 = .ok (.aload_n 0, 1) := by decide +kernel
theorem dX0_run_83 : decode cX0_run 83 = .ok (.getfield 27, 3) := by decide +kernel
theorem dX0_run_86 : decode cX0_run 86 = .ok (.iload_n 3, 1) := by decide +kernel
theorem dX0_run_87 : decode cX0_run 87 = .ok (.saload, 1) := by decide +kernel
theorem dX0_run_88 : decode cX0_run 88 = .ok (.invokevirtual 78, 3) := by decide +kernel
theorem dX0_run_91 : decode cX0_run 91 = .ok (.goto 10, 3) := by decide +kernel
theorem dX0_run_94 : decode cX0_run 94 = .ok (.iinc 2 (-1), 3) := by decide +kernel
theorem dX0_run_97 : decode cX0_run 97 = .ok (.aload_n 0, 1) := by decide +kernel
theorem dX0_run_98 : decode cX0_run 98 = .ok (.invokevirtual 82, 3) := by decide +kernel
theorem dX0_run_101 : decode cX0_run 101 = .ok (.goto (-78), 3) := by decide +kernel
theorem dX0_run_104 : decode cX0_run 104 = .ok (.aload_n 0, 1) := by decide +kernel
theorem dX0_run_105 : decode cX0_run 105 = .ok (.getfield 71, 3) := by decide +kernel
theorem dX0_run_108 : decode cX0_run 108 = .ok (.ireturn, 1) := by decide +kernel
abbrev cX0_blockAt : ByteArray := prog_1_method_19_code
def yX0_blockAt : MethodName := ⟨RX0, "blockAt", "(II)I"⟩
theorem dX0_blockAt_0 : decode cX0_blockAt 0 = .ok (.bipush 9, 2) := by decide +kernel
theorem dX0_blockAt_2 : decode cX0_blockAt 2 = .ok (.iload_n 1, 1) := by decide +kernel
theorem dX0_blockAt_3 : decode cX0_blockAt 3 = .ok (.imul, 1) := by decide +kernel
theorem dX0_blockAt_4 : decode cX0_blockAt 4 = .ok (.iload_n 2, 1) := by decide +kernel
theorem dX0_blockAt_5 : decode cX0_blockAt 5 = .ok (.iadd, 1) := by decide +kernel
theorem dX0_blockAt_6 : decode cX0_blockAt 6 = .ok (.istore_n 3, 1) := by decide +kernel
theorem dX0_blockAt_7 : decode cX0_blockAt 7 = .ok (.aload_n 0, 1) := by decide +kernel
theorem dX0_blockAt_8 : decode cX0_blockAt 8 = .ok (.getfield 23, 3) := by decide +kernel
theorem dX0_blockAt_11 : decode cX0_blockAt 11 = .ok (.iload_n 3, 1) := by decide +kernel
theorem dX0_blockAt_12 : decode cX0_blockAt 12 = .ok (.saload, 1) := by decide +kernel
theorem dX0_blockAt_13 : decode cX0_blockAt 13 = .ok (.ifCond .lt 10, 3) := by decide +kernel
theorem dX0_blockAt_16 : decode cX0_blockAt 16 = .ok (.aload_n 0, 1) := by decide +kernel
theorem dX0_blockAt_17 : decode cX0_blockAt 17 = .ok (.getfield 23, 3) := by decide +kernel
theorem dX0_blockAt_20 : decode cX0_blockAt 20 = .ok (.iload_n 3, 1) := by decide +kernel
theorem dX0_blockAt_21 : decode cX0_blockAt 21 = .ok (.saload, 1) := by decide +kernel
theorem dX0_blockAt_22 : decode cX0_blockAt 22 = .ok (.ireturn, 1) := by decide +kernel
theorem dX0_blockAt_23 : decode cX0_blockAt 23 = .ok (.aload_n 0, 1) := by decide +kernel
theorem dX0_blockAt_24 : decode cX0_blockAt 24 = .ok (.getfield 99, 3) := by decide +kernel
theorem dX0_blockAt_27 : decode cX0_blockAt 27 = .ok (.bipush 48, 2) := by decide +kernel
theorem dX0_blockAt_29 : decode cX0_blockAt 29 = .ok (.if_icmp .ge 13, 3) := by decide +kernel
theorem dX0_blockAt_32 : decode cX0_blockAt 32 = .ok (.aload_n 0, 1) := by decide +kernel
theorem dX0_blockAt_33 : decode cX0_blockAt 33 = .ok (.getfield 102, 3) := by decide +kernel
theorem dX0_blockAt_36 : decode cX0_blockAt 36 = .ok (.sipush 600, 3) := by decide +kernel
theorem dX0_blockAt_39 : decode cX0_blockAt 39 = .ok (.if_icmp .le 7, 3) := by decide +kernel
theorem dX0_blockAt_42 : decode cX0_blockAt 42 = .ok (.aload_n 0, 1) := by decide +kernel
theorem dX0_blockAt_43 : decode cX0_blockAt 43 = .ok (.invokevirtual 51, 3) := by decide +kernel
theorem dX0_blockAt_46 : decode cX0_blockAt 46 = .ok (.aload_n 0, 1) := by decide +kernel
theorem dX0_blockAt_47 : decode cX0_blockAt 47 = .ok (.getfield 99, 3) := by decide +kernel
theorem dX0_blockAt_50 : decode cX0_blockAt 50 = .ok (.istore 4, 2) := by decide +kernel
theorem dX0_blockAt_52 : decode cX0_blockAt 52 = .ok (.aload_n 0, 1) := by decide +kernel
theorem dX0_blockAt_53 : decode cX0_blockAt 53 = .ok (.dup, 1) := by decide +kernel
theorem dX0_blockAt_54 : decode cX0_blockAt 54 = .ok (.getfield 99, 3) := by decide +kernel
theorem dX0_blockAt_57 : decode cX0_blockAt 57 = .ok (.iconst 1, 1) := by decide +kernel
theorem dX0_blockAt_58 : decode cX0_blockAt 58 = .ok (.iadd, 1) := by decide +kernel
theorem dX0_blockAt_59 : decode cX0_blockAt 59 = .ok (.putfield 99, 3) := by decide +kernel
theorem dX0_blockAt_62 : decode cX0_blockAt 62 = .ok (.aload_n 0, 1) := by decide +kernel
theorem dX0_blockAt_63 : decode cX0_blockAt 63 = .ok (.getfield 23, 3) := by decide +kernel
theorem dX0_blockAt_66 : decode cX0_blockAt 66 = .ok (.iload_n 3, 1) := by decide +kernel
theorem dX0_blockAt_67 : decode cX0_blockAt 67 = .ok (.iload 4, 2) := by decide +kernel
theorem dX0_blockAt_69 : decode cX0_blockAt 69 = .ok (.i2s, 1) := by decide +kernel
theorem dX0_blockAt_70 : decode cX0_blockAt 70 = .ok (.sastore, 1) := by decide +kernel
theorem dX0_blockAt_71 : decode cX0_blockAt 71 = .ok (.aload_n 0, 1) := by decide +kernel
theorem dX0_blockAt_72 : decode cX0_blockAt 72 = .ok (.getfield 27, 3) := by decide +kernel
theorem dX0_blockAt_75 : decode cX0_blockAt 75 = .ok (.iload 4, 2) := by decide +kernel
theorem dX0_blockAt_77 : decode cX0_blockAt 77 = .ok (.aload_n 0, 1) := by decide +kernel
theorem dX0_blockAt_78 : decode cX0_blockAt 78 = .ok (.getfield 102, 3) := by decide +kernel
theorem dX0_blockAt_81 : decode cX0_blockAt 81 = .ok (.i2s, 1) := by decide +kernel
theorem dX0_blockAt_82 : decode cX0_blockAt 82 = .ok (.sastore, 1) := by decide +kernel
theorem dX0_blockAt_83 : decode cX0_blockAt 83 = .ok (.aload_n 0, 1) := by decide +kernel
theorem dX0_blockAt_84 : decode cX0_blockAt 84 = .ok (.iload 4, 2) := by decide +kernel
theorem dX0_blockAt_86 : decode cX0_blockAt 86 = .ok (.iload_n 1, 1) := by decide +kernel
theorem dX0_blockAt_87 : decode cX0_blockAt 87 = .ok (.iload_n 2, 1) := by decide +kernel
theorem dX0_blockAt_88 : decode cX0_blockAt 88 = .ok (.invokevirtual 105, 3) := by decide +kernel
theorem dX0_blockAt_91 : decode cX0_blockAt 91 = .ok (.iload 4, 2) := by decide +kernel
theorem dX0_blockAt_93 : decode cX0_blockAt 93 = .ok (.ireturn, 1) := by decide +kernel
abbrev cX0_translate : ByteArray := prog_1_method_20_code
def yX0_translate : MethodName := ⟨RX0, "translate", "(III)V"⟩
theorem dX0_translate_0 : decode cX0_translate 0 = .ok (.aload_n 0, 1) := by decide +kernel
theorem dX0_translate_1 : decode cX0_translate 1 = .ok (.iload_n 3, 1) := by decide +kernel
theorem dX0_translate_2 : decode cX0_translate 2 = .ok (.putfield 109, 3) := by decide +kernel
theorem dX0_translate_5 : decode cX0_translate 5 = .ok (.iconst 0, 1) := by decide +kernel
theorem dX0_translate_6 : decode cX0_translate 6 = .ok (.istore 4, 2) := by decide +kernel
theorem dX0_translate_8 : decode cX0_translate 8 = .ok (.iload 4, 2) := by decide +kernel
theorem dX0_translate_10 : decode cX0_translate 10 = .ok (.bipush 8, 2) := by decide +kernel
theorem dX0_translate_12 : decode cX0_translate 12 = .ok (.if_icmp .ge 19, 3) := by decide +kernel
theorem dX0_translate_15 : decode cX0_translate 15 = .ok (.aload_n 0, 1) := by decide +kernel
theorem dX0_translate_16 : decode cX0_translate 16 = .ok (.getfield 48, 3) := by decide +kernel
theorem dX0_translate_19 : decode cX0_translate 19 = .ok (.iload 4, 2) := by decide +kernel
theorem dX0_translate_21 : decode cX0_translate 21 = .ok (.iload 4, 2) := by decide +kernel
theorem dX0_translate_23 : decode cX0_translate 23 = .ok (.i2b, 1) := by decide +kernel
theorem dX0_translate_24 : decode cX0_translate 24 = .ok (.bastore, 1) := by decide +kernel
theorem dX0_translate_25 : decode cX0_translate 25 = .ok (.iinc 4 1, 3) := by decide +kernel
theorem dX0_translate_28 : decode cX0_translate 28 = .ok (.goto (-20), 3) := by decide +kernel
theorem dX0_translate_31 : decode cX0_translate 31 = .ok (.iload_n 2, 1) := by decide +kernel
theorem dX0_translate_32 : decode cX0_translate 32 = .ok (.istore 4, 2) := by decide +kernel
theorem dX0_translate_34 : decode cX0_translate 34 = .ok (.iconst 0, 1) := by decide +kernel
theorem dX0_translate_35 : decode cX0_translate 35 = .ok (.istore 5, 2) := by decide +kernel
theorem dX0_translate_37 : decode cX0_translate 37 = .ok (.iconst 1, 1) := by decide +kernel
theorem dX0_translate_38 : decode cX0_translate 38 = .ok (.istore 6, 2) := by decide +kernel
theorem dX0_translate_40 : decode cX0_translate 40 = .ok (.iconst 0, 1) := by decide +kernel
theorem dX0_translate_41 : decode cX0_translate 41 = .ok (.istore 7, 2) := by decide +kernel
theorem dX0_translate_43 : decode cX0_translate 43 = .ok (.iload 6, 2) := by decide +kernel
theorem dX0_translate_45 : decode cX0_translate 45 = .ok (.ifCond .eq 87, 3) := by decide +kernel
theorem dX0_translate_48 : decode cX0_translate 48 = .ok (.iload 5, 2) := by decide +kernel
theorem dX0_translate_50 : decode cX0_translate 50 = .ok (.bipush 12, 2) := by decide +kernel
theorem dX0_translate_52 : decode cX0_translate 52 = .ok (.if_icmp .ge 80, 3) := by decide +kernel
theorem dX0_translate_55 : decode cX0_translate 55 = .ok (.iload 4, 2) := by decide +kernel
theorem dX0_translate_57 : decode cX0_translate 57 = .ok (.aload_n 0, 1) := by decide +kernel
theorem dX0_translate_58 : decode cX0_translate 58 = .ok (.getfield 54, 3) := by decide +kernel
theorem dX0_translate_61 : decode cX0_translate 61 = .ok (.if_icmp .ge 28, 3) := by decide +kernel
theorem dX0_translate_64 : decode cX0_translate 64 = .ok (.aload_n 0, 1) := by decide +kernel
theorem dX0_translate_65 : decode cX0_translate 65 = .ok (.aload_n 0, 1) := by decide +kernel
theorem dX0_translate_66 : decode cX0_translate 66 = .ok (.getfield 7, 3) := by decide +kernel
theorem dX0_translate_69 : decode cX0_translate 69 = .ok (.iload 4, 2) := by decide +kernel
theorem dX0_translate_71 : decode cX0_translate 71 = .ok (.baload, 1) := by decide +kernel
theorem dX0_translate_72 : decode cX0_translate 72 = .ok (.aload_n 0, 1) := by decide +kernel
theorem dX0_translate_73 : decode cX0_translate 73 = .ok (.getfield 13, 3) := by decide +kernel
theorem dX0_translate_76 : decode cX0_translate 76 = .ok (.iload 4, 2) := by decide +kernel
theorem dX0_translate_78 : decode cX0_translate 78 = .ok (.iaload, 1) := by decide +kernel
theorem dX0_translate_79 : decode cX0_translate 79 = .ok (.aload_n 0, 1) := by decide +kernel
theorem dX0_translate_80 : decode cX0_translate 80 = .ok (.getfield 109, 3) := by decide +kernel
theorem dX0_translate_83 : decode cX0_translate 83 = .ok (.invokevirtual 85, 3) := by decide +kernel
theorem dX0_translate_86 : decode cX0_translate 86 = .ok (.ifCond .eq 29, 3) := by decide +kernel
theorem dX0_translate_89 : decode cX0_translate 89 = .ok (.aload_n 0, 1) := by decide +kernel
theorem dX0_translate_90 : decode cX0_translate 90 = .ok (.invokevirtual 112, 3) := by decide +kernel
theorem dX0_translate_93 : decode cX0_translate 93 = .ok (.aload_n 0, 1) := by decide +kernel
theorem dX0_translate_94 : decode cX0_translate 94 = .ok (.bipush 11, 2) := by decide +kernel
theorem dX0_translate_96 : decode cX0_translate 96 = .ok (.iload 4, 2) := by decide +kernel
theorem dX0_translate_98 : decode cX0_translate 98 = .ok (.aload_n 0, 1) := by decide +kernel
theorem dX0_translate_99 : decode cX0_translate 99 = .ok (.getfield 109, 3) := by decide +kernel
theorem dX0_translate_102 : decode cX0_translate 102 = .ok (.iconst 0, 1) := by decide +kernel
theorem dX0_translate_103 : decode cX0_translate 103 = .ok (.invokevirtual 115, 3) := by decide +kernel
theorem dX0_translate_106 : decode cX0_translate 106 = .ok (.iconst 1, 1) := by decide +kernel
theorem dX0_translate_107 : decode cX0_translate 107 = .ok (.istore 7, 2) := by decide +kernel
theorem dX0_translate_109 : decode cX0_translate 109 = .ok (.iconst 0, 1) := by decide +kernel
theorem dX0_translate_110 : decode cX0_translate 110 = .ok (.istore 6, 2) := by decide +kernel
theorem dX0_translate_112 : decode cX0_translate 112 = .ok (.goto (-69), 3) := by decide +kernel
theorem dX0_translate_115 : decode cX0_translate 115 = .ok (.iinc 5 1, 3) := by decide +kernel
theorem dX0_translate_118 : decode cX0_translate 118 = .ok (.aload_n 0, 1) := by decide +kernel
theorem dX0_translate_119 : decode cX0_translate 119 = .ok (.iload 4, 2) := by decide +kernel
theorem dX0_translate_121 : decode cX0_translate 121 = .ok (.invokevirtual 119, 3) := by decide +kernel
theorem dX0_translate_124 : decode cX0_translate 124 = .ok (.istore 6, 2) := by decide +kernel
theorem dX0_translate_126 : decode cX0_translate 126 = .ok (.iinc 4 1, 3) := by decide +kernel
theorem dX0_translate_129 : decode cX0_translate 129 = .ok (.goto (-86), 3) := by decide +kernel
theorem dX0_translate_132 : decode cX0_translate 132 = .ok (.iload 6, 2) := by decide +kernel
theorem dX0_translate_134 : decode cX0_translate 134 = .ok (.ifCond .eq 20, 3) := by decide +kernel
theorem dX0_translate_137 : decode cX0_translate 137 = .ok (.aload_n 0, 1) := by decide +kernel
theorem dX0_translate_138 : decode cX0_translate 138 = .ok (.invokevirtual 112, 3) := by decide +kernel
theorem dX0_translate_141 : decode cX0_translate 141 = .ok (.aload_n 0, 1) := by decide +kernel
theorem dX0_translate_142 : decode cX0_translate 142 = .ok (.bipush 7, 2) := by decide +kernel
theorem dX0_translate_144 : decode cX0_translate 144 = .ok (.iload 4, 2) := by decide +kernel
theorem dX0_translate_146 : decode cX0_translate 146 = .ok (.aload_n 0, 1) := by decide +kernel
theorem dX0_translate_147 : decode cX0_translate 147 = .ok (.getfield 109, 3) := by decide +kernel
theorem dX0_translate_150 : decode cX0_translate 150 = .ok (.iconst 0, 1) := by decide +kernel
theorem dX0_translate_151 : decode cX0_translate 151 = .ok (.invokevirtual 115, 3) := by decide +kernel
theorem dX0_translate_154 : decode cX0_translate 154 = .ok (.aload_n 0, 1) := by decide +kernel
theorem dX0_translate_155 : decode cX0_translate 155 = .ok (.getfield 33, 3) := by decide +kernel
theorem dX0_translate_158 : decode cX0_translate 158 = .ok (.iload_n 1, 1) := by decide +kernel
theorem dX0_translate_159 : decode cX0_translate 159 = .ok (.iload 5, 2) := by decide +kernel
theorem dX0_translate_161 : decode cX0_translate 161 = .ok (.i2b, 1) := by decide +kernel
theorem dX0_translate_162 : decode cX0_translate 162 = .ok (.bastore, 1) := by decide +kernel
theorem dX0_translate_163 : decode cX0_translate 163 = .ok (.aload_n 0, 1) := by decide +kernel
theorem dX0_translate_164 : decode cX0_translate 164 = .ok (.getfield 30, 3) := by decide +kernel
theorem dX0_translate_167 : decode cX0_translate 167 = .ok (.iload_n 1, 1) := by decide +kernel
end
section
set_option maxRecDepth 100000
theorem dX0_translate_168 : decode cX0_translate 168 = .ok (.iload 7, 2) := by decide +kernel
theorem dX0_translate_170 : decode cX0_translate 170 = .ok (.ifCond .eq 10, 3) := by decide +kernel
theorem dX0_translate_173 : decode cX0_translate 173 = .ok (.iload 5, 2) := by decide +kernel
theorem dX0_translate_175 : decode cX0_translate 175 = .ok (.iconst 1, 1) := by decide +kernel
theorem dX0_translate_176 : decode cX0_translate 176 = .ok (.iadd, 1) := by decide +kernel
theorem dX0_translate_177 : decode cX0_translate 177 = .ok (.goto 5, 3) := by decide +kernel
theorem dX0_translate_180 : decode cX0_translate 180 = .ok (.iload 5, 2) := by decide +kernel
theorem dX0_translate_182 : decode cX0_translate 182 = .ok (.i2b, 1) := by decide +kernel
theorem dX0_translate_183 : decode cX0_translate 183 = .ok (.bastore, 1) := by decide +kernel
theorem dX0_translate_184 : decode cX0_translate 184 = .ok (.return_, 1) := by decide +kernel
abbrev cX0_faults : ByteArray := prog_1_method_13_code
def yX0_faults : MethodName := ⟨RX0, "faults", "(III)Z"⟩
theorem dX0_faults_0 : decode cX0_faults 0 = .ok (.iload_n 1, 1) := by decide +kernel
theorem dX0_faults_1 : decode cX0_faults 1 = .ok (.ifCond .eq 8, 3) := by decide +kernel
theorem dX0_faults_4 : decode cX0_faults 4 = .ok (.iload_n 1, 1) := by decide +kernel
theorem dX0_faults_5 : decode cX0_faults 5 = .ok (.iconst 2, 1) := by decide +kernel
theorem dX0_faults_6 : decode cX0_faults 6 = .ok (.if_icmp .ne 15, 3) := by decide +kernel
theorem dX0_faults_9 : decode cX0_faults 9 = .ok (.iload_n 3, 1) := by decide +kernel
theorem dX0_faults_10 : decode cX0_faults 10 = .ok (.bipush 8, 2) := by decide +kernel
theorem dX0_faults_12 : decode cX0_faults 12 = .ok (.if_icmp .lt 7, 3) := by decide +kernel
theorem dX0_faults_15 : decode cX0_faults 15 = .ok (.iconst 1, 1) := by decide +kernel
theorem dX0_faults_16 : decode cX0_faults 16 = .ok (.goto 4, 3) := by decide +kernel
theorem dX0_faults_19 : decode cX0_faults 19 = .ok (.iconst 0, 1) := by decide +kernel
theorem dX0_faults_20 : decode cX0_faults 20 = .ok (.ireturn, 1) := by decide +kernel
theorem dX0_faults_21 : decode cX0_faults 21 = .ok (.iload_n 1, 1) := by decide +kernel
theorem dX0_faults_22 : decode cX0_faults 22 = .ok (.iconst 1, 1) := by decide +kernel
theorem dX0_faults_23 : decode cX0_faults 23 = .ok (.if_icmp .ne 20, 3) := by decide +kernel
theorem dX0_faults_26 : decode cX0_faults 26 = .ok (.iload_n 3, 1) := by decide +kernel
theorem dX0_faults_27 : decode cX0_faults 27 = .ok (.bipush 8, 2) := by decide +kernel
theorem dX0_faults_29 : decode cX0_faults 29 = .ok (.if_icmp .ge 8, 3) := by decide +kernel
theorem dX0_faults_32 : decode cX0_faults 32 = .ok (.iload_n 2, 1) := by decide +kernel
theorem dX0_faults_33 : decode cX0_faults 33 = .ok (.iload_n 3, 1) := by decide +kernel
theorem dX0_faults_34 : decode cX0_faults 34 = .ok (.if_icmp .lt 7, 3) := by decide +kernel
theorem dX0_faults_37 : decode cX0_faults 37 = .ok (.iconst 1, 1) := by decide +kernel
theorem dX0_faults_38 : decode cX0_faults 38 = .ok (.goto 4, 3) := by decide +kernel
theorem dX0_faults_41 : decode cX0_faults 41 = .ok (.iconst 0, 1) := by decide +kernel
theorem dX0_faults_42 : decode cX0_faults 42 = .ok (.ireturn, 1) := by decide +kernel
theorem dX0_faults_43 : decode cX0_faults 43 = .ok (.iload_n 1, 1) := by decide +kernel
theorem dX0_faults_44 : decode cX0_faults 44 = .ok (.iconst 3, 1) := by decide +kernel
theorem dX0_faults_45 : decode cX0_faults 45 = .ok (.if_icmp .eq 15, 3) := by decide +kernel
theorem dX0_faults_48 : decode cX0_faults 48 = .ok (.iload_n 1, 1) := by decide +kernel
theorem dX0_faults_49 : decode cX0_faults 49 = .ok (.bipush 10, 2) := by decide +kernel
theorem dX0_faults_51 : decode cX0_faults 51 = .ok (.if_icmp .eq 9, 3) := by decide +kernel
theorem dX0_faults_54 : decode cX0_faults 54 = .ok (.iload_n 1, 1) := by decide +kernel
theorem dX0_faults_55 : decode cX0_faults 55 = .ok (.bipush 11, 2) := by decide +kernel
theorem dX0_faults_57 : decode cX0_faults 57 = .ok (.if_icmp .ne 14, 3) := by decide +kernel
theorem dX0_faults_60 : decode cX0_faults 60 = .ok (.iload_n 3, 1) := by decide +kernel
theorem dX0_faults_61 : decode cX0_faults 61 = .ok (.iconst 1, 1) := by decide +kernel
theorem dX0_faults_62 : decode cX0_faults 62 = .ok (.if_icmp .ge 7, 3) := by decide +kernel
theorem dX0_faults_65 : decode cX0_faults 65 = .ok (.iconst 1, 1) := by decide +kernel
theorem dX0_faults_66 : decode cX0_faults 66 = .ok (.goto 4, 3) := by decide +kernel
theorem dX0_faults_69 : decode cX0_faults 69 = .ok (.iconst 0, 1) := by decide +kernel
theorem dX0_faults_70 : decode cX0_faults 70 = .ok (.ireturn, 1) := by decide +kernel
theorem dX0_faults_71 : decode cX0_faults 71 = .ok (.iload_n 1, 1) := by decide +kernel
theorem dX0_faults_72 : decode cX0_faults 72 = .ok (.bipush 12, 2) := by decide +kernel
theorem dX0_faults_74 : decode cX0_faults 74 = .ok (.if_icmp .eq 9, 3) := by decide +kernel
theorem dX0_faults_77 : decode cX0_faults 77 = .ok (.iload_n 1, 1) := by decide +kernel
theorem dX0_faults_78 : decode cX0_faults 78 = .ok (.bipush 13, 2) := by decide +kernel
theorem dX0_faults_80 : decode cX0_faults 80 = .ok (.if_icmp .ne 5, 3) := by decide +kernel
theorem dX0_faults_83 : decode cX0_faults 83 = .ok (.iconst 0, 1) := by decide +kernel
theorem dX0_faults_84 : decode cX0_faults 84 = .ok (.ireturn, 1) := by decide +kernel
theorem dX0_faults_85 : decode cX0_faults 85 = .ok (.iload_n 2, 1) := by decide +kernel
theorem dX0_faults_86 : decode cX0_faults 86 = .ok (.iload_n 3, 1) := by decide +kernel
theorem dX0_faults_87 : decode cX0_faults 87 = .ok (.if_icmp .lt 7, 3) := by decide +kernel
theorem dX0_faults_90 : decode cX0_faults 90 = .ok (.iconst 1, 1) := by decide +kernel
theorem dX0_faults_91 : decode cX0_faults 91 = .ok (.goto 4, 3) := by decide +kernel
theorem dX0_faults_94 : decode cX0_faults 94 = .ok (.iconst 0, 1) := by decide +kernel
theorem dX0_faults_95 : decode cX0_faults 95 = .ok (.ireturn, 1) := by decide +kernel
abbrev cX0_straighten : ByteArray := prog_1_method_26_code
def yX0_straighten : MethodName := ⟨RX0, "straighten", "()V"⟩
theorem dX0_straighten_0 : decode cX0_straighten 0 = .ok (.iconst 0, 1) := by decide +kernel
theorem dX0_straighten_1 : decode cX0_straighten 1 = .ok (.istore_n 1, 1) := by decide +kernel
theorem dX0_straighten_2 : decode cX0_straighten 2 = .ok (.iload_n 1, 1) := by decide +kernel
theorem dX0_straighten_3 : decode cX0_straighten 3 = .ok (.aload_n 0, 1) := by decide +kernel
theorem dX0_straighten_4 : decode cX0_straighten 4 = .ok (.getfield 109, 3) := by decide +kernel
theorem dX0_straighten_7 : decode cX0_straighten 7 = .ok (.if_icmp .ge 117, 3) := by decide +kernel
theorem dX0_straighten_10 : decode cX0_straighten 10 = .ok (.aload_n 0, 1) := by decide +kernel
theorem dX0_straighten_11 : decode cX0_straighten 11 = .ok (.getfield 48, 3) := by decide +kernel
theorem dX0_straighten_14 : decode cX0_straighten 14 = .ok (.iload_n 1, 1) := by decide +kernel
theorem dX0_straighten_15 : decode cX0_straighten 15 = .ok (.baload, 1) := by decide +kernel
theorem dX0_straighten_16 : decode cX0_straighten 16 = .ok (.istore_n 2, 1) := by decide +kernel
theorem dX0_straighten_17 : decode cX0_straighten 17 = .ok (.iload_n 2, 1) := by decide +kernel
theorem dX0_straighten_18 : decode cX0_straighten 18 = .ok (.iload_n 1, 1) := by decide +kernel
theorem dX0_straighten_19 : decode cX0_straighten 19 = .ok (.if_icmp .ne 6, 3) := by decide +kernel
theorem dX0_straighten_22 : decode cX0_straighten 22 = .ok (.goto 96, 3) := by decide +kernel
theorem dX0_straighten_25 : decode cX0_straighten 25 = .ok (.iconst (-1), 1) := by decide +kernel
theorem dX0_straighten_26 : decode cX0_straighten 26 = .ok (.istore_n 3, 1) := by decide +kernel
theorem dX0_straighten_27 : decode cX0_straighten 27 = .ok (.iload_n 1, 1) := by decide +kernel
theorem dX0_straighten_28 : decode cX0_straighten 28 = .ok (.iconst 1, 1) := by decide +kernel
theorem dX0_straighten_29 : decode cX0_straighten 29 = .ok (.iadd, 1) := by decide +kernel
theorem dX0_straighten_30 : decode cX0_straighten 30 = .ok (.istore 4, 2) := by decide +kernel
theorem dX0_straighten_32 : decode cX0_straighten 32 = .ok (.iload 4, 2) := by decide +kernel
theorem dX0_straighten_34 : decode cX0_straighten 34 = .ok (.aload_n 0, 1) := by decide +kernel
theorem dX0_straighten_35 : decode cX0_straighten 35 = .ok (.getfield 109, 3) := by decide +kernel
theorem dX0_straighten_38 : decode cX0_straighten 38 = .ok (.if_icmp .ge 23, 3) := by decide +kernel
theorem dX0_straighten_41 : decode cX0_straighten 41 = .ok (.aload_n 0, 1) := by decide +kernel
theorem dX0_straighten_42 : decode cX0_straighten 42 = .ok (.getfield 48, 3) := by decide +kernel
theorem dX0_straighten_45 : decode cX0_straighten 45 = .ok (.iload 4, 2) := by decide +kernel
theorem dX0_straighten_47 : decode cX0_straighten 47 = .ok (.baload, 1) := by decide +kernel
theorem dX0_straighten_48 : decode cX0_straighten 48 = .ok (.iload_n 1, 1) := by decide +kernel
theorem dX0_straighten_49 : decode cX0_straighten 49 = .ok (.if_icmp .ne 6, 3) := by decide +kernel
theorem dX0_straighten_52 : decode cX0_straighten 52 = .ok (.iload 4, 2) := by decide +kernel
theorem dX0_straighten_54 : decode cX0_straighten 54 = .ok (.istore_n 3, 1) := by decide +kernel
theorem dX0_straighten_55 : decode cX0_straighten 55 = .ok (.iinc 4 1, 3) := by decide +kernel
theorem dX0_straighten_58 : decode cX0_straighten 58 = .ok (.goto (-26), 3) := by decide +kernel
theorem dX0_straighten_61 : decode cX0_straighten 61 = .ok (.iload_n 3, 1) := by decide +kernel
theorem dX0_straighten_62 : decode cX0_straighten 62 = .ok (.ifCond .lt 40, 3) := by decide +kernel
theorem dX0_straighten_65 : decode cX0_straighten 65 = .ok (.aload_n 0, 1) := by decide +kernel
theorem dX0_straighten_66 : decode cX0_straighten 66 = .ok (.iconst 1, 1) := by decide +kernel
theorem dX0_straighten_67 : decode cX0_straighten 67 = .ok (.bipush 9, 2) := by decide +kernel
theorem dX0_straighten_69 : decode cX0_straighten 69 = .ok (.iload_n 1, 1) := by decide +kernel
theorem dX0_straighten_70 : decode cX0_straighten 70 = .ok (.iconst 0, 1) := by decide +kernel
theorem dX0_straighten_71 : decode cX0_straighten 71 = .ok (.invokevirtual 115, 3) := by decide +kernel
theorem dX0_straighten_74 : decode cX0_straighten 74 = .ok (.aload_n 0, 1) := by decide +kernel
theorem dX0_straighten_75 : decode cX0_straighten 75 = .ok (.iconst 1, 1) := by decide +kernel
theorem dX0_straighten_76 : decode cX0_straighten 76 = .ok (.iload_n 1, 1) := by decide +kernel
theorem dX0_straighten_77 : decode cX0_straighten 77 = .ok (.iload_n 2, 1) := by decide +kernel
theorem dX0_straighten_78 : decode cX0_straighten 78 = .ok (.iconst 0, 1) := by decide +kernel
theorem dX0_straighten_79 : decode cX0_straighten 79 = .ok (.invokevirtual 115, 3) := by decide +kernel
theorem dX0_straighten_82 : decode cX0_straighten 82 = .ok (.aload_n 0, 1) := by decide +kernel
theorem dX0_straighten_83 : decode cX0_straighten 83 = .ok (.iconst 1, 1) := by decide +kernel
theorem dX0_straighten_84 : decode cX0_straighten 84 = .ok (.iload_n 2, 1) := by decide +kernel
theorem dX0_straighten_85 : decode cX0_straighten 85 = .ok (.bipush 9, 2) := by decide +kernel
theorem dX0_straighten_87 : decode cX0_straighten 87 = .ok (.iconst 0, 1) := by decide +kernel
theorem dX0_straighten_88 : decode cX0_straighten 88 = .ok (.invokevirtual 115, 3) := by decide +kernel
theorem dX0_straighten_91 : decode cX0_straighten 91 = .ok (.aload_n 0, 1) := by decide +kernel
theorem dX0_straighten_92 : decode cX0_straighten 92 = .ok (.getfield 48, 3) := by decide +kernel
theorem dX0_straighten_95 : decode cX0_straighten 95 = .ok (.iload_n 3, 1) := by decide +kernel
theorem dX0_straighten_96 : decode cX0_straighten 96 = .ok (.iload_n 2, 1) := by decide +kernel
theorem dX0_straighten_97 : decode cX0_straighten 97 = .ok (.i2b, 1) := by decide +kernel
theorem dX0_straighten_98 : decode cX0_straighten 98 = .ok (.bastore, 1) := by decide +kernel
theorem dX0_straighten_99 : decode cX0_straighten 99 = .ok (.goto 11, 3) := by decide +kernel
theorem dX0_straighten_102 : decode cX0_straighten 102 = .ok (.aload_n 0, 1) := by decide +kernel
theorem dX0_straighten_103 : decode cX0_straighten 103 = .ok (.iconst 1, 1) := by decide +kernel
theorem dX0_straighten_104 : decode cX0_straighten 104 = .ok (.iload_n 1, 1) := by decide +kernel
theorem dX0_straighten_105 : decode cX0_straighten 105 = .ok (.iload_n 2, 1) := by decide +kernel
theorem dX0_straighten_106 : decode cX0_straighten 106 = .ok (.iconst 0, 1) := by decide +kernel
theorem dX0_straighten_107 : decode cX0_straighten 107 = .ok (.invokevirtual 115, 3) := by decide +kernel
theorem dX0_straighten_110 : decode cX0_straighten 110 = .ok (.aload_n 0, 1) := by decide +kernel
theorem dX0_straighten_111 : decode cX0_straighten 111 = .ok (.getfield 48, 3) := by decide +kernel
theorem dX0_straighten_114 : decode cX0_straighten 114 = .ok (.iload_n 1, 1) := by decide +kernel
theorem dX0_straighten_115 : decode cX0_straighten 115 = .ok (.iload_n 1, 1) := by decide +kernel
theorem dX0_straighten_116 : decode cX0_straighten 116 = .ok (.i2b, 1) := by decide +kernel
theorem dX0_straighten_117 : decode cX0_straighten 117 = .ok (.bastore, 1) := by decide +kernel
theorem dX0_straighten_118 : decode cX0_straighten 118 = .ok (.iinc 1 1, 3) := by decide +kernel
theorem dX0_straighten_121 : decode cX0_straighten 121 = .ok (.goto (-119), 3) := by decide +kernel
theorem dX0_straighten_124 : decode cX0_straighten 124 = .ok (.return_, 1) := by decide +kernel
abbrev cX0_write : ByteArray := prog_1_method_21_code
def yX0_write : MethodName := ⟨RX0, "write", "(IIII)V"⟩
theorem dX0_write_0 : decode cX0_write 0 = .ok (.aload_n 0, 1) := by decide +kernel
theorem dX0_write_1 : decode cX0_write 1 = .ok (.getfield 36, 3) := by decide +kernel
theorem dX0_write_4 : decode cX0_write 4 = .ok (.aload_n 0, 1) := by decide +kernel
theorem dX0_write_5 : decode cX0_write 5 = .ok (.getfield 102, 3) := by decide +kernel
theorem dX0_write_8 : decode cX0_write 8 = .ok (.iload_n 1, 1) := by decide +kernel
theorem dX0_write_9 : decode cX0_write 9 = .ok (.i2b, 1) := by decide +kernel
theorem dX0_write_10 : decode cX0_write 10 = .ok (.bastore, 1) := by decide +kernel
theorem dX0_write_11 : decode cX0_write 11 = .ok (.aload_n 0, 1) := by decide +kernel
theorem dX0_write_12 : decode cX0_write 12 = .ok (.getfield 39, 3) := by decide +kernel
theorem dX0_write_15 : decode cX0_write 15 = .ok (.aload_n 0, 1) := by decide +kernel
theorem dX0_write_16 : decode cX0_write 16 = .ok (.getfield 102, 3) := by decide +kernel
theorem dX0_write_19 : decode cX0_write 19 = .ok (.iload_n 2, 1) := by decide +kernel
theorem dX0_write_20 : decode cX0_write 20 = .ok (.i2b, 1) := by decide +kernel
theorem dX0_write_21 : decode cX0_write 21 = .ok (.bastore, 1) := by decide +kernel
theorem dX0_write_22 : decode cX0_write 22 = .ok (.aload_n 0, 1) := by decide +kernel
theorem dX0_write_23 : decode cX0_write 23 = .ok (.getfield 42, 3) := by decide +kernel
theorem dX0_write_26 : decode cX0_write 26 = .ok (.aload_n 0, 1) := by decide +kernel
theorem dX0_write_27 : decode cX0_write 27 = .ok (.getfield 102, 3) := by decide +kernel
theorem dX0_write_30 : decode cX0_write 30 = .ok (.iload_n 3, 1) := by decide +kernel
theorem dX0_write_31 : decode cX0_write 31 = .ok (.i2b, 1) := by decide +kernel
theorem dX0_write_32 : decode cX0_write 32 = .ok (.bastore, 1) := by decide +kernel
theorem dX0_write_33 : decode cX0_write 33 = .ok (.aload_n 0, 1) := by decide +kernel
theorem dX0_write_34 : decode cX0_write 34 = .ok (.getfield 45, 3) := by decide +kernel
theorem dX0_write_37 : decode cX0_write 37 = .ok (.aload_n 0, 1) := by decide +kernel
theorem dX0_write_38 : decode cX0_write 38 = .ok (.getfield 102, 3) := by decide +kernel
theorem dX0_write_41 : decode cX0_write 41 = .ok (.iload 4, 2) := by decide +kernel
theorem dX0_write_43 : decode cX0_write 43 = .ok (.iastore, 1) := by decide +kernel
theorem dX0_write_44 : decode cX0_write 44 = .ok (.aload_n 0, 1) := by decide +kernel
theorem dX0_write_45 : decode cX0_write 45 = .ok (.dup, 1) := by decide +kernel
theorem dX0_write_46 : decode cX0_write 46 = .ok (.getfield 102, 3) := by decide +kernel
theorem dX0_write_49 : decode cX0_write 49 = .ok (.iconst 1, 1) := by decide +kernel
theorem dX0_write_50 : decode cX0_write 50 = .ok (.iadd, 1) := by decide +kernel
theorem dX0_write_51 : decode cX0_write 51 = .ok (.putfield 102, 3) := by decide +kernel
theorem dX0_write_54 : decode cX0_write 54 = .ok (.return_, 1) := by decide +kernel
abbrev cX0_translateOne : ByteArray := prog_1_method_22_code
def yX0_translateOne : MethodName := ⟨RX0, "translateOne", "(I)Z"⟩
theorem dX0_translateOne_0 : decode cX0_translateOne 0 = .ok (.aload_n 0, 1) := by decide +kernel
theorem dX0_translateOne_1 : decode cX0_translateOne 1 = .ok (.getfield 7, 3) := by decide +kernel
theorem dX0_translateOne_4 : decode cX0_translateOne 4 = .ok (.iload_n 1, 1) := by decide +kernel
theorem dX0_translateOne_5 : decode cX0_translateOne 5 = .ok (.baload, 1) := by decide +kernel
theorem dX0_translateOne_6 : decode cX0_translateOne 6 = .ok (.istore_n 2, 1) := by decide +kernel
theorem dX0_translateOne_7 : decode cX0_translateOne 7 = .ok (.aload_n 0, 1) := by decide +kernel
theorem dX0_translateOne_8 : decode cX0_translateOne 8 = .ok (.getfield 13, 3) := by decide +kernel
theorem dX0_translateOne_11 : decode cX0_translateOne 11 = .ok (.iload_n 1, 1) := by decide +kernel
theorem dX0_translateOne_12 : decode cX0_translateOne 12 = .ok (.iaload, 1) := by decide +kernel
theorem dX0_translateOne_13 : decode cX0_translateOne 13 = .ok (.istore_n 3, 1) := by decide +kernel
theorem dX0_translateOne_14 : decode cX0_translateOne 14 = .ok (.iload_n 2, 1) := by decide +kernel
theorem dX0_translateOne_15 : decode cX0_translateOne 15 = .ok (.bipush 10, 2) := by decide +kernel
theorem dX0_translateOne_17 : decode cX0_translateOne 17 = .ok (.if_icmp .eq 9, 3) := by decide +kernel
theorem dX0_translateOne_20 : decode cX0_translateOne 20 = .ok (.iload_n 2, 1) := by decide +kernel
theorem dX0_translateOne_21 : decode cX0_translateOne 21 = .ok (.bipush 11, 2) := by decide +kernel
theorem dX0_translateOne_23 : decode cX0_translateOne 23 = .ok (.if_icmp .ne 61, 3) := by decide +kernel
theorem dX0_translateOne_26 : decode cX0_translateOne 26 = .ok (.aload_n 0, 1) := by decide +kernel
theorem dX0_translateOne_27 : decode cX0_translateOne 27 = .ok (.dup, 1) := by decide +kernel
theorem dX0_translateOne_28 : decode cX0_translateOne 28 = .ok (.getfield 109, 3) := by decide +kernel
theorem dX0_translateOne_31 : decode cX0_translateOne 31 = .ok (.iconst 1, 1) := by decide +kernel
theorem dX0_translateOne_32 : decode cX0_translateOne 32 = .ok (.isub, 1) := by decide +kernel
theorem dX0_translateOne_33 : decode cX0_translateOne 33 = .ok (.putfield 109, 3) := by decide +kernel
theorem dX0_translateOne_36 : decode cX0_translateOne 36 = .ok (.aload_n 0, 1) := by decide +kernel
theorem dX0_translateOne_37 : decode cX0_translateOne 37 = .ok (.iconst 1, 1) := by decide +kernel
theorem dX0_translateOne_38 : decode cX0_translateOne 38 = .ok (.bipush 8, 2) := by decide +kernel
theorem dX0_translateOne_40 : decode cX0_translateOne 40 = .ok (.aload_n 0, 1) := by decide +kernel
theorem dX0_translateOne_41 : decode cX0_translateOne 41 = .ok (.getfield 48, 3) := by decide +kernel
theorem dX0_translateOne_44 : decode cX0_translateOne 44 = .ok (.aload_n 0, 1) := by decide +kernel
theorem dX0_translateOne_45 : decode cX0_translateOne 45 = .ok (.getfield 109, 3) := by decide +kernel
theorem dX0_translateOne_48 : decode cX0_translateOne 48 = .ok (.baload, 1) := by decide +kernel
theorem dX0_translateOne_49 : decode cX0_translateOne 49 = .ok (.iconst 0, 1) := by decide +kernel
theorem dX0_translateOne_50 : decode cX0_translateOne 50 = .ok (.invokevirtual 115, 3) := by decide +kernel
theorem dX0_translateOne_53 : decode cX0_translateOne 53 = .ok (.aload_n 0, 1) := by decide +kernel
theorem dX0_translateOne_54 : decode cX0_translateOne 54 = .ok (.invokevirtual 112, 3) := by decide +kernel
theorem dX0_translateOne_57 : decode cX0_translateOne 57 = .ok (.aload_n 0, 1) := by decide +kernel
theorem dX0_translateOne_58 : decode cX0_translateOne 58 = .ok (.iload_n 2, 1) := by decide +kernel
theorem dX0_translateOne_59 : decode cX0_translateOne 59 = .ok (.bipush 10, 2) := by decide +kernel
theorem dX0_translateOne_61 : decode cX0_translateOne 61 = .ok (.if_icmp .ne 8, 3) := by decide +kernel
theorem dX0_translateOne_64 : decode cX0_translateOne 64 = .ok (.bipush 8, 2) := by decide +kernel
theorem dX0_translateOne_66 : decode cX0_translateOne 66 = .ok (.goto 5, 3) := by decide +kernel
theorem dX0_translateOne_69 : decode cX0_translateOne 69 = .ok (.bipush 9, 2) := by decide +kernel
theorem dX0_translateOne_71 : decode cX0_translateOne 71 = .ok (.iload_n 1, 1) := by decide +kernel
theorem dX0_translateOne_72 : decode cX0_translateOne 72 = .ok (.iconst 1, 1) := by decide +kernel
theorem dX0_translateOne_73 : decode cX0_translateOne 73 = .ok (.iadd, 1) := by decide +kernel
theorem dX0_translateOne_74 : decode cX0_translateOne 74 = .ok (.aload_n 0, 1) := by decide +kernel
theorem dX0_translateOne_75 : decode cX0_translateOne 75 = .ok (.getfield 109, 3) := by decide +kernel
theorem dX0_translateOne_78 : decode cX0_translateOne 78 = .ok (.iload_n 3, 1) := by decide +kernel
theorem dX0_translateOne_79 : decode cX0_translateOne 79 = .ok (.invokevirtual 115, 3) := by decide +kernel
theorem dX0_translateOne_82 : decode cX0_translateOne 82 = .ok (.iconst 0, 1) := by decide +kernel
theorem dX0_translateOne_83 : decode cX0_translateOne 83 = .ok (.ireturn, 1) := by decide +kernel
theorem dX0_translateOne_84 : decode cX0_translateOne 84 = .ok (.iload_n 2, 1) := by decide +kernel
theorem dX0_translateOne_85 : decode cX0_translateOne 85 = .ok (.bipush 12, 2) := by decide +kernel
theorem dX0_translateOne_87 : decode cX0_translateOne 87 = .ok (.if_icmp .eq 9, 3) := by decide +kernel
theorem dX0_translateOne_90 : decode cX0_translateOne 90 = .ok (.iload_n 2, 1) := by decide +kernel
theorem dX0_translateOne_91 : decode cX0_translateOne 91 = .ok (.bipush 13, 2) := by decide +kernel
theorem dX0_translateOne_93 : decode cX0_translateOne 93 = .ok (.if_icmp .ne 42, 3) := by decide +kernel
theorem dX0_translateOne_96 : decode cX0_translateOne 96 = .ok (.aload_n 0, 1) := by decide +kernel
theorem dX0_translateOne_97 : decode cX0_translateOne 97 = .ok (.invokevirtual 112, 3) := by decide +kernel
theorem dX0_translateOne_100 : decode cX0_translateOne 100 = .ok (.aload_n 0, 1) := by decide +kernel
theorem dX0_translateOne_101 : decode cX0_translateOne 101 = .ok (.iload_n 2, 1) := by decide +kernel
theorem dX0_translateOne_102 : decode cX0_translateOne 102 = .ok (.bipush 12, 2) := by decide +kernel
theorem dX0_translateOne_104 : decode cX0_translateOne 104 = .ok (.if_icmp .ne 8, 3) := by decide +kernel
theorem dX0_translateOne_107 : decode cX0_translateOne 107 = .ok (.bipush 7, 2) := by decide +kernel
theorem dX0_translateOne_109 : decode cX0_translateOne 109 = .ok (.goto 5, 3) := by decide +kernel
theorem dX0_translateOne_112 : decode cX0_translateOne 112 = .ok (.bipush 10, 2) := by decide +kernel
theorem dX0_translateOne_114 : decode cX0_translateOne 114 = .ok (.iload_n 2, 1) := by decide +kernel
theorem dX0_translateOne_115 : decode cX0_translateOne 115 = .ok (.bipush 12, 2) := by decide +kernel
theorem dX0_translateOne_117 : decode cX0_translateOne 117 = .ok (.if_icmp .ne 7, 3) := by decide +kernel
theorem dX0_translateOne_120 : decode cX0_translateOne 120 = .ok (.iload_n 3, 1) := by decide +kernel
theorem dX0_translateOne_121 : decode cX0_translateOne 121 = .ok (.goto 4, 3) := by decide +kernel
theorem dX0_translateOne_124 : decode cX0_translateOne 124 = .ok (.iload_n 1, 1) := by decide +kernel
theorem dX0_translateOne_125 : decode cX0_translateOne 125 = .ok (.aload_n 0, 1) := by decide +kernel
theorem dX0_translateOne_126 : decode cX0_translateOne 126 = .ok (.getfield 109, 3) := by decide +kernel
theorem dX0_translateOne_129 : decode cX0_translateOne 129 = .ok (.iconst 0, 1) := by decide +kernel
theorem dX0_translateOne_130 : decode cX0_translateOne 130 = .ok (.invokevirtual 115, 3) := by decide +kernel
theorem dX0_translateOne_133 : decode cX0_translateOne 133 = .ok (.iconst 0, 1) := by decide +kernel
theorem dX0_translateOne_134 : decode cX0_translateOne 134 = .ok (.ireturn, 1) := by decide +kernel
theorem dX0_translateOne_135 : decode cX0_translateOne 135 = .ok (.iload_n 2, 1) := by decide +kernel
theorem dX0_translateOne_136 : decode cX0_translateOne 136 = .ok (.iconst 3, 1) := by decide +kernel
theorem dX0_translateOne_137 : decode cX0_translateOne 137 = .ok (.if_icmp .gt 12, 3) := by decide +kernel
theorem dX0_translateOne_140 : decode cX0_translateOne 140 = .ok (.aload_n 0, 1) := by decide +kernel
theorem dX0_translateOne_141 : decode cX0_translateOne 141 = .ok (.iload_n 2, 1) := by decide +kernel
theorem dX0_translateOne_142 : decode cX0_translateOne 142 = .ok (.iload_n 3, 1) := by decide +kernel
theorem dX0_translateOne_143 : decode cX0_translateOne 143 = .ok (.invokevirtual 123, 3) := by decide +kernel
theorem dX0_translateOne_146 : decode cX0_translateOne 146 = .ok (.goto 9, 3) := by decide +kernel
theorem dX0_translateOne_149 : decode cX0_translateOne 149 = .ok (.aload_n 0, 1) := by decide +kernel
theorem dX0_translateOne_150 : decode cX0_translateOne 150 = .ok (.iload_n 2, 1) := by decide +kernel
theorem dX0_translateOne_151 : decode cX0_translateOne 151 = .ok (.iload_n 3, 1) := by decide +kernel
theorem dX0_translateOne_152 : decode cX0_translateOne 152 = .ok (.invokevirtual 126, 3) := by decide +kernel
theorem dX0_translateOne_155 : decode cX0_translateOne 155 = .ok (.iconst 1, 1) := by decide +kernel
theorem dX0_translateOne_156 : decode cX0_translateOne 156 = .ok (.ireturn, 1) := by decide +kernel
abbrev cX0_translateMove : ByteArray := prog_1_method_23_code
def yX0_translateMove : MethodName := ⟨RX0, "translateMove", "(II)V"⟩
theorem dX0_translateMove_0 : decode cX0_translateMove 0 = .ok (.iload_n 1, 1) := by decide +kernel
theorem dX0_translateMove_1 : decode cX0_translateMove 1 = .ok (.iconst 3, 1) := by decide +kernel
theorem dX0_translateMove_2 : decode cX0_translateMove 2 = .ok (.if_icmp .ne 31, 3) := by decide +kernel
theorem dX0_translateMove_5 : decode cX0_translateMove 5 = .ok (.aload_n 0, 1) := by decide +kernel
theorem dX0_translateMove_6 : decode cX0_translateMove 6 = .ok (.dup, 1) := by decide +kernel
theorem dX0_translateMove_7 : decode cX0_translateMove 7 = .ok (.getfield 109, 3) := by decide +kernel
theorem dX0_translateMove_10 : decode cX0_translateMove 10 = .ok (.iconst 1, 1) := by decide +kernel
theorem dX0_translateMove_11 : decode cX0_translateMove 11 = .ok (.isub, 1) := by decide +kernel
theorem dX0_translateMove_12 : decode cX0_translateMove 12 = .ok (.putfield 109, 3) := by decide +kernel
theorem dX0_translateMove_15 : decode cX0_translateMove 15 = .ok (.aload_n 0, 1) := by decide +kernel
theorem dX0_translateMove_16 : decode cX0_translateMove 16 = .ok (.bipush 6, 2) := by decide +kernel
theorem dX0_translateMove_18 : decode cX0_translateMove 18 = .ok (.iload_n 2, 1) := by decide +kernel
theorem dX0_translateMove_19 : decode cX0_translateMove 19 = .ok (.aload_n 0, 1) := by decide +kernel
theorem dX0_translateMove_20 : decode cX0_translateMove 20 = .ok (.getfield 48, 3) := by decide +kernel
theorem dX0_translateMove_23 : decode cX0_translateMove 23 = .ok (.aload_n 0, 1) := by decide +kernel
theorem dX0_translateMove_24 : decode cX0_translateMove 24 = .ok (.getfield 109, 3) := by decide +kernel
theorem dX0_translateMove_27 : decode cX0_translateMove 27 = .ok (.baload, 1) := by decide +kernel
theorem dX0_translateMove_28 : decode cX0_translateMove 28 = .ok (.iconst 0, 1) := by decide +kernel
theorem dX0_translateMove_29 : decode cX0_translateMove 29 = .ok (.invokevirtual 115, 3) := by decide +kernel
theorem dX0_translateMove_32 : decode cX0_translateMove 32 = .ok (.return_, 1) := by decide +kernel
theorem dX0_translateMove_33 : decode cX0_translateMove 33 = .ok (.aload_n 0, 1) := by decide +kernel
theorem dX0_translateMove_34 : decode cX0_translateMove 34 = .ok (.invokevirtual 129, 3) := by decide +kernel
theorem dX0_translateMove_37 : decode cX0_translateMove 37 = .ok (.istore_n 3, 1) := by decide +kernel
theorem dX0_translateMove_38 : decode cX0_translateMove 38 = .ok (.iload_n 1, 1) := by decide +kernel
theorem dX0_translateMove_39 : decode cX0_translateMove 39 = .ok (.ifCond .ne 14, 3) := by decide +kernel
theorem dX0_translateMove_42 : decode cX0_translateMove 42 = .ok (.aload_n 0, 1) := by decide +kernel
theorem dX0_translateMove_43 : decode cX0_translateMove 43 = .ok (.iconst 0, 1) := by decide +kernel
theorem dX0_translateMove_44 : decode cX0_translateMove 44 = .ok (.iload_n 3, 1) := by decide +kernel
theorem dX0_translateMove_45 : decode cX0_translateMove 45 = .ok (.iconst 0, 1) := by decide +kernel
theorem dX0_translateMove_46 : decode cX0_translateMove 46 = .ok (.iload_n 2, 1) := by decide +kernel
theorem dX0_translateMove_47 : decode cX0_translateMove 47 = .ok (.invokevirtual 115, 3) := by decide +kernel
theorem dX0_translateMove_50 : decode cX0_translateMove 50 = .ok (.goto 39, 3) := by decide +kernel
theorem dX0_translateMove_53 : decode cX0_translateMove 53 = .ok (.iload_n 1, 1) := by decide +kernel
theorem dX0_translateMove_54 : decode cX0_translateMove 54 = .ok (.iconst 1, 1) := by decide +kernel
theorem dX0_translateMove_55 : decode cX0_translateMove 55 = .ok (.if_icmp .ne 26, 3) := by decide +kernel
theorem dX0_translateMove_58 : decode cX0_translateMove 58 = .ok (.aload_n 0, 1) := by decide +kernel
theorem dX0_translateMove_59 : decode cX0_translateMove 59 = .ok (.iconst 1, 1) := by decide +kernel
theorem dX0_translateMove_60 : decode cX0_translateMove 60 = .ok (.iload_n 3, 1) := by decide +kernel
theorem dX0_translateMove_61 : decode cX0_translateMove 61 = .ok (.aload_n 0, 1) := by decide +kernel
theorem dX0_translateMove_62 : decode cX0_translateMove 62 = .ok (.getfield 48, 3) := by decide +kernel
theorem dX0_translateMove_65 : decode cX0_translateMove 65 = .ok (.aload_n 0, 1) := by decide +kernel
theorem dX0_translateMove_66 : decode cX0_translateMove 66 = .ok (.getfield 109, 3) := by decide +kernel
theorem dX0_translateMove_69 : decode cX0_translateMove 69 = .ok (.iconst 1, 1) := by decide +kernel
theorem dX0_translateMove_70 : decode cX0_translateMove 70 = .ok (.isub, 1) := by decide +kernel
theorem dX0_translateMove_71 : decode cX0_translateMove 71 = .ok (.iload_n 2, 1) := by decide +kernel
theorem dX0_translateMove_72 : decode cX0_translateMove 72 = .ok (.isub, 1) := by decide +kernel
theorem dX0_translateMove_73 : decode cX0_translateMove 73 = .ok (.baload, 1) := by decide +kernel
theorem dX0_translateMove_74 : decode cX0_translateMove 74 = .ok (.iconst 0, 1) := by decide +kernel
theorem dX0_translateMove_75 : decode cX0_translateMove 75 = .ok (.invokevirtual 115, 3) := by decide +kernel
theorem dX0_translateMove_78 : decode cX0_translateMove 78 = .ok (.goto 11, 3) := by decide +kernel
theorem dX0_translateMove_81 : decode cX0_translateMove 81 = .ok (.aload_n 0, 1) := by decide +kernel
theorem dX0_translateMove_82 : decode cX0_translateMove 82 = .ok (.iconst 5, 1) := by decide +kernel
theorem dX0_translateMove_83 : decode cX0_translateMove 83 = .ok (.iload_n 3, 1) := by decide +kernel
theorem dX0_translateMove_84 : decode cX0_translateMove 84 = .ok (.iload_n 2, 1) := by decide +kernel
theorem dX0_translateMove_85 : decode cX0_translateMove 85 = .ok (.iconst 0, 1) := by decide +kernel
theorem dX0_translateMove_86 : decode cX0_translateMove 86 = .ok (.invokevirtual 115, 3) := by decide +kernel
theorem dX0_translateMove_89 : decode cX0_translateMove 89 = .ok (.aload_n 0, 1) := by decide +kernel
theorem dX0_translateMove_90 : decode cX0_translateMove 90 = .ok (.getfield 48, 3) := by decide +kernel
theorem dX0_translateMove_93 : decode cX0_translateMove 93 = .ok (.aload_n 0, 1) := by decide +kernel
theorem dX0_translateMove_94 : decode cX0_translateMove 94 = .ok (.getfield 109, 3) := by decide +kernel
theorem dX0_translateMove_97 : decode cX0_translateMove 97 = .ok (.iload_n 3, 1) := by decide +kernel
theorem dX0_translateMove_98 : decode cX0_translateMove 98 = .ok (.i2b, 1) := by decide +kernel
theorem dX0_translateMove_99 : decode cX0_translateMove 99 = .ok (.bastore, 1) := by decide +kernel
theorem dX0_translateMove_100 : decode cX0_translateMove 100 = .ok (.aload_n 0, 1) := by decide +kernel
theorem dX0_translateMove_101 : decode cX0_translateMove 101 = .ok (.dup, 1) := by decide +kernel
theorem dX0_translateMove_102 : decode cX0_translateMove 102 = .ok (.getfield 109, 3) := by decide +kernel
theorem dX0_translateMove_105 : decode cX0_translateMove 105 = .ok (.iconst 1, 1) := by decide +kernel
theorem dX0_translateMove_106 : decode cX0_translateMove 106 = .ok (.iadd, 1) := by decide +kernel
theorem dX0_translateMove_107 : decode cX0_translateMove 107 = .ok (.putfield 109, 3) := by decide +kernel
theorem dX0_translateMove_110 : decode cX0_translateMove 110 = .ok (.return_, 1) := by decide +kernel
abbrev cX0_freeRegister : ByteArray := prog_1_method_25_code
def yX0_freeRegister : MethodName := ⟨RX0, "freeRegister", "()I"⟩
theorem dX0_freeRegister_0 : decode cX0_freeRegister 0 = .ok (.iconst 0, 1) := by decide +kernel
theorem dX0_freeRegister_1 : decode cX0_freeRegister 1 = .ok (.istore_n 1, 1) := by decide +kernel
theorem dX0_freeRegister_2 : decode cX0_freeRegister 2 = .ok (.iconst 0, 1) := by decide +kernel
theorem dX0_freeRegister_3 : decode cX0_freeRegister 3 = .ok (.istore_n 2, 1) := by decide +kernel
theorem dX0_freeRegister_4 : decode cX0_freeRegister 4 = .ok (.iload_n 2, 1) := by decide +kernel
theorem dX0_freeRegister_5 : decode cX0_freeRegister 5 = .ok (.aload_n 0, 1) := by decide +kernel
theorem dX0_freeRegister_6 : decode cX0_freeRegister 6 = .ok (.getfield 109, 3) := by decide +kernel
theorem dX0_freeRegister_9 : decode cX0_freeRegister 9 = .ok (.if_icmp .ge 20, 3) := by decide +kernel
theorem dX0_freeRegister_12 : decode cX0_freeRegister 12 = .ok (.iload_n 1, 1) := by decide +kernel
theorem dX0_freeRegister_13 : decode cX0_freeRegister 13 = .ok (.iconst 1, 1) := by decide +kernel
theorem dX0_freeRegister_14 : decode cX0_freeRegister 14 = .ok (.aload_n 0, 1) := by decide +kernel
theorem dX0_freeRegister_15 : decode cX0_freeRegister 15 = .ok (.getfield 48, 3) := by decide +kernel
theorem dX0_freeRegister_18 : decode cX0_freeRegister 18 = .ok (.iload_n 2, 1) := by decide +kernel
theorem dX0_freeRegister_19 : decode cX0_freeRegister 19 = .ok (.baload, 1) := by decide +kernel
theorem dX0_freeRegister_20 : decode cX0_freeRegister 20 = .ok (.ishl, 1) := by decide +kernel
theorem dX0_freeRegister_21 : decode cX0_freeRegister 21 = .ok (.ior, 1) := by decide +kernel
theorem dX0_freeRegister_22 : decode cX0_freeRegister 22 = .ok (.istore_n 1, 1) := by decide +kernel
theorem dX0_freeRegister_23 : decode cX0_freeRegister 23 = .ok (.iinc 2 1, 3) := by decide +kernel
theorem dX0_freeRegister_26 : decode cX0_freeRegister 26 = .ok (.goto (-22), 3) := by decide +kernel
theorem dX0_freeRegister_29 : decode cX0_freeRegister 29 = .ok (.iconst 0, 1) := by decide +kernel
theorem dX0_freeRegister_30 : decode cX0_freeRegister 30 = .ok (.istore_n 2, 1) := by decide +kernel
theorem dX0_freeRegister_31 : decode cX0_freeRegister 31 = .ok (.iload_n 2, 1) := by decide +kernel
theorem dX0_freeRegister_32 : decode cX0_freeRegister 32 = .ok (.bipush 7, 2) := by decide +kernel
theorem dX0_freeRegister_34 : decode cX0_freeRegister 34 = .ok (.if_icmp .ge 17, 3) := by decide +kernel
theorem dX0_freeRegister_37 : decode cX0_freeRegister 37 = .ok (.iload_n 1, 1) := by decide +kernel
theorem dX0_freeRegister_38 : decode cX0_freeRegister 38 = .ok (.iload_n 2, 1) := by decide +kernel
theorem dX0_freeRegister_39 : decode cX0_freeRegister 39 = .ok (.ishr, 1) := by decide +kernel
theorem dX0_freeRegister_40 : decode cX0_freeRegister 40 = .ok (.iconst 1, 1) := by decide +kernel
theorem dX0_freeRegister_41 : decode cX0_freeRegister 41 = .ok (.iand, 1) := by decide +kernel
theorem dX0_freeRegister_42 : decode cX0_freeRegister 42 = .ok (.ifCond .eq 9, 3) := by decide +kernel
theorem dX0_freeRegister_45 : decode cX0_freeRegister 45 = .ok (.iinc 2 1, 3) := by decide +kernel
theorem dX0_freeRegister_48 : decode cX0_freeRegister 48 = .ok (.goto (-17), 3) := by decide +kernel
theorem dX0_freeRegister_51 : decode cX0_freeRegister 51 = .ok (.iload_n 2, 1) := by decide +kernel
theorem dX0_freeRegister_52 : decode cX0_freeRegister 52 = .ok (.ireturn, 1) := by decide +kernel
abbrev cX0_translateCombine : ByteArray := prog_1_method_24_code
def yX0_translateCombine : MethodName := ⟨RX0, "translateCombine", "(II)V"⟩
theorem dX0_translateCombine_0 : decode cX0_translateCombine 0 = .ok (.aload_n 0, 1) := by decide +kernel
theorem dX0_translateCombine_1 : decode cX0_translateCombine 1 = .ok (.getfield 48, 3) := by decide +kernel
theorem dX0_translateCombine_4 : decode cX0_translateCombine 4 = .ok (.aload_n 0, 1) := by decide +kernel
theorem dX0_translateCombine_5 : decode cX0_translateCombine 5 = .ok (.getfield 109, 3) := by decide +kernel
theorem dX0_translateCombine_8 : decode cX0_translateCombine 8 = .ok (.iconst 1, 1) := by decide +kernel
theorem dX0_translateCombine_9 : decode cX0_translateCombine 9 = .ok (.isub, 1) := by decide +kernel
theorem dX0_translateCombine_10 : decode cX0_translateCombine 10 = .ok (.baload, 1) := by decide +kernel
theorem dX0_translateCombine_11 : decode cX0_translateCombine 11 = .ok (.istore_n 3, 1) := by decide +kernel
theorem dX0_translateCombine_12 : decode cX0_translateCombine 12 = .ok (.aload_n 0, 1) := by decide +kernel
theorem dX0_translateCombine_13 : decode cX0_translateCombine 13 = .ok (.getfield 48, 3) := by decide +kernel
theorem dX0_translateCombine_16 : decode cX0_translateCombine 16 = .ok (.aload_n 0, 1) := by decide +kernel
theorem dX0_translateCombine_17 : decode cX0_translateCombine 17 = .ok (.getfield 109, 3) := by decide +kernel
theorem dX0_translateCombine_20 : decode cX0_translateCombine 20 = .ok (.iconst 1, 1) := by decide +kernel
theorem dX0_translateCombine_21 : decode cX0_translateCombine 21 = .ok (.isub, 1) := by decide +kernel
theorem dX0_translateCombine_22 : decode cX0_translateCombine 22 = .ok (.iload_n 2, 1) := by decide +kernel
theorem dX0_translateCombine_23 : decode cX0_translateCombine 23 = .ok (.isub, 1) := by decide +kernel
theorem dX0_translateCombine_24 : decode cX0_translateCombine 24 = .ok (.baload, 1) := by decide +kernel
theorem dX0_translateCombine_25 : decode cX0_translateCombine 25 = .ok (.istore 4, 2) := by decide +kernel
theorem dX0_translateCombine_27 : decode cX0_translateCombine 27 = .ok (.iload_n 1, 1) := by decide +kernel
theorem dX0_translateCombine_28 : decode cX0_translateCombine 28 = .ok (.iconst 4, 1) := by decide +kernel
theorem dX0_translateCombine_29 : decode cX0_translateCombine 29 = .ok (.if_icmp .ne 35, 3) := by decide +kernel
theorem dX0_translateCombine_32 : decode cX0_translateCombine 32 = .ok (.aload_n 0, 1) := by decide +kernel
theorem dX0_translateCombine_33 : decode cX0_translateCombine 33 = .ok (.getfield 48, 3) := by decide +kernel
theorem dX0_translateCombine_36 : decode cX0_translateCombine 36 = .ok (.aload_n 0, 1) := by decide +kernel
theorem dX0_translateCombine_37 : decode cX0_translateCombine 37 = .ok (.getfield 109, 3) := by decide +kernel
theorem dX0_translateCombine_40 : decode cX0_translateCombine 40 = .ok (.iconst 1, 1) := by decide +kernel
theorem dX0_translateCombine_41 : decode cX0_translateCombine 41 = .ok (.isub, 1) := by decide +kernel
theorem dX0_translateCombine_42 : decode cX0_translateCombine 42 = .ok (.iload 4, 2) := by decide +kernel
theorem dX0_translateCombine_44 : decode cX0_translateCombine 44 = .ok (.i2b, 1) := by decide +kernel
theorem dX0_translateCombine_45 : decode cX0_translateCombine 45 = .ok (.bastore, 1) := by decide +kernel
theorem dX0_translateCombine_46 : decode cX0_translateCombine 46 = .ok (.aload_n 0, 1) := by decide +kernel
theorem dX0_translateCombine_47 : decode cX0_translateCombine 47 = .ok (.getfield 48, 3) := by decide +kernel
theorem dX0_translateCombine_50 : decode cX0_translateCombine 50 = .ok (.aload_n 0, 1) := by decide +kernel
theorem dX0_translateCombine_51 : decode cX0_translateCombine 51 = .ok (.getfield 109, 3) := by decide +kernel
theorem dX0_translateCombine_54 : decode cX0_translateCombine 54 = .ok (.iconst 1, 1) := by decide +kernel
theorem dX0_translateCombine_55 : decode cX0_translateCombine 55 = .ok (.isub, 1) := by decide +kernel
theorem dX0_translateCombine_56 : decode cX0_translateCombine 56 = .ok (.iload_n 2, 1) := by decide +kernel
theorem dX0_translateCombine_57 : decode cX0_translateCombine 57 = .ok (.isub, 1) := by decide +kernel
theorem dX0_translateCombine_58 : decode cX0_translateCombine 58 = .ok (.iload_n 3, 1) := by decide +kernel
theorem dX0_translateCombine_59 : decode cX0_translateCombine 59 = .ok (.i2b, 1) := by decide +kernel
theorem dX0_translateCombine_60 : decode cX0_translateCombine 60 = .ok (.bastore, 1) := by decide +kernel
theorem dX0_translateCombine_61 : decode cX0_translateCombine 61 = .ok (.goto 86, 3) := by decide +kernel
theorem dX0_translateCombine_64 : decode cX0_translateCombine 64 = .ok (.iload_n 1, 1) := by decide +kernel
theorem dX0_translateCombine_65 : decode cX0_translateCombine 65 = .ok (.iconst 5, 1) := by decide +kernel
theorem dX0_translateCombine_66 : decode cX0_translateCombine 66 = .ok (.if_icmp .ne 15, 3) := by decide +kernel
theorem dX0_translateCombine_69 : decode cX0_translateCombine 69 = .ok (.aload_n 0, 1) := by decide +kernel
theorem dX0_translateCombine_70 : decode cX0_translateCombine 70 = .ok (.iconst 2, 1) := by decide +kernel
theorem dX0_translateCombine_71 : decode cX0_translateCombine 71 = .ok (.iload_n 3, 1) := by decide +kernel
end
section
set_option maxRecDepth 100000
theorem dX0_translateCombine_72 : decode cX0_translateCombine 72 = .ok (.iload_n 3, 1) := by decide +kernel
theorem dX0_translateCombine_73 : decode cX0_translateCombine 73 = .ok (.iload 4, 2) := by decide +kernel
theorem dX0_translateCombine_75 : decode cX0_translateCombine 75 = .ok (.invokevirtual 115, 3) := by decide +kernel
theorem dX0_translateCombine_78 : decode cX0_translateCombine 78 = .ok (.goto 69, 3) := by decide +kernel
theorem dX0_translateCombine_81 : decode cX0_translateCombine 81 = .ok (.iload_n 1, 1) := by decide +kernel
theorem dX0_translateCombine_82 : decode cX0_translateCombine 82 = .ok (.bipush 6, 2) := by decide +kernel
theorem dX0_translateCombine_84 : decode cX0_translateCombine 84 = .ok (.if_icmp .ne 15, 3) := by decide +kernel
theorem dX0_translateCombine_87 : decode cX0_translateCombine 87 = .ok (.aload_n 0, 1) := by decide +kernel
theorem dX0_translateCombine_88 : decode cX0_translateCombine 88 = .ok (.iconst 3, 1) := by decide +kernel
theorem dX0_translateCombine_89 : decode cX0_translateCombine 89 = .ok (.iload_n 3, 1) := by decide +kernel
theorem dX0_translateCombine_90 : decode cX0_translateCombine 90 = .ok (.iload_n 3, 1) := by decide +kernel
theorem dX0_translateCombine_91 : decode cX0_translateCombine 91 = .ok (.iload 4, 2) := by decide +kernel
theorem dX0_translateCombine_93 : decode cX0_translateCombine 93 = .ok (.invokevirtual 115, 3) := by decide +kernel
theorem dX0_translateCombine_96 : decode cX0_translateCombine 96 = .ok (.goto 51, 3) := by decide +kernel
theorem dX0_translateCombine_99 : decode cX0_translateCombine 99 = .ok (.iload_n 1, 1) := by decide +kernel
theorem dX0_translateCombine_100 : decode cX0_translateCombine 100 = .ok (.bipush 7, 2) := by decide +kernel
theorem dX0_translateCombine_102 : decode cX0_translateCombine 102 = .ok (.if_icmp .ne 15, 3) := by decide +kernel
theorem dX0_translateCombine_105 : decode cX0_translateCombine 105 = .ok (.aload_n 0, 1) := by decide +kernel
theorem dX0_translateCombine_106 : decode cX0_translateCombine 106 = .ok (.iconst 4, 1) := by decide +kernel
theorem dX0_translateCombine_107 : decode cX0_translateCombine 107 = .ok (.iload_n 3, 1) := by decide +kernel
theorem dX0_translateCombine_108 : decode cX0_translateCombine 108 = .ok (.iload_n 3, 1) := by decide +kernel
theorem dX0_translateCombine_109 : decode cX0_translateCombine 109 = .ok (.iload 4, 2) := by decide +kernel
theorem dX0_translateCombine_111 : decode cX0_translateCombine 111 = .ok (.invokevirtual 115, 3) := by decide +kernel
theorem dX0_translateCombine_114 : decode cX0_translateCombine 114 = .ok (.goto 33, 3) := by decide +kernel
theorem dX0_translateCombine_117 : decode cX0_translateCombine 117 = .ok (.aload_n 0, 1) := by decide +kernel
theorem dX0_translateCombine_118 : decode cX0_translateCombine 118 = .ok (.iload_n 1, 1) := by decide +kernel
theorem dX0_translateCombine_119 : decode cX0_translateCombine 119 = .ok (.bipush 8, 2) := by decide +kernel
theorem dX0_translateCombine_121 : decode cX0_translateCombine 121 = .ok (.if_icmp .ne 7, 3) := by decide +kernel
theorem dX0_translateCombine_124 : decode cX0_translateCombine 124 = .ok (.iconst 2, 1) := by decide +kernel
theorem dX0_translateCombine_125 : decode cX0_translateCombine 125 = .ok (.goto 4, 3) := by decide +kernel
theorem dX0_translateCombine_128 : decode cX0_translateCombine 128 = .ok (.iconst 3, 1) := by decide +kernel
theorem dX0_translateCombine_129 : decode cX0_translateCombine 129 = .ok (.iload 4, 2) := by decide +kernel
theorem dX0_translateCombine_131 : decode cX0_translateCombine 131 = .ok (.iload 4, 2) := by decide +kernel
theorem dX0_translateCombine_133 : decode cX0_translateCombine 133 = .ok (.iload_n 3, 1) := by decide +kernel
theorem dX0_translateCombine_134 : decode cX0_translateCombine 134 = .ok (.invokevirtual 115, 3) := by decide +kernel
theorem dX0_translateCombine_137 : decode cX0_translateCombine 137 = .ok (.aload_n 0, 1) := by decide +kernel
theorem dX0_translateCombine_138 : decode cX0_translateCombine 138 = .ok (.dup, 1) := by decide +kernel
theorem dX0_translateCombine_139 : decode cX0_translateCombine 139 = .ok (.getfield 109, 3) := by decide +kernel
theorem dX0_translateCombine_142 : decode cX0_translateCombine 142 = .ok (.iconst 1, 1) := by decide +kernel
theorem dX0_translateCombine_143 : decode cX0_translateCombine 143 = .ok (.isub, 1) := by decide +kernel
theorem dX0_translateCombine_144 : decode cX0_translateCombine 144 = .ok (.putfield 109, 3) := by decide +kernel
theorem dX0_translateCombine_147 : decode cX0_translateCombine 147 = .ok (.return_, 1) := by decide +kernel
abbrev cX0_execute : ByteArray := prog_1_method_27_code
def yX0_execute : MethodName := ⟨RX0, "execute", "(I)V"⟩
theorem dX0_execute_0 : decode cX0_execute 0 = .ok (.iload_n 1, 1) := by decide +kernel
theorem dX0_execute_1 : decode cX0_execute 1 = .ok (.istore_n 2, 1) := by decide +kernel
theorem dX0_execute_2 : decode cX0_execute 2 = .ok (.iload_n 2, 1) := by decide +kernel
theorem dX0_execute_3 : decode cX0_execute 3 = .ok (.aload_n 0, 1) := by decide +kernel
theorem dX0_execute_4 : decode cX0_execute 4 = .ok (.getfield 102, 3) := by decide +kernel
theorem dX0_execute_7 : decode cX0_execute 7 = .ok (.if_icmp .ge 25, 3) := by decide +kernel
theorem dX0_execute_10 : decode cX0_execute 10 = .ok (.aload_n 0, 1) := by decide +kernel
theorem dX0_execute_11 : decode cX0_execute 11 = .ok (.getfield 36, 3) := by decide +kernel
theorem dX0_execute_14 : decode cX0_execute 14 = .ok (.iload_n 2, 1) := by decide +kernel
theorem dX0_execute_15 : decode cX0_execute 15 = .ok (.baload, 1) := by decide +kernel
theorem dX0_execute_16 : decode cX0_execute 16 = .ok (.bipush 7, 2) := by decide +kernel
theorem dX0_execute_18 : decode cX0_execute 18 = .ok (.if_icmp .ge 14, 3) := by decide +kernel
theorem dX0_execute_21 : decode cX0_execute 21 = .ok (.aload_n 0, 1) := by decide +kernel
theorem dX0_execute_22 : decode cX0_execute 22 = .ok (.iload_n 2, 1) := by decide +kernel
theorem dX0_execute_23 : decode cX0_execute 23 = .ok (.invokevirtual 133, 3) := by decide +kernel
theorem dX0_execute_26 : decode cX0_execute 26 = .ok (.iinc 2 1, 3) := by decide +kernel
theorem dX0_execute_29 : decode cX0_execute 29 = .ok (.goto (-27), 3) := by decide +kernel
theorem dX0_execute_32 : decode cX0_execute 32 = .ok (.aload_n 0, 1) := by decide +kernel
theorem dX0_execute_33 : decode cX0_execute 33 = .ok (.getfield 36, 3) := by decide +kernel
theorem dX0_execute_36 : decode cX0_execute 36 = .ok (.iload_n 2, 1) := by decide +kernel
theorem dX0_execute_37 : decode cX0_execute 37 = .ok (.baload, 1) := by decide +kernel
theorem dX0_execute_38 : decode cX0_execute 38 = .ok (.istore_n 3, 1) := by decide +kernel
theorem dX0_execute_39 : decode cX0_execute 39 = .ok (.aload_n 0, 1) := by decide +kernel
theorem dX0_execute_40 : decode cX0_execute 40 = .ok (.aload_n 0, 1) := by decide +kernel
theorem dX0_execute_41 : decode cX0_execute 41 = .ok (.getfield 42, 3) := by decide +kernel
theorem dX0_execute_44 : decode cX0_execute 44 = .ok (.iload_n 2, 1) := by decide +kernel
theorem dX0_execute_45 : decode cX0_execute 45 = .ok (.baload, 1) := by decide +kernel
theorem dX0_execute_46 : decode cX0_execute 46 = .ok (.putfield 62, 3) := by decide +kernel
theorem dX0_execute_49 : decode cX0_execute 49 = .ok (.aload_n 0, 1) := by decide +kernel
theorem dX0_execute_50 : decode cX0_execute 50 = .ok (.aload_n 0, 1) := by decide +kernel
theorem dX0_execute_51 : decode cX0_execute 51 = .ok (.getfield 39, 3) := by decide +kernel
theorem dX0_execute_54 : decode cX0_execute 54 = .ok (.iload_n 2, 1) := by decide +kernel
theorem dX0_execute_55 : decode cX0_execute 55 = .ok (.baload, 1) := by decide +kernel
theorem dX0_execute_56 : decode cX0_execute 56 = .ok (.putfield 65, 3) := by decide +kernel
theorem dX0_execute_59 : decode cX0_execute 59 = .ok (.iload_n 3, 1) := by decide +kernel
theorem dX0_execute_60 : decode cX0_execute 60 = .ok (.bipush 8, 2) := by decide +kernel
theorem dX0_execute_62 : decode cX0_execute 62 = .ok (.if_icmp .ne 23, 3) := by decide +kernel
theorem dX0_execute_65 : decode cX0_execute 65 = .ok (.aload_n 0, 1) := by decide +kernel
theorem dX0_execute_66 : decode cX0_execute 66 = .ok (.getfield 20, 3) := by decide +kernel
theorem dX0_execute_69 : decode cX0_execute 69 = .ok (.bipush 8, 2) := by decide +kernel
theorem dX0_execute_71 : decode cX0_execute 71 = .ok (.iaload, 1) := by decide +kernel
theorem dX0_execute_72 : decode cX0_execute 72 = .ok (.ifCond .ne 13, 3) := by decide +kernel
theorem dX0_execute_75 : decode cX0_execute 75 = .ok (.aload_n 0, 1) := by decide +kernel
theorem dX0_execute_76 : decode cX0_execute 76 = .ok (.aload_n 0, 1) := by decide +kernel
theorem dX0_execute_77 : decode cX0_execute 77 = .ok (.getfield 45, 3) := by decide +kernel
theorem dX0_execute_80 : decode cX0_execute 80 = .ok (.iload_n 2, 1) := by decide +kernel
theorem dX0_execute_81 : decode cX0_execute 81 = .ok (.iaload, 1) := by decide +kernel
theorem dX0_execute_82 : decode cX0_execute 82 = .ok (.putfield 65, 3) := by decide +kernel
theorem dX0_execute_85 : decode cX0_execute 85 = .ok (.iload_n 3, 1) := by decide +kernel
theorem dX0_execute_86 : decode cX0_execute 86 = .ok (.bipush 9, 2) := by decide +kernel
theorem dX0_execute_88 : decode cX0_execute 88 = .ok (.if_icmp .ne 23, 3) := by decide +kernel
theorem dX0_execute_91 : decode cX0_execute 91 = .ok (.aload_n 0, 1) := by decide +kernel
theorem dX0_execute_92 : decode cX0_execute 92 = .ok (.getfield 20, 3) := by decide +kernel
theorem dX0_execute_95 : decode cX0_execute 95 = .ok (.bipush 8, 2) := by decide +kernel
theorem dX0_execute_97 : decode cX0_execute 97 = .ok (.iaload, 1) := by decide +kernel
theorem dX0_execute_98 : decode cX0_execute 98 = .ok (.ifCond .ge 13, 3) := by decide +kernel
theorem dX0_execute_101 : decode cX0_execute 101 = .ok (.aload_n 0, 1) := by decide +kernel
theorem dX0_execute_102 : decode cX0_execute 102 = .ok (.aload_n 0, 1) := by decide +kernel
theorem dX0_execute_103 : decode cX0_execute 103 = .ok (.getfield 45, 3) := by decide +kernel
theorem dX0_execute_106 : decode cX0_execute 106 = .ok (.iload_n 2, 1) := by decide +kernel
theorem dX0_execute_107 : decode cX0_execute 107 = .ok (.iaload, 1) := by decide +kernel
theorem dX0_execute_108 : decode cX0_execute 108 = .ok (.putfield 65, 3) := by decide +kernel
theorem dX0_execute_111 : decode cX0_execute 111 = .ok (.iload_n 3, 1) := by decide +kernel
theorem dX0_execute_112 : decode cX0_execute 112 = .ok (.bipush 10, 2) := by decide +kernel
theorem dX0_execute_114 : decode cX0_execute 114 = .ok (.if_icmp .ne 8, 3) := by decide +kernel
theorem dX0_execute_117 : decode cX0_execute 117 = .ok (.aload_n 0, 1) := by decide +kernel
theorem dX0_execute_118 : decode cX0_execute 118 = .ok (.iconst 1, 1) := by decide +kernel
theorem dX0_execute_119 : decode cX0_execute 119 = .ok (.putfield 71, 3) := by decide +kernel
theorem dX0_execute_122 : decode cX0_execute 122 = .ok (.iload_n 3, 1) := by decide +kernel
theorem dX0_execute_123 : decode cX0_execute 123 = .ok (.bipush 11, 2) := by decide +kernel
theorem dX0_execute_125 : decode cX0_execute 125 = .ok (.if_icmp .ne 8, 3) := by decide +kernel
theorem dX0_execute_128 : decode cX0_execute 128 = .ok (.aload_n 0, 1) := by decide +kernel
theorem dX0_execute_129 : decode cX0_execute 129 = .ok (.iconst 2, 1) := by decide +kernel
theorem dX0_execute_130 : decode cX0_execute 130 = .ok (.putfield 71, 3) := by decide +kernel
theorem dX0_execute_133 : decode cX0_execute 133 = .ok (.return_, 1) := by decide +kernel
abbrev cX0_work : ByteArray := prog_1_method_28_code
def yX0_work : MethodName := ⟨RX0, "work", "(I)V"⟩
theorem dX0_work_0 : decode cX0_work 0 = .ok (.aload_n 0, 1) := by decide +kernel
theorem dX0_work_1 : decode cX0_work 1 = .ok (.getfield 36, 3) := by decide +kernel
theorem dX0_work_4 : decode cX0_work 4 = .ok (.iload_n 1, 1) := by decide +kernel
theorem dX0_work_5 : decode cX0_work 5 = .ok (.baload, 1) := by decide +kernel
theorem dX0_work_6 : decode cX0_work 6 = .ok (.istore_n 2, 1) := by decide +kernel
theorem dX0_work_7 : decode cX0_work 7 = .ok (.aload_n 0, 1) := by decide +kernel
theorem dX0_work_8 : decode cX0_work 8 = .ok (.getfield 39, 3) := by decide +kernel
theorem dX0_work_11 : decode cX0_work 11 = .ok (.iload_n 1, 1) := by decide +kernel
theorem dX0_work_12 : decode cX0_work 12 = .ok (.baload, 1) := by decide +kernel
theorem dX0_work_13 : decode cX0_work 13 = .ok (.istore_n 3, 1) := by decide +kernel
theorem dX0_work_14 : decode cX0_work 14 = .ok (.aload_n 0, 1) := by decide +kernel
theorem dX0_work_15 : decode cX0_work 15 = .ok (.getfield 42, 3) := by decide +kernel
theorem dX0_work_18 : decode cX0_work 18 = .ok (.iload_n 1, 1) := by decide +kernel
theorem dX0_work_19 : decode cX0_work 19 = .ok (.baload, 1) := by decide +kernel
theorem dX0_work_20 : decode cX0_work 20 = .ok (.istore 4, 2) := by decide +kernel
theorem dX0_work_22 : decode cX0_work 22 = .ok (.aload_n 0, 1) := by decide +kernel
theorem dX0_work_23 : decode cX0_work 23 = .ok (.getfield 45, 3) := by decide +kernel
theorem dX0_work_26 : decode cX0_work 26 = .ok (.iload_n 1, 1) := by decide +kernel
theorem dX0_work_27 : decode cX0_work 27 = .ok (.iaload, 1) := by decide +kernel
theorem dX0_work_28 : decode cX0_work 28 = .ok (.istore 5, 2) := by decide +kernel
theorem dX0_work_30 : decode cX0_work 30 = .ok (.iload_n 2, 1) := by decide +kernel
theorem dX0_work_31 : decode cX0_work 31 = .ok (.ifCond .ne 14, 3) := by decide +kernel
theorem dX0_work_34 : decode cX0_work 34 = .ok (.aload_n 0, 1) := by decide +kernel
theorem dX0_work_35 : decode cX0_work 35 = .ok (.getfield 20, 3) := by decide +kernel
theorem dX0_work_38 : decode cX0_work 38 = .ok (.iload_n 3, 1) := by decide +kernel
theorem dX0_work_39 : decode cX0_work 39 = .ok (.iload 5, 2) := by decide +kernel
theorem dX0_work_41 : decode cX0_work 41 = .ok (.iastore, 1) := by decide +kernel
theorem dX0_work_42 : decode cX0_work 42 = .ok (.goto 145, 3) := by decide +kernel
theorem dX0_work_45 : decode cX0_work 45 = .ok (.iload_n 2, 1) := by decide +kernel
theorem dX0_work_46 : decode cX0_work 46 = .ok (.iconst 1, 1) := by decide +kernel
theorem dX0_work_47 : decode cX0_work 47 = .ok (.if_icmp .ne 19, 3) := by decide +kernel
theorem dX0_work_50 : decode cX0_work 50 = .ok (.aload_n 0, 1) := by decide +kernel
theorem dX0_work_51 : decode cX0_work 51 = .ok (.getfield 20, 3) := by decide +kernel
theorem dX0_work_54 : decode cX0_work 54 = .ok (.iload_n 3, 1) := by decide +kernel
theorem dX0_work_55 : decode cX0_work 55 = .ok (.aload_n 0, 1) := by decide +kernel
theorem dX0_work_56 : decode cX0_work 56 = .ok (.getfield 20, 3) := by decide +kernel
theorem dX0_work_59 : decode cX0_work 59 = .ok (.iload 4, 2) := by decide +kernel
theorem dX0_work_61 : decode cX0_work 61 = .ok (.iaload, 1) := by decide +kernel
theorem dX0_work_62 : decode cX0_work 62 = .ok (.iastore, 1) := by decide +kernel
theorem dX0_work_63 : decode cX0_work 63 = .ok (.goto 124, 3) := by decide +kernel
theorem dX0_work_66 : decode cX0_work 66 = .ok (.iload_n 2, 1) := by decide +kernel
theorem dX0_work_67 : decode cX0_work 67 = .ok (.iconst 2, 1) := by decide +kernel
theorem dX0_work_68 : decode cX0_work 68 = .ok (.if_icmp .ne 27, 3) := by decide +kernel
theorem dX0_work_71 : decode cX0_work 71 = .ok (.aload_n 0, 1) := by decide +kernel
theorem dX0_work_72 : decode cX0_work 72 = .ok (.getfield 20, 3) := by decide +kernel
theorem dX0_work_75 : decode cX0_work 75 = .ok (.iload_n 3, 1) := by decide +kernel
theorem dX0_work_76 : decode cX0_work 76 = .ok (.aload_n 0, 1) := by decide +kernel
theorem dX0_work_77 : decode cX0_work 77 = .ok (.getfield 20, 3) := by decide +kernel
theorem dX0_work_80 : decode cX0_work 80 = .ok (.iload 4, 2) := by decide +kernel
theorem dX0_work_82 : decode cX0_work 82 = .ok (.iaload, 1) := by decide +kernel
theorem dX0_work_83 : decode cX0_work 83 = .ok (.aload_n 0, 1) := by decide +kernel
theorem dX0_work_84 : decode cX0_work 84 = .ok (.getfield 20, 3) := by decide +kernel
theorem dX0_work_87 : decode cX0_work 87 = .ok (.iload 5, 2) := by decide +kernel
theorem dX0_work_89 : decode cX0_work 89 = .ok (.iaload, 1) := by decide +kernel
theorem dX0_work_90 : decode cX0_work 90 = .ok (.iadd, 1) := by decide +kernel
theorem dX0_work_91 : decode cX0_work 91 = .ok (.iastore, 1) := by decide +kernel
theorem dX0_work_92 : decode cX0_work 92 = .ok (.goto 95, 3) := by decide +kernel
theorem dX0_work_95 : decode cX0_work 95 = .ok (.iload_n 2, 1) := by decide +kernel
theorem dX0_work_96 : decode cX0_work 96 = .ok (.iconst 3, 1) := by decide +kernel
theorem dX0_work_97 : decode cX0_work 97 = .ok (.if_icmp .ne 27, 3) := by decide +kernel
theorem dX0_work_100 : decode cX0_work 100 = .ok (.aload_n 0, 1) := by decide +kernel
theorem dX0_work_101 : decode cX0_work 101 = .ok (.getfield 20, 3) := by decide +kernel
theorem dX0_work_104 : decode cX0_work 104 = .ok (.iload_n 3, 1) := by decide +kernel
theorem dX0_work_105 : decode cX0_work 105 = .ok (.aload_n 0, 1) := by decide +kernel
theorem dX0_work_106 : decode cX0_work 106 = .ok (.getfield 20, 3) := by decide +kernel
theorem dX0_work_109 : decode cX0_work 109 = .ok (.iload 4, 2) := by decide +kernel
theorem dX0_work_111 : decode cX0_work 111 = .ok (.iaload, 1) := by decide +kernel
theorem dX0_work_112 : decode cX0_work 112 = .ok (.aload_n 0, 1) := by decide +kernel
theorem dX0_work_113 : decode cX0_work 113 = .ok (.getfield 20, 3) := by decide +kernel
theorem dX0_work_116 : decode cX0_work 116 = .ok (.iload 5, 2) := by decide +kernel
theorem dX0_work_118 : decode cX0_work 118 = .ok (.iaload, 1) := by decide +kernel
theorem dX0_work_119 : decode cX0_work 119 = .ok (.isub, 1) := by decide +kernel
theorem dX0_work_120 : decode cX0_work 120 = .ok (.iastore, 1) := by decide +kernel
theorem dX0_work_121 : decode cX0_work 121 = .ok (.goto 66, 3) := by decide +kernel
theorem dX0_work_124 : decode cX0_work 124 = .ok (.iload_n 2, 1) := by decide +kernel
theorem dX0_work_125 : decode cX0_work 125 = .ok (.iconst 4, 1) := by decide +kernel
theorem dX0_work_126 : decode cX0_work 126 = .ok (.if_icmp .ne 27, 3) := by decide +kernel
theorem dX0_work_129 : decode cX0_work 129 = .ok (.aload_n 0, 1) := by decide +kernel
theorem dX0_work_130 : decode cX0_work 130 = .ok (.getfield 20, 3) := by decide +kernel
theorem dX0_work_133 : decode cX0_work 133 = .ok (.iload_n 3, 1) := by decide +kernel
theorem dX0_work_134 : decode cX0_work 134 = .ok (.aload_n 0, 1) := by decide +kernel
theorem dX0_work_135 : decode cX0_work 135 = .ok (.getfield 20, 3) := by decide +kernel
theorem dX0_work_138 : decode cX0_work 138 = .ok (.iload 4, 2) := by decide +kernel
theorem dX0_work_140 : decode cX0_work 140 = .ok (.iaload, 1) := by decide +kernel
theorem dX0_work_141 : decode cX0_work 141 = .ok (.aload_n 0, 1) := by decide +kernel
theorem dX0_work_142 : decode cX0_work 142 = .ok (.getfield 20, 3) := by decide +kernel
theorem dX0_work_145 : decode cX0_work 145 = .ok (.iload 5, 2) := by decide +kernel
theorem dX0_work_147 : decode cX0_work 147 = .ok (.iaload, 1) := by decide +kernel
theorem dX0_work_148 : decode cX0_work 148 = .ok (.imul, 1) := by decide +kernel
theorem dX0_work_149 : decode cX0_work 149 = .ok (.iastore, 1) := by decide +kernel
theorem dX0_work_150 : decode cX0_work 150 = .ok (.goto 37, 3) := by decide +kernel
theorem dX0_work_153 : decode cX0_work 153 = .ok (.iload_n 2, 1) := by decide +kernel
theorem dX0_work_154 : decode cX0_work 154 = .ok (.iconst 5, 1) := by decide +kernel
theorem dX0_work_155 : decode cX0_work 155 = .ok (.if_icmp .ne 19, 3) := by decide +kernel
theorem dX0_work_158 : decode cX0_work 158 = .ok (.aload_n 0, 1) := by decide +kernel
theorem dX0_work_159 : decode cX0_work 159 = .ok (.getfield 20, 3) := by decide +kernel
theorem dX0_work_162 : decode cX0_work 162 = .ok (.iload_n 3, 1) := by decide +kernel
theorem dX0_work_163 : decode cX0_work 163 = .ok (.aload_n 0, 1) := by decide +kernel
theorem dX0_work_164 : decode cX0_work 164 = .ok (.getfield 17, 3) := by decide +kernel
theorem dX0_work_167 : decode cX0_work 167 = .ok (.iload 4, 2) := by decide +kernel
theorem dX0_work_169 : decode cX0_work 169 = .ok (.iaload, 1) := by decide +kernel
theorem dX0_work_170 : decode cX0_work 170 = .ok (.iastore, 1) := by decide +kernel
theorem dX0_work_171 : decode cX0_work 171 = .ok (.goto 16, 3) := by decide +kernel
theorem dX0_work_174 : decode cX0_work 174 = .ok (.aload_n 0, 1) := by decide +kernel
theorem dX0_work_175 : decode cX0_work 175 = .ok (.getfield 17, 3) := by decide +kernel
theorem dX0_work_178 : decode cX0_work 178 = .ok (.iload_n 3, 1) := by decide +kernel
theorem dX0_work_179 : decode cX0_work 179 = .ok (.aload_n 0, 1) := by decide +kernel
theorem dX0_work_180 : decode cX0_work 180 = .ok (.getfield 20, 3) := by decide +kernel
theorem dX0_work_183 : decode cX0_work 183 = .ok (.iload 4, 2) := by decide +kernel
theorem dX0_work_185 : decode cX0_work 185 = .ok (.iaload, 1) := by decide +kernel
theorem dX0_work_186 : decode cX0_work 186 = .ok (.iastore, 1) := by decide +kernel
theorem dX0_work_187 : decode cX0_work 187 = .ok (.return_, 1) := by decide +kernel
abbrev cX0_tryOne : ByteArray := prog_1_method_14_code
def yX0_tryOne : MethodName := ⟨RX0, "tryOne", "()V"⟩
theorem dX0_tryOne_0 : decode cX0_tryOne 0 = .ok (.aload_n 0, 1) := by decide +kernel
theorem dX0_tryOne_1 : decode cX0_tryOne 1 = .ok (.getfield 65, 3) := by decide +kernel
theorem dX0_tryOne_4 : decode cX0_tryOne 4 = .ok (.aload_n 0, 1) := by decide +kernel
theorem dX0_tryOne_5 : decode cX0_tryOne 5 = .ok (.getfield 54, 3) := by decide +kernel
theorem dX0_tryOne_8 : decode cX0_tryOne 8 = .ok (.if_icmp .ge 32, 3) := by decide +kernel
theorem dX0_tryOne_11 : decode cX0_tryOne 11 = .ok (.aload_n 0, 1) := by decide +kernel
theorem dX0_tryOne_12 : decode cX0_tryOne 12 = .ok (.aload_n 0, 1) := by decide +kernel
theorem dX0_tryOne_13 : decode cX0_tryOne 13 = .ok (.getfield 7, 3) := by decide +kernel
theorem dX0_tryOne_16 : decode cX0_tryOne 16 = .ok (.aload_n 0, 1) := by decide +kernel
theorem dX0_tryOne_17 : decode cX0_tryOne 17 = .ok (.getfield 65, 3) := by decide +kernel
theorem dX0_tryOne_20 : decode cX0_tryOne 20 = .ok (.baload, 1) := by decide +kernel
theorem dX0_tryOne_21 : decode cX0_tryOne 21 = .ok (.aload_n 0, 1) := by decide +kernel
theorem dX0_tryOne_22 : decode cX0_tryOne 22 = .ok (.getfield 13, 3) := by decide +kernel
theorem dX0_tryOne_25 : decode cX0_tryOne 25 = .ok (.aload_n 0, 1) := by decide +kernel
theorem dX0_tryOne_26 : decode cX0_tryOne 26 = .ok (.getfield 65, 3) := by decide +kernel
theorem dX0_tryOne_29 : decode cX0_tryOne 29 = .ok (.iaload, 1) := by decide +kernel
theorem dX0_tryOne_30 : decode cX0_tryOne 30 = .ok (.aload_n 0, 1) := by decide +kernel
theorem dX0_tryOne_31 : decode cX0_tryOne 31 = .ok (.getfield 62, 3) := by decide +kernel
theorem dX0_tryOne_34 : decode cX0_tryOne 34 = .ok (.invokevirtual 85, 3) := by decide +kernel
theorem dX0_tryOne_37 : decode cX0_tryOne 37 = .ok (.ifCond .eq 9, 3) := by decide +kernel
theorem dX0_tryOne_40 : decode cX0_tryOne 40 = .ok (.aload_n 0, 1) := by decide +kernel
theorem dX0_tryOne_41 : decode cX0_tryOne 41 = .ok (.iconst 2, 1) := by decide +kernel
theorem dX0_tryOne_42 : decode cX0_tryOne 42 = .ok (.putfield 71, 3) := by decide +kernel
theorem dX0_tryOne_45 : decode cX0_tryOne 45 = .ok (.return_, 1) := by decide +kernel
theorem dX0_tryOne_46 : decode cX0_tryOne 46 = .ok (.aload_n 0, 1) := by decide +kernel
theorem dX0_tryOne_47 : decode cX0_tryOne 47 = .ok (.getfield 7, 3) := by decide +kernel
theorem dX0_tryOne_50 : decode cX0_tryOne 50 = .ok (.aload_n 0, 1) := by decide +kernel
theorem dX0_tryOne_51 : decode cX0_tryOne 51 = .ok (.getfield 65, 3) := by decide +kernel
theorem dX0_tryOne_54 : decode cX0_tryOne 54 = .ok (.baload, 1) := by decide +kernel
theorem dX0_tryOne_55 : decode cX0_tryOne 55 = .ok (.istore_n 1, 1) := by decide +kernel
theorem dX0_tryOne_56 : decode cX0_tryOne 56 = .ok (.aload_n 0, 1) := by decide +kernel
theorem dX0_tryOne_57 : decode cX0_tryOne 57 = .ok (.getfield 13, 3) := by decide +kernel
theorem dX0_tryOne_60 : decode cX0_tryOne 60 = .ok (.aload_n 0, 1) := by decide +kernel
theorem dX0_tryOne_61 : decode cX0_tryOne 61 = .ok (.getfield 65, 3) := by decide +kernel
theorem dX0_tryOne_64 : decode cX0_tryOne 64 = .ok (.iaload, 1) := by decide +kernel
theorem dX0_tryOne_65 : decode cX0_tryOne 65 = .ok (.istore_n 2, 1) := by decide +kernel
theorem dX0_tryOne_66 : decode cX0_tryOne 66 = .ok (.aload_n 0, 1) := by decide +kernel
theorem dX0_tryOne_67 : decode cX0_tryOne 67 = .ok (.dup, 1) := by decide +kernel
theorem dX0_tryOne_68 : decode cX0_tryOne 68 = .ok (.getfield 68, 3) := by decide +kernel
theorem dX0_tryOne_71 : decode cX0_tryOne 71 = .ok (.iconst 1, 1) := by decide +kernel
theorem dX0_tryOne_72 : decode cX0_tryOne 72 = .ok (.iadd, 1) := by decide +kernel
theorem dX0_tryOne_73 : decode cX0_tryOne 73 = .ok (.putfield 68, 3) := by decide +kernel
theorem dX0_tryOne_76 : decode cX0_tryOne 76 = .ok (.iload_n 1, 1) := by decide +kernel
theorem dX0_tryOne_77 : decode cX0_tryOne 77 = .ok (.bipush 13, 2) := by decide +kernel
theorem dX0_tryOne_79 : decode cX0_tryOne 79 = .ok (.if_icmp .ne 9, 3) := by decide +kernel
theorem dX0_tryOne_82 : decode cX0_tryOne 82 = .ok (.aload_n 0, 1) := by decide +kernel
theorem dX0_tryOne_83 : decode cX0_tryOne 83 = .ok (.iconst 1, 1) := by decide +kernel
theorem dX0_tryOne_84 : decode cX0_tryOne 84 = .ok (.putfield 71, 3) := by decide +kernel
theorem dX0_tryOne_87 : decode cX0_tryOne 87 = .ok (.return_, 1) := by decide +kernel
theorem dX0_tryOne_88 : decode cX0_tryOne 88 = .ok (.aload_n 0, 1) := by decide +kernel
theorem dX0_tryOne_89 : decode cX0_tryOne 89 = .ok (.getfield 65, 3) := by decide +kernel
theorem dX0_tryOne_92 : decode cX0_tryOne 92 = .ok (.iconst 1, 1) := by decide +kernel
theorem dX0_tryOne_93 : decode cX0_tryOne 93 = .ok (.iadd, 1) := by decide +kernel
theorem dX0_tryOne_94 : decode cX0_tryOne 94 = .ok (.istore_n 3, 1) := by decide +kernel
theorem dX0_tryOne_95 : decode cX0_tryOne 95 = .ok (.iload_n 1, 1) := by decide +kernel
theorem dX0_tryOne_96 : decode cX0_tryOne 96 = .ok (.bipush 12, 2) := by decide +kernel
theorem dX0_tryOne_98 : decode cX0_tryOne 98 = .ok (.if_icmp .ne 8, 3) := by decide +kernel
theorem dX0_tryOne_101 : decode cX0_tryOne 101 = .ok (.iload_n 2, 1) := by decide +kernel
theorem dX0_tryOne_102 : decode cX0_tryOne 102 = .ok (.istore_n 3, 1) := by decide +kernel
theorem dX0_tryOne_103 : decode cX0_tryOne 103 = .ok (.goto 45, 3) := by decide +kernel
theorem dX0_tryOne_106 : decode cX0_tryOne 106 = .ok (.iload_n 1, 1) := by decide +kernel
theorem dX0_tryOne_107 : decode cX0_tryOne 107 = .ok (.bipush 10, 2) := by decide +kernel
theorem dX0_tryOne_109 : decode cX0_tryOne 109 = .ok (.if_icmp .eq 9, 3) := by decide +kernel
theorem dX0_tryOne_112 : decode cX0_tryOne 112 = .ok (.iload_n 1, 1) := by decide +kernel
theorem dX0_tryOne_113 : decode cX0_tryOne 113 = .ok (.bipush 11, 2) := by decide +kernel
theorem dX0_tryOne_115 : decode cX0_tryOne 115 = .ok (.if_icmp .ne 13, 3) := by decide +kernel
theorem dX0_tryOne_118 : decode cX0_tryOne 118 = .ok (.aload_n 0, 1) := by decide +kernel
theorem dX0_tryOne_119 : decode cX0_tryOne 119 = .ok (.iload_n 1, 1) := by decide +kernel
theorem dX0_tryOne_120 : decode cX0_tryOne 120 = .ok (.iload_n 2, 1) := by decide +kernel
theorem dX0_tryOne_121 : decode cX0_tryOne 121 = .ok (.invokevirtual 89, 3) := by decide +kernel
theorem dX0_tryOne_124 : decode cX0_tryOne 124 = .ok (.istore_n 3, 1) := by decide +kernel
theorem dX0_tryOne_125 : decode cX0_tryOne 125 = .ok (.goto 23, 3) := by decide +kernel
theorem dX0_tryOne_128 : decode cX0_tryOne 128 = .ok (.iload_n 1, 1) := by decide +kernel
theorem dX0_tryOne_129 : decode cX0_tryOne 129 = .ok (.iconst 3, 1) := by decide +kernel
theorem dX0_tryOne_130 : decode cX0_tryOne 130 = .ok (.if_icmp .gt 12, 3) := by decide +kernel
theorem dX0_tryOne_133 : decode cX0_tryOne 133 = .ok (.aload_n 0, 1) := by decide +kernel
theorem dX0_tryOne_134 : decode cX0_tryOne 134 = .ok (.iload_n 1, 1) := by decide +kernel
theorem dX0_tryOne_135 : decode cX0_tryOne 135 = .ok (.iload_n 2, 1) := by decide +kernel
theorem dX0_tryOne_136 : decode cX0_tryOne 136 = .ok (.invokevirtual 92, 3) := by decide +kernel
theorem dX0_tryOne_139 : decode cX0_tryOne 139 = .ok (.goto 9, 3) := by decide +kernel
theorem dX0_tryOne_142 : decode cX0_tryOne 142 = .ok (.aload_n 0, 1) := by decide +kernel
theorem dX0_tryOne_143 : decode cX0_tryOne 143 = .ok (.iload_n 1, 1) := by decide +kernel
theorem dX0_tryOne_144 : decode cX0_tryOne 144 = .ok (.iload_n 2, 1) := by decide +kernel
theorem dX0_tryOne_145 : decode cX0_tryOne 145 = .ok (.invokevirtual 96, 3) := by decide +kernel
theorem dX0_tryOne_148 : decode cX0_tryOne 148 = .ok (.aload_n 0, 1) := by decide +kernel
theorem dX0_tryOne_149 : decode cX0_tryOne 149 = .ok (.iload_n 3, 1) := by decide +kernel
theorem dX0_tryOne_150 : decode cX0_tryOne 150 = .ok (.putfield 65, 3) := by decide +kernel
theorem dX0_tryOne_153 : decode cX0_tryOne 153 = .ok (.return_, 1) := by decide +kernel
abbrev cX0_popAndBranch : ByteArray := prog_1_method_15_code
def yX0_popAndBranch : MethodName := ⟨RX0, "popAndBranch", "(II)I"⟩
theorem dX0_popAndBranch_0 : decode cX0_popAndBranch 0 = .ok (.aload_n 0, 1) := by decide +kernel
theorem dX0_popAndBranch_1 : decode cX0_popAndBranch 1 = .ok (.dup, 1) := by decide +kernel
theorem dX0_popAndBranch_2 : decode cX0_popAndBranch 2 = .ok (.getfield 62, 3) := by decide +kernel
theorem dX0_popAndBranch_5 : decode cX0_popAndBranch 5 = .ok (.iconst 1, 1) := by decide +kernel
theorem dX0_popAndBranch_6 : decode cX0_popAndBranch 6 = .ok (.isub, 1) := by decide +kernel
theorem dX0_popAndBranch_7 : decode cX0_popAndBranch 7 = .ok (.putfield 62, 3) := by decide +kernel
theorem dX0_popAndBranch_10 : decode cX0_popAndBranch 10 = .ok (.aload_n 0, 1) := by decide +kernel
theorem dX0_popAndBranch_11 : decode cX0_popAndBranch 11 = .ok (.getfield 20, 3) := by decide +kernel
theorem dX0_popAndBranch_14 : decode cX0_popAndBranch 14 = .ok (.aload_n 0, 1) := by decide +kernel
theorem dX0_popAndBranch_15 : decode cX0_popAndBranch 15 = .ok (.getfield 62, 3) := by decide +kernel
theorem dX0_popAndBranch_18 : decode cX0_popAndBranch 18 = .ok (.iaload, 1) := by decide +kernel
theorem dX0_popAndBranch_19 : decode cX0_popAndBranch 19 = .ok (.istore_n 3, 1) := by decide +kernel
theorem dX0_popAndBranch_20 : decode cX0_popAndBranch 20 = .ok (.iload_n 1, 1) := by decide +kernel
theorem dX0_popAndBranch_21 : decode cX0_popAndBranch 21 = .ok (.bipush 10, 2) := by decide +kernel
theorem dX0_popAndBranch_23 : decode cX0_popAndBranch 23 = .ok (.if_icmp .ne 15, 3) := by decide +kernel
theorem dX0_popAndBranch_26 : decode cX0_popAndBranch 26 = .ok (.iload_n 3, 1) := by decide +kernel
theorem dX0_popAndBranch_27 : decode cX0_popAndBranch 27 = .ok (.ifCond .ne 7, 3) := by decide +kernel
theorem dX0_popAndBranch_30 : decode cX0_popAndBranch 30 = .ok (.iconst 1, 1) := by decide +kernel
theorem dX0_popAndBranch_31 : decode cX0_popAndBranch 31 = .ok (.goto 16, 3) := by decide +kernel
theorem dX0_popAndBranch_34 : decode cX0_popAndBranch 34 = .ok (.iconst 0, 1) := by decide +kernel
theorem dX0_popAndBranch_35 : decode cX0_popAndBranch 35 = .ok (.goto 12, 3) := by decide +kernel
theorem dX0_popAndBranch_38 : decode cX0_popAndBranch 38 = .ok (.iload_n 3, 1) := by decide +kernel
theorem dX0_popAndBranch_39 : decode cX0_popAndBranch 39 = .ok (.ifCond .ge 7, 3) := by decide +kernel
theorem dX0_popAndBranch_42 : decode cX0_popAndBranch 42 = .ok (.iconst 1, 1) := by decide +kernel
theorem dX0_popAndBranch_43 : decode cX0_popAndBranch 43 = .ok (.goto 4, 3) := by decide +kernel
theorem dX0_popAndBranch_46 : decode cX0_popAndBranch 46 = .ok (.iconst 0, 1) := by decide +kernel
theorem dX0_popAndBranch_47 : decode cX0_popAndBranch 47 = .ok (.istore 4, 2) := by decide +kernel
theorem dX0_popAndBranch_49 : decode cX0_popAndBranch 49 = .ok (.iload 4, 2) := by decide +kernel
theorem dX0_popAndBranch_51 : decode cX0_popAndBranch 51 = .ok (.ifCond .eq 7, 3) := by decide +kernel
theorem dX0_popAndBranch_54 : decode cX0_popAndBranch 54 = .ok (.iload_n 2, 1) := by decide +kernel
theorem dX0_popAndBranch_55 : decode cX0_popAndBranch 55 = .ok (.goto 9, 3) := by decide +kernel
theorem dX0_popAndBranch_58 : decode cX0_popAndBranch 58 = .ok (.aload_n 0, 1) := by decide +kernel
theorem dX0_popAndBranch_59 : decode cX0_popAndBranch 59 = .ok (.getfield 65, 3) := by decide +kernel
theorem dX0_popAndBranch_62 : decode cX0_popAndBranch 62 = .ok (.iconst 1, 1) := by decide +kernel
theorem dX0_popAndBranch_63 : decode cX0_popAndBranch 63 = .ok (.iadd, 1) := by decide +kernel
theorem dX0_popAndBranch_64 : decode cX0_popAndBranch 64 = .ok (.ireturn, 1) := by decide +kernel
abbrev cX0_moveOne : ByteArray := prog_1_method_16_code
def yX0_moveOne : MethodName := ⟨RX0, "moveOne", "(II)V"⟩
theorem dX0_moveOne_0 : decode cX0_moveOne 0 = .ok (.iload_n 1, 1) := by decide +kernel
theorem dX0_moveOne_1 : decode cX0_moveOne 1 = .ok (.iconst 3, 1) := by decide +kernel
theorem dX0_moveOne_2 : decode cX0_moveOne 2 = .ok (.if_icmp .ne 29, 3) := by decide +kernel
theorem dX0_moveOne_5 : decode cX0_moveOne 5 = .ok (.aload_n 0, 1) := by decide +kernel
theorem dX0_moveOne_6 : decode cX0_moveOne 6 = .ok (.dup, 1) := by decide +kernel
theorem dX0_moveOne_7 : decode cX0_moveOne 7 = .ok (.getfield 62, 3) := by decide +kernel
theorem dX0_moveOne_10 : decode cX0_moveOne 10 = .ok (.iconst 1, 1) := by decide +kernel
theorem dX0_moveOne_11 : decode cX0_moveOne 11 = .ok (.isub, 1) := by decide +kernel
theorem dX0_moveOne_12 : decode cX0_moveOne 12 = .ok (.putfield 62, 3) := by decide +kernel
theorem dX0_moveOne_15 : decode cX0_moveOne 15 = .ok (.aload_n 0, 1) := by decide +kernel
theorem dX0_moveOne_16 : decode cX0_moveOne 16 = .ok (.getfield 17, 3) := by decide +kernel
theorem dX0_moveOne_19 : decode cX0_moveOne 19 = .ok (.iload_n 2, 1) := by decide +kernel
theorem dX0_moveOne_20 : decode cX0_moveOne 20 = .ok (.aload_n 0, 1) := by decide +kernel
theorem dX0_moveOne_21 : decode cX0_moveOne 21 = .ok (.getfield 20, 3) := by decide +kernel
theorem dX0_moveOne_24 : decode cX0_moveOne 24 = .ok (.aload_n 0, 1) := by decide +kernel
theorem dX0_moveOne_25 : decode cX0_moveOne 25 = .ok (.getfield 62, 3) := by decide +kernel
theorem dX0_moveOne_28 : decode cX0_moveOne 28 = .ok (.iaload, 1) := by decide +kernel
theorem dX0_moveOne_29 : decode cX0_moveOne 29 = .ok (.iastore, 1) := by decide +kernel
theorem dX0_moveOne_30 : decode cX0_moveOne 30 = .ok (.return_, 1) := by decide +kernel
theorem dX0_moveOne_31 : decode cX0_moveOne 31 = .ok (.iload_n 1, 1) := by decide +kernel
theorem dX0_moveOne_32 : decode cX0_moveOne 32 = .ok (.ifCond .ne 16, 3) := by decide +kernel
theorem dX0_moveOne_35 : decode cX0_moveOne 35 = .ok (.aload_n 0, 1) := by decide +kernel
theorem dX0_moveOne_36 : decode cX0_moveOne 36 = .ok (.getfield 20, 3) := by decide +kernel
theorem dX0_moveOne_39 : decode cX0_moveOne 39 = .ok (.aload_n 0, 1) := by decide +kernel
theorem dX0_moveOne_40 : decode cX0_moveOne 40 = .ok (.getfield 62, 3) := by decide +kernel
theorem dX0_moveOne_43 : decode cX0_moveOne 43 = .ok (.iload_n 2, 1) := by decide +kernel
theorem dX0_moveOne_44 : decode cX0_moveOne 44 = .ok (.iastore, 1) := by decide +kernel
theorem dX0_moveOne_45 : decode cX0_moveOne 45 = .ok (.goto 48, 3) := by decide +kernel
theorem dX0_moveOne_48 : decode cX0_moveOne 48 = .ok (.iload_n 1, 1) := by decide +kernel
theorem dX0_moveOne_49 : decode cX0_moveOne 49 = .ok (.iconst 1, 1) := by decide +kernel
theorem dX0_moveOne_50 : decode cX0_moveOne 50 = .ok (.if_icmp .ne 28, 3) := by decide +kernel
theorem dX0_moveOne_53 : decode cX0_moveOne 53 = .ok (.aload_n 0, 1) := by decide +kernel
theorem dX0_moveOne_54 : decode cX0_moveOne 54 = .ok (.getfield 20, 3) := by decide +kernel
theorem dX0_moveOne_57 : decode cX0_moveOne 57 = .ok (.aload_n 0, 1) := by decide +kernel
theorem dX0_moveOne_58 : decode cX0_moveOne 58 = .ok (.getfield 62, 3) := by decide +kernel
theorem dX0_moveOne_61 : decode cX0_moveOne 61 = .ok (.aload_n 0, 1) := by decide +kernel
theorem dX0_moveOne_62 : decode cX0_moveOne 62 = .ok (.getfield 20, 3) := by decide +kernel
theorem dX0_moveOne_65 : decode cX0_moveOne 65 = .ok (.aload_n 0, 1) := by decide +kernel
theorem dX0_moveOne_66 : decode cX0_moveOne 66 = .ok (.getfield 62, 3) := by decide +kernel
theorem dX0_moveOne_69 : decode cX0_moveOne 69 = .ok (.iconst 1, 1) := by decide +kernel
theorem dX0_moveOne_70 : decode cX0_moveOne 70 = .ok (.isub, 1) := by decide +kernel
theorem dX0_moveOne_71 : decode cX0_moveOne 71 = .ok (.iload_n 2, 1) := by decide +kernel
theorem dX0_moveOne_72 : decode cX0_moveOne 72 = .ok (.isub, 1) := by decide +kernel
theorem dX0_moveOne_73 : decode cX0_moveOne 73 = .ok (.iaload, 1) := by decide +kernel
theorem dX0_moveOne_74 : decode cX0_moveOne 74 = .ok (.iastore, 1) := by decide +kernel
theorem dX0_moveOne_75 : decode cX0_moveOne 75 = .ok (.goto 18, 3) := by decide +kernel
theorem dX0_moveOne_78 : decode cX0_moveOne 78 = .ok (.aload_n 0, 1) := by decide +kernel
theorem dX0_moveOne_79 : decode cX0_moveOne 79 = .ok (.getfield 20, 3) := by decide +kernel
theorem dX0_moveOne_82 : decode cX0_moveOne 82 = .ok (.aload_n 0, 1) := by decide +kernel
theorem dX0_moveOne_83 : decode cX0_moveOne 83 = .ok (.getfield 62, 3) := by decide +kernel
theorem dX0_moveOne_86 : decode cX0_moveOne 86 = .ok (.aload_n 0, 1) := by decide +kernel
theorem dX0_moveOne_87 : decode cX0_moveOne 87 = .ok (.getfield 17, 3) := by decide +kernel
theorem dX0_moveOne_90 : decode cX0_moveOne 90 = .ok (.iload_n 2, 1) := by decide +kernel
theorem dX0_moveOne_91 : decode cX0_moveOne 91 = .ok (.iaload, 1) := by decide +kernel
theorem dX0_moveOne_92 : decode cX0_moveOne 92 = .ok (.iastore, 1) := by decide +kernel
theorem dX0_moveOne_93 : decode cX0_moveOne 93 = .ok (.aload_n 0, 1) := by decide +kernel
theorem dX0_moveOne_94 : decode cX0_moveOne 94 = .ok (.dup, 1) := by decide +kernel
theorem dX0_moveOne_95 : decode cX0_moveOne 95 = .ok (.getfield 62, 3) := by decide +kernel
theorem dX0_moveOne_98 : decode cX0_moveOne 98 = .ok (.iconst 1, 1) := by decide +kernel
theorem dX0_moveOne_99 : decode cX0_moveOne 99 = .ok (.iadd, 1) := by decide +kernel
theorem dX0_moveOne_100 : decode cX0_moveOne 100 = .ok (.putfield 62, 3) := by decide +kernel
theorem dX0_moveOne_103 : decode cX0_moveOne 103 = .ok (.return_, 1) := by decide +kernel
abbrev cX0_combineOne : ByteArray := prog_1_method_17_code
def yX0_combineOne : MethodName := ⟨RX0, "combineOne", "(II)V"⟩
theorem dX0_combineOne_0 : decode cX0_combineOne 0 = .ok (.aload_n 0, 1) := by decide +kernel
theorem dX0_combineOne_1 : decode cX0_combineOne 1 = .ok (.getfield 62, 3) := by decide +kernel
theorem dX0_combineOne_4 : decode cX0_combineOne 4 = .ok (.iconst 1, 1) := by decide +kernel
theorem dX0_combineOne_5 : decode cX0_combineOne 5 = .ok (.isub, 1) := by decide +kernel
theorem dX0_combineOne_6 : decode cX0_combineOne 6 = .ok (.istore_n 3, 1) := by decide +kernel
end
section
set_option maxRecDepth 100000
theorem dX0_combineOne_7 : decode cX0_combineOne 7 = .ok (.iload_n 3, 1) := by decide +kernel
theorem dX0_combineOne_8 : decode cX0_combineOne 8 = .ok (.iload_n 2, 1) := by decide +kernel
theorem dX0_combineOne_9 : decode cX0_combineOne 9 = .ok (.isub, 1) := by decide +kernel
theorem dX0_combineOne_10 : decode cX0_combineOne 10 = .ok (.istore 4, 2) := by decide +kernel
theorem dX0_combineOne_12 : decode cX0_combineOne 12 = .ok (.aload_n 0, 1) := by decide +kernel
theorem dX0_combineOne_13 : decode cX0_combineOne 13 = .ok (.getfield 20, 3) := by decide +kernel
theorem dX0_combineOne_16 : decode cX0_combineOne 16 = .ok (.iload_n 3, 1) := by decide +kernel
theorem dX0_combineOne_17 : decode cX0_combineOne 17 = .ok (.iaload, 1) := by decide +kernel
theorem dX0_combineOne_18 : decode cX0_combineOne 18 = .ok (.istore 5, 2) := by decide +kernel
theorem dX0_combineOne_20 : decode cX0_combineOne 20 = .ok (.aload_n 0, 1) := by decide +kernel
theorem dX0_combineOne_21 : decode cX0_combineOne 21 = .ok (.getfield 20, 3) := by decide +kernel
theorem dX0_combineOne_24 : decode cX0_combineOne 24 = .ok (.iload 4, 2) := by decide +kernel
theorem dX0_combineOne_26 : decode cX0_combineOne 26 = .ok (.iaload, 1) := by decide +kernel
theorem dX0_combineOne_27 : decode cX0_combineOne 27 = .ok (.istore 6, 2) := by decide +kernel
theorem dX0_combineOne_29 : decode cX0_combineOne 29 = .ok (.iload_n 1, 1) := by decide +kernel
theorem dX0_combineOne_30 : decode cX0_combineOne 30 = .ok (.iconst 4, 1) := by decide +kernel
theorem dX0_combineOne_31 : decode cX0_combineOne 31 = .ok (.if_icmp .ne 23, 3) := by decide +kernel
theorem dX0_combineOne_34 : decode cX0_combineOne 34 = .ok (.aload_n 0, 1) := by decide +kernel
theorem dX0_combineOne_35 : decode cX0_combineOne 35 = .ok (.getfield 20, 3) := by decide +kernel
theorem dX0_combineOne_38 : decode cX0_combineOne 38 = .ok (.iload_n 3, 1) := by decide +kernel
theorem dX0_combineOne_39 : decode cX0_combineOne 39 = .ok (.iload 6, 2) := by decide +kernel
theorem dX0_combineOne_41 : decode cX0_combineOne 41 = .ok (.iastore, 1) := by decide +kernel
theorem dX0_combineOne_42 : decode cX0_combineOne 42 = .ok (.aload_n 0, 1) := by decide +kernel
theorem dX0_combineOne_43 : decode cX0_combineOne 43 = .ok (.getfield 20, 3) := by decide +kernel
theorem dX0_combineOne_46 : decode cX0_combineOne 46 = .ok (.iload 4, 2) := by decide +kernel
theorem dX0_combineOne_48 : decode cX0_combineOne 48 = .ok (.iload 5, 2) := by decide +kernel
theorem dX0_combineOne_50 : decode cX0_combineOne 50 = .ok (.iastore, 1) := by decide +kernel
theorem dX0_combineOne_51 : decode cX0_combineOne 51 = .ok (.goto 98, 3) := by decide +kernel
theorem dX0_combineOne_54 : decode cX0_combineOne 54 = .ok (.iload_n 1, 1) := by decide +kernel
theorem dX0_combineOne_55 : decode cX0_combineOne 55 = .ok (.iconst 5, 1) := by decide +kernel
theorem dX0_combineOne_56 : decode cX0_combineOne 56 = .ok (.if_icmp .ne 17, 3) := by decide +kernel
theorem dX0_combineOne_59 : decode cX0_combineOne 59 = .ok (.aload_n 0, 1) := by decide +kernel
theorem dX0_combineOne_60 : decode cX0_combineOne 60 = .ok (.getfield 20, 3) := by decide +kernel
theorem dX0_combineOne_63 : decode cX0_combineOne 63 = .ok (.iload_n 3, 1) := by decide +kernel
theorem dX0_combineOne_64 : decode cX0_combineOne 64 = .ok (.iload 5, 2) := by decide +kernel
theorem dX0_combineOne_66 : decode cX0_combineOne 66 = .ok (.iload 6, 2) := by decide +kernel
theorem dX0_combineOne_68 : decode cX0_combineOne 68 = .ok (.iadd, 1) := by decide +kernel
theorem dX0_combineOne_69 : decode cX0_combineOne 69 = .ok (.iastore, 1) := by decide +kernel
theorem dX0_combineOne_70 : decode cX0_combineOne 70 = .ok (.goto 79, 3) := by decide +kernel
theorem dX0_combineOne_73 : decode cX0_combineOne 73 = .ok (.iload_n 1, 1) := by decide +kernel
theorem dX0_combineOne_74 : decode cX0_combineOne 74 = .ok (.bipush 6, 2) := by decide +kernel
theorem dX0_combineOne_76 : decode cX0_combineOne 76 = .ok (.if_icmp .ne 17, 3) := by decide +kernel
theorem dX0_combineOne_79 : decode cX0_combineOne 79 = .ok (.aload_n 0, 1) := by decide +kernel
theorem dX0_combineOne_80 : decode cX0_combineOne 80 = .ok (.getfield 20, 3) := by decide +kernel
theorem dX0_combineOne_83 : decode cX0_combineOne 83 = .ok (.iload_n 3, 1) := by decide +kernel
theorem dX0_combineOne_84 : decode cX0_combineOne 84 = .ok (.iload 5, 2) := by decide +kernel
theorem dX0_combineOne_86 : decode cX0_combineOne 86 = .ok (.iload 6, 2) := by decide +kernel
theorem dX0_combineOne_88 : decode cX0_combineOne 88 = .ok (.isub, 1) := by decide +kernel
theorem dX0_combineOne_89 : decode cX0_combineOne 89 = .ok (.iastore, 1) := by decide +kernel
theorem dX0_combineOne_90 : decode cX0_combineOne 90 = .ok (.goto 59, 3) := by decide +kernel
theorem dX0_combineOne_93 : decode cX0_combineOne 93 = .ok (.iload_n 1, 1) := by decide +kernel
theorem dX0_combineOne_94 : decode cX0_combineOne 94 = .ok (.bipush 7, 2) := by decide +kernel
theorem dX0_combineOne_96 : decode cX0_combineOne 96 = .ok (.if_icmp .ne 17, 3) := by decide +kernel
theorem dX0_combineOne_99 : decode cX0_combineOne 99 = .ok (.aload_n 0, 1) := by decide +kernel
theorem dX0_combineOne_100 : decode cX0_combineOne 100 = .ok (.getfield 20, 3) := by decide +kernel
theorem dX0_combineOne_103 : decode cX0_combineOne 103 = .ok (.iload_n 3, 1) := by decide +kernel
theorem dX0_combineOne_104 : decode cX0_combineOne 104 = .ok (.iload 5, 2) := by decide +kernel
theorem dX0_combineOne_106 : decode cX0_combineOne 106 = .ok (.iload 6, 2) := by decide +kernel
theorem dX0_combineOne_108 : decode cX0_combineOne 108 = .ok (.imul, 1) := by decide +kernel
theorem dX0_combineOne_109 : decode cX0_combineOne 109 = .ok (.iastore, 1) := by decide +kernel
theorem dX0_combineOne_110 : decode cX0_combineOne 110 = .ok (.goto 39, 3) := by decide +kernel
theorem dX0_combineOne_113 : decode cX0_combineOne 113 = .ok (.aload_n 0, 1) := by decide +kernel
theorem dX0_combineOne_114 : decode cX0_combineOne 114 = .ok (.getfield 20, 3) := by decide +kernel
theorem dX0_combineOne_117 : decode cX0_combineOne 117 = .ok (.iload 4, 2) := by decide +kernel
theorem dX0_combineOne_119 : decode cX0_combineOne 119 = .ok (.iload_n 1, 1) := by decide +kernel
theorem dX0_combineOne_120 : decode cX0_combineOne 120 = .ok (.bipush 8, 2) := by decide +kernel
theorem dX0_combineOne_122 : decode cX0_combineOne 122 = .ok (.if_icmp .ne 11, 3) := by decide +kernel
theorem dX0_combineOne_125 : decode cX0_combineOne 125 = .ok (.iload 6, 2) := by decide +kernel
theorem dX0_combineOne_127 : decode cX0_combineOne 127 = .ok (.iload 5, 2) := by decide +kernel
theorem dX0_combineOne_129 : decode cX0_combineOne 129 = .ok (.iadd, 1) := by decide +kernel
theorem dX0_combineOne_130 : decode cX0_combineOne 130 = .ok (.goto 8, 3) := by decide +kernel
theorem dX0_combineOne_133 : decode cX0_combineOne 133 = .ok (.iload 6, 2) := by decide +kernel
theorem dX0_combineOne_135 : decode cX0_combineOne 135 = .ok (.iload 5, 2) := by decide +kernel
theorem dX0_combineOne_137 : decode cX0_combineOne 137 = .ok (.isub, 1) := by decide +kernel
theorem dX0_combineOne_138 : decode cX0_combineOne 138 = .ok (.iastore, 1) := by decide +kernel
theorem dX0_combineOne_139 : decode cX0_combineOne 139 = .ok (.aload_n 0, 1) := by decide +kernel
theorem dX0_combineOne_140 : decode cX0_combineOne 140 = .ok (.dup, 1) := by decide +kernel
theorem dX0_combineOne_141 : decode cX0_combineOne 141 = .ok (.getfield 62, 3) := by decide +kernel
theorem dX0_combineOne_144 : decode cX0_combineOne 144 = .ok (.iconst 1, 1) := by decide +kernel
theorem dX0_combineOne_145 : decode cX0_combineOne 145 = .ok (.isub, 1) := by decide +kernel
theorem dX0_combineOne_146 : decode cX0_combineOne 146 = .ok (.putfield 62, 3) := by decide +kernel
theorem dX0_combineOne_149 : decode cX0_combineOne 149 = .ok (.return_, 1) := by decide +kernel
abbrev cX0_depth : ByteArray := prog_1_method_8_code
def yX0_depth : MethodName := ⟨RX0, "depth", "()I"⟩
theorem dX0_depth_0 : decode cX0_depth 0 = .ok (.aload_n 0, 1) := by decide +kernel
theorem dX0_depth_1 : decode cX0_depth 1 = .ok (.getfield 62, 3) := by decide +kernel
theorem dX0_depth_4 : decode cX0_depth 4 = .ok (.ireturn, 1) := by decide +kernel
abbrev cX0_st : ByteArray := prog_1_method_9_code
def yX0_st : MethodName := ⟨RX0, "st", "(I)I"⟩
theorem dX0_st_0 : decode cX0_st 0 = .ok (.iload_n 1, 1) := by decide +kernel
theorem dX0_st_1 : decode cX0_st 1 = .ok (.ifCond .lt 11, 3) := by decide +kernel
theorem dX0_st_4 : decode cX0_st 4 = .ok (.iload_n 1, 1) := by decide +kernel
theorem dX0_st_5 : decode cX0_st 5 = .ok (.aload_n 0, 1) := by decide +kernel
theorem dX0_st_6 : decode cX0_st 6 = .ok (.getfield 62, 3) := by decide +kernel
theorem dX0_st_9 : decode cX0_st 9 = .ok (.if_icmp .lt 5, 3) := by decide +kernel
theorem dX0_st_12 : decode cX0_st 12 = .ok (.iconst 0, 1) := by decide +kernel
theorem dX0_st_13 : decode cX0_st 13 = .ok (.ireturn, 1) := by decide +kernel
theorem dX0_st_14 : decode cX0_st 14 = .ok (.aload_n 0, 1) := by decide +kernel
theorem dX0_st_15 : decode cX0_st 15 = .ok (.getfield 20, 3) := by decide +kernel
theorem dX0_st_18 : decode cX0_st 18 = .ok (.aload_n 0, 1) := by decide +kernel
theorem dX0_st_19 : decode cX0_st 19 = .ok (.getfield 62, 3) := by decide +kernel
theorem dX0_st_22 : decode cX0_st 22 = .ok (.iconst 1, 1) := by decide +kernel
theorem dX0_st_23 : decode cX0_st 23 = .ok (.isub, 1) := by decide +kernel
theorem dX0_st_24 : decode cX0_st 24 = .ok (.iload_n 1, 1) := by decide +kernel
theorem dX0_st_25 : decode cX0_st 25 = .ok (.isub, 1) := by decide +kernel
theorem dX0_st_26 : decode cX0_st 26 = .ok (.iaload, 1) := by decide +kernel
theorem dX0_st_27 : decode cX0_st 27 = .ok (.ireturn, 1) := by decide +kernel
abbrev cX0_memory : ByteArray := prog_1_method_10_code
def yX0_memory : MethodName := ⟨RX0, "memory", "(I)I"⟩
theorem dX0_memory_0 : decode cX0_memory 0 = .ok (.iload_n 1, 1) := by decide +kernel
theorem dX0_memory_1 : decode cX0_memory 1 = .ok (.ifCond .lt 9, 3) := by decide +kernel
theorem dX0_memory_4 : decode cX0_memory 4 = .ok (.iload_n 1, 1) := by decide +kernel
theorem dX0_memory_5 : decode cX0_memory 5 = .ok (.bipush 7, 2) := by decide +kernel
theorem dX0_memory_7 : decode cX0_memory 7 = .ok (.if_icmp .le 7, 3) := by decide +kernel
theorem dX0_memory_10 : decode cX0_memory 10 = .ok (.iconst 0, 1) := by decide +kernel
theorem dX0_memory_11 : decode cX0_memory 11 = .ok (.goto 9, 3) := by decide +kernel
theorem dX0_memory_14 : decode cX0_memory 14 = .ok (.aload_n 0, 1) := by decide +kernel
theorem dX0_memory_15 : decode cX0_memory 15 = .ok (.getfield 17, 3) := by decide +kernel
theorem dX0_memory_18 : decode cX0_memory 18 = .ok (.iload_n 1, 1) := by decide +kernel
theorem dX0_memory_19 : decode cX0_memory 19 = .ok (.iaload, 1) := by decide +kernel
theorem dX0_memory_20 : decode cX0_memory 20 = .ok (.ireturn, 1) := by decide +kernel
abbrev cX0_place : ByteArray := prog_1_method_11_code
def yX0_place : MethodName := ⟨RX0, "place", "()I"⟩
theorem dX0_place_0 : decode cX0_place 0 = .ok (.aload_n 0, 1) := by decide +kernel
theorem dX0_place_1 : decode cX0_place 1 = .ok (.getfield 65, 3) := by decide +kernel
theorem dX0_place_4 : decode cX0_place 4 = .ok (.ireturn, 1) := by decide +kernel
abbrev cX0_executed : ByteArray := prog_1_method_12_code
def yX0_executed : MethodName := ⟨RX0, "executed", "()I"⟩
theorem dX0_executed_0 : decode cX0_executed 0 = .ok (.aload_n 0, 1) := by decide +kernel
theorem dX0_executed_1 : decode cX0_executed 1 = .ok (.getfield 68, 3) := by decide +kernel
theorem dX0_executed_4 : decode cX0_executed 4 = .ok (.ireturn, 1) := by decide +kernel
theorem q25 : (Jvm.Cond.initialized "FpuStackTrans") ∈ lw_all := lw_g (lw_at lw_m1 1 rfl) rfl
theorem q28 : (Jvm.Cond.instantiable "FpuStackTrans" (21 : Nat)) ∈ lw_all := lw_g (lw_at lw_m1 4 rfl) rfl
theorem q30 : (Jvm.Cond.instanceMethod ({ cls := "FpuStackTrans", name := "<init>", desc := "()V" } : Jvm.MethodName)) ∈ lw_all := lw_g (lw_at lw_m1 6 rfl) rfl
theorem q31 : (Jvm.Cond.code ({ cls := "FpuStackTrans", name := "<init>", desc := "()V" } : Jvm.MethodName) prog_1_method_1_code (1 : Nat) (Option.none : Option Jvm.ClassFile.FieldType)) ∈ lw_all := lw_g (lw_at lw_m1 7 rfl) rfl
theorem q32 : (Jvm.Cond.methodLink "FpuStackTrans" (1 : Nat) ({ cls := "java/lang/Object", name := "<init>", desc := "()V" } : Jvm.MethodName)) ∈ lw_all := lw_g (lw_at lw_m1 8 rfl) rfl
theorem q35 : (Jvm.Cond.methodLink "FpuStackTrans" (51 : Nat) ({ cls := "FpuStackTrans", name := "forgetBlocks", desc := "()V" } : Jvm.MethodName)) ∈ lw_all := lw_g (lw_at lw_m1 11 rfl) rfl
theorem q36 : (Jvm.Cond.privateMethod ({ cls := "FpuStackTrans", name := "forgetBlocks", desc := "()V" } : Jvm.MethodName)) ∈ lw_tbl := lw_at lw_m1 12 rfl
theorem q37 : (Jvm.Cond.instanceMethod ({ cls := "FpuStackTrans", name := "forgetBlocks", desc := "()V" } : Jvm.MethodName)) ∈ lw_all := lw_g (lw_at lw_m1 13 rfl) rfl
theorem q38 : (Jvm.Cond.code ({ cls := "FpuStackTrans", name := "forgetBlocks", desc := "()V" } : Jvm.MethodName) prog_1_method_18_code (2 : Nat) (Option.none : Option Jvm.ClassFile.FieldType)) ∈ lw_all := lw_g (lw_at lw_m1 14 rfl) rfl
theorem q39 : (Jvm.Cond.fieldLink "FpuStackTrans" (54 : Nat) "FpuStackTrans" "length" "I") ∈ lw_all := lw_g (lw_at lw_m1 15 rfl) rfl
theorem q40 : (Jvm.Cond.fieldLink "FpuStackTrans" (7 : Nat) "FpuStackTrans" "operation" "[B") ∈ lw_all := lw_g (lw_at lw_m1 16 rfl) rfl
theorem q41 : (Jvm.Cond.fieldLink "FpuStackTrans" (13 : Nat) "FpuStackTrans" "number" "[I") ∈ lw_all := lw_g (lw_at lw_m1 17 rfl) rfl
theorem q42 : (Jvm.Cond.fieldLink "FpuStackTrans" (17 : Nat) "FpuStackTrans" "cells" "[I") ∈ lw_all := lw_g (lw_at lw_m1 18 rfl) rfl
theorem q43 : (Jvm.Cond.fieldLink "FpuStackTrans" (20 : Nat) "FpuStackTrans" "flat" "[I") ∈ lw_all := lw_g (lw_at lw_m1 19 rfl) rfl
theorem q44 : (Jvm.Cond.fieldLink "FpuStackTrans" (62 : Nat) "FpuStackTrans" "height" "I") ∈ lw_all := lw_g (lw_at lw_m1 20 rfl) rfl
theorem q45 : (Jvm.Cond.fieldLink "FpuStackTrans" (65 : Nat) "FpuStackTrans" "pc" "I") ∈ lw_all := lw_g (lw_at lw_m1 21 rfl) rfl
theorem q46 : (Jvm.Cond.fieldLink "FpuStackTrans" (71 : Nat) "FpuStackTrans" "status" "I") ∈ lw_all := lw_g (lw_at lw_m1 22 rfl) rfl
theorem q47 : (Jvm.Cond.fieldLink "FpuStackTrans" (68 : Nat) "FpuStackTrans" "count" "I") ∈ lw_all := lw_g (lw_at lw_m1 23 rfl) rfl
theorem q48 : (Jvm.Cond.fieldLink "FpuStackTrans" (23 : Nat) "FpuStackTrans" "blockOf" "[S") ∈ lw_all := lw_g (lw_at lw_m1 24 rfl) rfl
theorem q49 : (Jvm.Cond.fieldLink "FpuStackTrans" (99 : Nat) "FpuStackTrans" "blockCount" "I") ∈ lw_all := lw_g (lw_at lw_m1 25 rfl) rfl
theorem q50 : (Jvm.Cond.fieldLink "FpuStackTrans" (27 : Nat) "FpuStackTrans" "blockStart" "[S") ∈ lw_all := lw_g (lw_at lw_m1 26 rfl) rfl
theorem q51 : (Jvm.Cond.fieldLink "FpuStackTrans" (30 : Nat) "FpuStackTrans" "blockTries" "[B") ∈ lw_all := lw_g (lw_at lw_m1 27 rfl) rfl
theorem q52 : (Jvm.Cond.fieldLink "FpuStackTrans" (33 : Nat) "FpuStackTrans" "blockDone" "[B") ∈ lw_all := lw_g (lw_at lw_m1 28 rfl) rfl
theorem q53 : (Jvm.Cond.fieldLink "FpuStackTrans" (102 : Nat) "FpuStackTrans" "codeEnd" "I") ∈ lw_all := lw_g (lw_at lw_m1 29 rfl) rfl
theorem q54 : (Jvm.Cond.fieldLink "FpuStackTrans" (36 : Nat) "FpuStackTrans" "code" "[B") ∈ lw_all := lw_g (lw_at lw_m1 30 rfl) rfl
theorem q55 : (Jvm.Cond.fieldLink "FpuStackTrans" (39 : Nat) "FpuStackTrans" "target" "[B") ∈ lw_all := lw_g (lw_at lw_m1 31 rfl) rfl
theorem q56 : (Jvm.Cond.fieldLink "FpuStackTrans" (42 : Nat) "FpuStackTrans" "left" "[B") ∈ lw_all := lw_g (lw_at lw_m1 32 rfl) rfl
theorem q57 : (Jvm.Cond.fieldLink "FpuStackTrans" (45 : Nat) "FpuStackTrans" "right" "[I") ∈ lw_all := lw_g (lw_at lw_m1 33 rfl) rfl
theorem q58 : (Jvm.Cond.fieldLink "FpuStackTrans" (109 : Nat) "FpuStackTrans" "depthNow" "I") ∈ lw_all := lw_g (lw_at lw_m1 34 rfl) rfl
theorem q59 : (Jvm.Cond.fieldLink "FpuStackTrans" (48 : Nat) "FpuStackTrans" "home" "[B") ∈ lw_all := lw_g (lw_at lw_m1 35 rfl) rfl
theorem q60 : (Jvm.Cond.lays "FpuStackTrans" "FpuStackTrans" "length" "I") ∈ lw_all := lw_g (lw_at lw_m1 36 rfl) rfl
theorem q61 : (Jvm.Cond.soleField "FpuStackTrans" "length") ∈ lw_all := lw_g (lw_at lw_m1 37 rfl) rfl
theorem q62 : (Jvm.Cond.laysFinal "FpuStackTrans" "FpuStackTrans" "operation" "[B") ∈ lw_all := lw_g (lw_at lw_m1 38 rfl) rfl
theorem q63 : (Jvm.Cond.soleField "FpuStackTrans" "operation") ∈ lw_all := lw_g (lw_at lw_m1 39 rfl) rfl
theorem q64 : (Jvm.Cond.laysFinal "FpuStackTrans" "FpuStackTrans" "number" "[I") ∈ lw_all := lw_g (lw_at lw_m1 40 rfl) rfl
theorem q65 : (Jvm.Cond.soleField "FpuStackTrans" "number") ∈ lw_all := lw_g (lw_at lw_m1 41 rfl) rfl
theorem q66 : (Jvm.Cond.laysFinal "FpuStackTrans" "FpuStackTrans" "cells" "[I") ∈ lw_all := lw_g (lw_at lw_m1 42 rfl) rfl
theorem q67 : (Jvm.Cond.soleField "FpuStackTrans" "cells") ∈ lw_all := lw_g (lw_at lw_m1 43 rfl) rfl
theorem q68 : (Jvm.Cond.laysFinal "FpuStackTrans" "FpuStackTrans" "flat" "[I") ∈ lw_all := lw_g (lw_at lw_m1 44 rfl) rfl
theorem q69 : (Jvm.Cond.soleField "FpuStackTrans" "flat") ∈ lw_all := lw_g (lw_at lw_m1 45 rfl) rfl
theorem q70 : (Jvm.Cond.lays "FpuStackTrans" "FpuStackTrans" "height" "I") ∈ lw_all := lw_g (lw_at lw_m1 46 rfl) rfl
theorem q71 : (Jvm.Cond.soleField "FpuStackTrans" "height") ∈ lw_all := lw_g (lw_at lw_m1 47 rfl) rfl
theorem q72 : (Jvm.Cond.lays "FpuStackTrans" "FpuStackTrans" "pc" "I") ∈ lw_all := lw_g (lw_at lw_m1 48 rfl) rfl
theorem q73 : (Jvm.Cond.soleField "FpuStackTrans" "pc") ∈ lw_all := lw_g (lw_at lw_m1 49 rfl) rfl
theorem q74 : (Jvm.Cond.lays "FpuStackTrans" "FpuStackTrans" "status" "I") ∈ lw_all := lw_g (lw_at lw_m1 50 rfl) rfl
theorem q75 : (Jvm.Cond.soleField "FpuStackTrans" "status") ∈ lw_all := lw_g (lw_at lw_m1 51 rfl) rfl
theorem q76 : (Jvm.Cond.lays "FpuStackTrans" "FpuStackTrans" "count" "I") ∈ lw_all := lw_g (lw_at lw_m1 52 rfl) rfl
theorem q77 : (Jvm.Cond.soleField "FpuStackTrans" "count") ∈ lw_all := lw_g (lw_at lw_m1 53 rfl) rfl
theorem q78 : (Jvm.Cond.laysFinal "FpuStackTrans" "FpuStackTrans" "blockOf" "[S") ∈ lw_all := lw_g (lw_at lw_m1 54 rfl) rfl
theorem q79 : (Jvm.Cond.soleField "FpuStackTrans" "blockOf") ∈ lw_all := lw_g (lw_at lw_m1 55 rfl) rfl
theorem q80 : (Jvm.Cond.lays "FpuStackTrans" "FpuStackTrans" "blockCount" "I") ∈ lw_all := lw_g (lw_at lw_m1 56 rfl) rfl
theorem q81 : (Jvm.Cond.soleField "FpuStackTrans" "blockCount") ∈ lw_all := lw_g (lw_at lw_m1 57 rfl) rfl
theorem q82 : (Jvm.Cond.laysFinal "FpuStackTrans" "FpuStackTrans" "blockStart" "[S") ∈ lw_all := lw_g (lw_at lw_m1 58 rfl) rfl
theorem q83 : (Jvm.Cond.soleField "FpuStackTrans" "blockStart") ∈ lw_all := lw_g (lw_at lw_m1 59 rfl) rfl
theorem q84 : (Jvm.Cond.laysFinal "FpuStackTrans" "FpuStackTrans" "blockTries" "[B") ∈ lw_all := lw_g (lw_at lw_m1 60 rfl) rfl
theorem q85 : (Jvm.Cond.soleField "FpuStackTrans" "blockTries") ∈ lw_all := lw_g (lw_at lw_m1 61 rfl) rfl
theorem q86 : (Jvm.Cond.laysFinal "FpuStackTrans" "FpuStackTrans" "blockDone" "[B") ∈ lw_all := lw_g (lw_at lw_m1 62 rfl) rfl
theorem q87 : (Jvm.Cond.soleField "FpuStackTrans" "blockDone") ∈ lw_all := lw_g (lw_at lw_m1 63 rfl) rfl
theorem q88 : (Jvm.Cond.lays "FpuStackTrans" "FpuStackTrans" "codeEnd" "I") ∈ lw_all := lw_g (lw_at lw_m1 64 rfl) rfl
theorem q89 : (Jvm.Cond.soleField "FpuStackTrans" "codeEnd") ∈ lw_all := lw_g (lw_at lw_m1 65 rfl) rfl
theorem q90 : (Jvm.Cond.laysFinal "FpuStackTrans" "FpuStackTrans" "code" "[B") ∈ lw_all := lw_g (lw_at lw_m1 66 rfl) rfl
theorem q91 : (Jvm.Cond.soleField "FpuStackTrans" "code") ∈ lw_all := lw_g (lw_at lw_m1 67 rfl) rfl
theorem q92 : (Jvm.Cond.laysFinal "FpuStackTrans" "FpuStackTrans" "target" "[B") ∈ lw_all := lw_g (lw_at lw_m1 68 rfl) rfl
theorem q93 : (Jvm.Cond.soleField "FpuStackTrans" "target") ∈ lw_all := lw_g (lw_at lw_m1 69 rfl) rfl
theorem q94 : (Jvm.Cond.laysFinal "FpuStackTrans" "FpuStackTrans" "left" "[B") ∈ lw_all := lw_g (lw_at lw_m1 70 rfl) rfl
theorem q95 : (Jvm.Cond.soleField "FpuStackTrans" "left") ∈ lw_all := lw_g (lw_at lw_m1 71 rfl) rfl
theorem q96 : (Jvm.Cond.laysFinal "FpuStackTrans" "FpuStackTrans" "right" "[I") ∈ lw_all := lw_g (lw_at lw_m1 72 rfl) rfl
theorem q97 : (Jvm.Cond.soleField "FpuStackTrans" "right") ∈ lw_all := lw_g (lw_at lw_m1 73 rfl) rfl
theorem q98 : (Jvm.Cond.lays "FpuStackTrans" "FpuStackTrans" "depthNow" "I") ∈ lw_all := lw_g (lw_at lw_m1 74 rfl) rfl
theorem q99 : (Jvm.Cond.soleField "FpuStackTrans" "depthNow") ∈ lw_all := lw_g (lw_at lw_m1 75 rfl) rfl
theorem q100 : (Jvm.Cond.laysFinal "FpuStackTrans" "FpuStackTrans" "home" "[B") ∈ lw_all := lw_g (lw_at lw_m1 76 rfl) rfl
theorem q101 : (Jvm.Cond.soleField "FpuStackTrans" "home") ∈ lw_all := lw_g (lw_at lw_m1 77 rfl) rfl
theorem q102 : (Jvm.Cond.superclass "FpuStackTrans" "java/lang/Object") ∈ lw_all := lw_g (lw_at lw_m1 78 rfl) rfl
theorem q107 : (Jvm.Cond.instanceMethod ({ cls := "FpuStackTrans", name := "emit", desc := "(II)I" } : Jvm.MethodName)) ∈ lw_all := lw_g (lw_at lw_m1 83 rfl) rfl
theorem q108 : (Jvm.Cond.selects "FpuStackTrans" ({ cls := "FpuStackTrans", name := "emit", desc := "(II)I" } : Jvm.MethodName) ({ cls := "FpuStackTrans", name := "emit", desc := "(II)I" } : Jvm.MethodName)) ∈ lw_all := lw_g (lw_at lw_m1 84 rfl) rfl
theorem q109 : (Jvm.Cond.code ({ cls := "FpuStackTrans", name := "emit", desc := "(II)I" } : Jvm.MethodName) prog_1_method_2_code (3 : Nat) (Option.some Jvm.ClassFile.FieldType.int)) ∈ lw_all := lw_g (lw_at lw_m1 85 rfl) rfl
theorem q110 : (Jvm.Cond.methodLink "FpuStackTrans" (58 : Nat) ({ cls := "FpuStackTrans", name := "isInstruction", desc := "(II)Z" } : Jvm.MethodName)) ∈ lw_all := lw_g (lw_at lw_m1 86 rfl) rfl
theorem q111 : (Jvm.Cond.privateMethod ({ cls := "FpuStackTrans", name := "isInstruction", desc := "(II)Z" } : Jvm.MethodName)) ∈ lw_tbl := lw_at lw_m1 87 rfl
theorem q112 : (Jvm.Cond.instanceMethod ({ cls := "FpuStackTrans", name := "isInstruction", desc := "(II)Z" } : Jvm.MethodName)) ∈ lw_all := lw_g (lw_at lw_m1 88 rfl) rfl
theorem q113 : (Jvm.Cond.code ({ cls := "FpuStackTrans", name := "isInstruction", desc := "(II)Z" } : Jvm.MethodName) prog_1_method_4_code (3 : Nat) (Option.some Jvm.ClassFile.FieldType.boolean)) ∈ lw_all := lw_g (lw_at lw_m1 89 rfl) rfl
theorem q115 : (Jvm.Cond.instanceMethod ({ cls := "FpuStackTrans", name := "patch", desc := "(III)I" } : Jvm.MethodName)) ∈ lw_all := lw_g (lw_at lw_m1 91 rfl) rfl
theorem q116 : (Jvm.Cond.selects "FpuStackTrans" ({ cls := "FpuStackTrans", name := "patch", desc := "(III)I" } : Jvm.MethodName) ({ cls := "FpuStackTrans", name := "patch", desc := "(III)I" } : Jvm.MethodName)) ∈ lw_all := lw_g (lw_at lw_m1 92 rfl) rfl
theorem q117 : (Jvm.Cond.code ({ cls := "FpuStackTrans", name := "patch", desc := "(III)I" } : Jvm.MethodName) prog_1_method_3_code (4 : Nat) (Option.some Jvm.ClassFile.FieldType.int)) ∈ lw_all := lw_g (lw_at lw_m1 93 rfl) rfl
theorem q119 : (Jvm.Cond.instanceMethod ({ cls := "FpuStackTrans", name := "poke", desc := "(II)Z" } : Jvm.MethodName)) ∈ lw_all := lw_g (lw_at lw_m1 95 rfl) rfl
theorem q120 : (Jvm.Cond.selects "FpuStackTrans" ({ cls := "FpuStackTrans", name := "poke", desc := "(II)Z" } : Jvm.MethodName) ({ cls := "FpuStackTrans", name := "poke", desc := "(II)Z" } : Jvm.MethodName)) ∈ lw_all := lw_g (lw_at lw_m1 96 rfl) rfl
theorem q121 : (Jvm.Cond.code ({ cls := "FpuStackTrans", name := "poke", desc := "(II)Z" } : Jvm.MethodName) prog_1_method_5_code (3 : Nat) (Option.some Jvm.ClassFile.FieldType.boolean)) ∈ lw_all := lw_g (lw_at lw_m1 97 rfl) rfl
theorem q123 : (Jvm.Cond.instanceMethod ({ cls := "FpuStackTrans", name := "start", desc := "()V" } : Jvm.MethodName)) ∈ lw_all := lw_g (lw_at lw_m1 99 rfl) rfl
theorem q124 : (Jvm.Cond.selects "FpuStackTrans" ({ cls := "FpuStackTrans", name := "start", desc := "()V" } : Jvm.MethodName) ({ cls := "FpuStackTrans", name := "start", desc := "()V" } : Jvm.MethodName)) ∈ lw_all := lw_g (lw_at lw_m1 100 rfl) rfl
theorem q125 : (Jvm.Cond.code ({ cls := "FpuStackTrans", name := "start", desc := "()V" } : Jvm.MethodName) prog_1_method_6_code (1 : Nat) (Option.none : Option Jvm.ClassFile.FieldType)) ∈ lw_all := lw_g (lw_at lw_m1 101 rfl) rfl
theorem q127 : (Jvm.Cond.instanceMethod ({ cls := "FpuStackTrans", name := "run", desc := "(I)I" } : Jvm.MethodName)) ∈ lw_all := lw_g (lw_at lw_m1 103 rfl) rfl
theorem q128 : (Jvm.Cond.selects "FpuStackTrans" ({ cls := "FpuStackTrans", name := "run", desc := "(I)I" } : Jvm.MethodName) ({ cls := "FpuStackTrans", name := "run", desc := "(I)I" } : Jvm.MethodName)) ∈ lw_all := lw_g (lw_at lw_m1 104 rfl) rfl
theorem q129 : (Jvm.Cond.code ({ cls := "FpuStackTrans", name := "run", desc := "(I)I" } : Jvm.MethodName) prog_1_method_7_code (4 : Nat) (Option.some Jvm.ClassFile.FieldType.int)) ∈ lw_all := lw_g (lw_at lw_m1 105 rfl) rfl
theorem q130 : (Jvm.Cond.methodLink "FpuStackTrans" (74 : Nat) ({ cls := "FpuStackTrans", name := "blockAt", desc := "(II)I" } : Jvm.MethodName)) ∈ lw_all := lw_g (lw_at lw_m1 106 rfl) rfl
theorem q131 : (Jvm.Cond.privateMethod ({ cls := "FpuStackTrans", name := "blockAt", desc := "(II)I" } : Jvm.MethodName)) ∈ lw_tbl := lw_at lw_m1 107 rfl
theorem q132 : (Jvm.Cond.instanceMethod ({ cls := "FpuStackTrans", name := "blockAt", desc := "(II)I" } : Jvm.MethodName)) ∈ lw_all := lw_g (lw_at lw_m1 108 rfl) rfl
theorem q133 : (Jvm.Cond.code ({ cls := "FpuStackTrans", name := "blockAt", desc := "(II)I" } : Jvm.MethodName) prog_1_method_19_code (5 : Nat) (Option.some Jvm.ClassFile.FieldType.int)) ∈ lw_all := lw_g (lw_at lw_m1 109 rfl) rfl
theorem q134 : (Jvm.Cond.methodLink "FpuStackTrans" (105 : Nat) ({ cls := "FpuStackTrans", name := "translate", desc := "(III)V" } : Jvm.MethodName)) ∈ lw_all := lw_g (lw_at lw_m1 110 rfl) rfl
theorem q135 : (Jvm.Cond.privateMethod ({ cls := "FpuStackTrans", name := "translate", desc := "(III)V" } : Jvm.MethodName)) ∈ lw_tbl := lw_at lw_m1 111 rfl
theorem q136 : (Jvm.Cond.instanceMethod ({ cls := "FpuStackTrans", name := "translate", desc := "(III)V" } : Jvm.MethodName)) ∈ lw_all := lw_g (lw_at lw_m1 112 rfl) rfl
theorem q137 : (Jvm.Cond.code ({ cls := "FpuStackTrans", name := "translate", desc := "(III)V" } : Jvm.MethodName) prog_1_method_20_code (8 : Nat) (Option.none : Option Jvm.ClassFile.FieldType)) ∈ lw_all := lw_g (lw_at lw_m1 113 rfl) rfl
theorem q138 : (Jvm.Cond.methodLink "FpuStackTrans" (85 : Nat) ({ cls := "FpuStackTrans", name := "faults", desc := "(III)Z" } : Jvm.MethodName)) ∈ lw_all := lw_g (lw_at lw_m1 114 rfl) rfl
theorem q139 : (Jvm.Cond.privateMethod ({ cls := "FpuStackTrans", name := "faults", desc := "(III)Z" } : Jvm.MethodName)) ∈ lw_tbl := lw_at lw_m1 115 rfl
theorem q140 : (Jvm.Cond.instanceMethod ({ cls := "FpuStackTrans", name := "faults", desc := "(III)Z" } : Jvm.MethodName)) ∈ lw_all := lw_g (lw_at lw_m1 116 rfl) rfl
theorem q141 : (Jvm.Cond.code ({ cls := "FpuStackTrans", name := "faults", desc := "(III)Z" } : Jvm.MethodName) prog_1_method_13_code (4 : Nat) (Option.some Jvm.ClassFile.FieldType.boolean)) ∈ lw_all := lw_g (lw_at lw_m1 117 rfl) rfl
theorem q142 : (Jvm.Cond.methodLink "FpuStackTrans" (112 : Nat) ({ cls := "FpuStackTrans", name := "straighten", desc := "()V" } : Jvm.MethodName)) ∈ lw_all := lw_g (lw_at lw_m1 118 rfl) rfl
theorem q143 : (Jvm.Cond.privateMethod ({ cls := "FpuStackTrans", name := "straighten", desc := "()V" } : Jvm.MethodName)) ∈ lw_tbl := lw_at lw_m1 119 rfl
theorem q144 : (Jvm.Cond.instanceMethod ({ cls := "FpuStackTrans", name := "straighten", desc := "()V" } : Jvm.MethodName)) ∈ lw_all := lw_g (lw_at lw_m1 120 rfl) rfl
theorem q145 : (Jvm.Cond.code ({ cls := "FpuStackTrans", name := "straighten", desc := "()V" } : Jvm.MethodName) prog_1_method_26_code (5 : Nat) (Option.none : Option Jvm.ClassFile.FieldType)) ∈ lw_all := lw_g (lw_at lw_m1 121 rfl) rfl
theorem q146 : (Jvm.Cond.methodLink "FpuStackTrans" (115 : Nat) ({ cls := "FpuStackTrans", name := "write", desc := "(IIII)V" } : Jvm.MethodName)) ∈ lw_all := lw_g (lw_at lw_m1 122 rfl) rfl
theorem q147 : (Jvm.Cond.privateMethod ({ cls := "FpuStackTrans", name := "write", desc := "(IIII)V" } : Jvm.MethodName)) ∈ lw_tbl := lw_at lw_m1 123 rfl
theorem q148 : (Jvm.Cond.instanceMethod ({ cls := "FpuStackTrans", name := "write", desc := "(IIII)V" } : Jvm.MethodName)) ∈ lw_all := lw_g (lw_at lw_m1 124 rfl) rfl
theorem q149 : (Jvm.Cond.code ({ cls := "FpuStackTrans", name := "write", desc := "(IIII)V" } : Jvm.MethodName) prog_1_method_21_code (5 : Nat) (Option.none : Option Jvm.ClassFile.FieldType)) ∈ lw_all := lw_g (lw_at lw_m1 125 rfl) rfl
theorem q150 : (Jvm.Cond.methodLink "FpuStackTrans" (119 : Nat) ({ cls := "FpuStackTrans", name := "translateOne", desc := "(I)Z" } : Jvm.MethodName)) ∈ lw_all := lw_g (lw_at lw_m1 126 rfl) rfl
theorem q151 : (Jvm.Cond.privateMethod ({ cls := "FpuStackTrans", name := "translateOne", desc := "(I)Z" } : Jvm.MethodName)) ∈ lw_tbl := lw_at lw_m1 127 rfl
theorem q152 : (Jvm.Cond.instanceMethod ({ cls := "FpuStackTrans", name := "translateOne", desc := "(I)Z" } : Jvm.MethodName)) ∈ lw_all := lw_g (lw_at lw_m1 128 rfl) rfl
theorem q153 : (Jvm.Cond.code ({ cls := "FpuStackTrans", name := "translateOne", desc := "(I)Z" } : Jvm.MethodName) prog_1_method_22_code (4 : Nat) (Option.some Jvm.ClassFile.FieldType.boolean)) ∈ lw_all := lw_g (lw_at lw_m1 129 rfl) rfl
theorem q154 : (Jvm.Cond.methodLink "FpuStackTrans" (123 : Nat) ({ cls := "FpuStackTrans", name := "translateMove", desc := "(II)V" } : Jvm.MethodName)) ∈ lw_all := lw_g (lw_at lw_m1 130 rfl) rfl
theorem q155 : (Jvm.Cond.privateMethod ({ cls := "FpuStackTrans", name := "translateMove", desc := "(II)V" } : Jvm.MethodName)) ∈ lw_tbl := lw_at lw_m1 131 rfl
theorem q156 : (Jvm.Cond.instanceMethod ({ cls := "FpuStackTrans", name := "translateMove", desc := "(II)V" } : Jvm.MethodName)) ∈ lw_all := lw_g (lw_at lw_m1 132 rfl) rfl
theorem q157 : (Jvm.Cond.code ({ cls := "FpuStackTrans", name := "translateMove", desc := "(II)V" } : Jvm.MethodName) prog_1_method_23_code (4 : Nat) (Option.none : Option Jvm.ClassFile.FieldType)) ∈ lw_all := lw_g (lw_at lw_m1 133 rfl) rfl
theorem q158 : (Jvm.Cond.methodLink "FpuStackTrans" (129 : Nat) ({ cls := "FpuStackTrans", name := "freeRegister", desc := "()I" } : Jvm.MethodName)) ∈ lw_all := lw_g (lw_at lw_m1 134 rfl) rfl
theorem q159 : (Jvm.Cond.privateMethod ({ cls := "FpuStackTrans", name := "freeRegister", desc := "()I" } : Jvm.MethodName)) ∈ lw_tbl := lw_at lw_m1 135 rfl
theorem q160 : (Jvm.Cond.instanceMethod ({ cls := "FpuStackTrans", name := "freeRegister", desc := "()I" } : Jvm.MethodName)) ∈ lw_all := lw_g (lw_at lw_m1 136 rfl) rfl
theorem q161 : (Jvm.Cond.code ({ cls := "FpuStackTrans", name := "freeRegister", desc := "()I" } : Jvm.MethodName) prog_1_method_25_code (3 : Nat) (Option.some Jvm.ClassFile.FieldType.int)) ∈ lw_all := lw_g (lw_at lw_m1 137 rfl) rfl
theorem q162 : (Jvm.Cond.methodLink "FpuStackTrans" (126 : Nat) ({ cls := "FpuStackTrans", name := "translateCombine", desc := "(II)V" } : Jvm.MethodName)) ∈ lw_all := lw_g (lw_at lw_m1 138 rfl) rfl
theorem q163 : (Jvm.Cond.privateMethod ({ cls := "FpuStackTrans", name := "translateCombine", desc := "(II)V" } : Jvm.MethodName)) ∈ lw_tbl := lw_at lw_m1 139 rfl
theorem q164 : (Jvm.Cond.instanceMethod ({ cls := "FpuStackTrans", name := "translateCombine", desc := "(II)V" } : Jvm.MethodName)) ∈ lw_all := lw_g (lw_at lw_m1 140 rfl) rfl
theorem q165 : (Jvm.Cond.code ({ cls := "FpuStackTrans", name := "translateCombine", desc := "(II)V" } : Jvm.MethodName) prog_1_method_24_code (5 : Nat) (Option.none : Option Jvm.ClassFile.FieldType)) ∈ lw_all := lw_g (lw_at lw_m1 141 rfl) rfl
theorem q166 : (Jvm.Cond.methodLink "FpuStackTrans" (78 : Nat) ({ cls := "FpuStackTrans", name := "execute", desc := "(I)V" } : Jvm.MethodName)) ∈ lw_all := lw_g (lw_at lw_m1 142 rfl) rfl
theorem q167 : (Jvm.Cond.privateMethod ({ cls := "FpuStackTrans", name := "execute", desc := "(I)V" } : Jvm.MethodName)) ∈ lw_tbl := lw_at lw_m1 143 rfl
theorem q168 : (Jvm.Cond.instanceMethod ({ cls := "FpuStackTrans", name := "execute", desc := "(I)V" } : Jvm.MethodName)) ∈ lw_all := lw_g (lw_at lw_m1 144 rfl) rfl
theorem q169 : (Jvm.Cond.code ({ cls := "FpuStackTrans", name := "execute", desc := "(I)V" } : Jvm.MethodName) prog_1_method_27_code (4 : Nat) (Option.none : Option Jvm.ClassFile.FieldType)) ∈ lw_all := lw_g (lw_at lw_m1 145 rfl) rfl
theorem q170 : (Jvm.Cond.methodLink "FpuStackTrans" (133 : Nat) ({ cls := "FpuStackTrans", name := "work", desc := "(I)V" } : Jvm.MethodName)) ∈ lw_all := lw_g (lw_at lw_m1 146 rfl) rfl
theorem q171 : (Jvm.Cond.privateMethod ({ cls := "FpuStackTrans", name := "work", desc := "(I)V" } : Jvm.MethodName)) ∈ lw_tbl := lw_at lw_m1 147 rfl
theorem q172 : (Jvm.Cond.instanceMethod ({ cls := "FpuStackTrans", name := "work", desc := "(I)V" } : Jvm.MethodName)) ∈ lw_all := lw_g (lw_at lw_m1 148 rfl) rfl
theorem q173 : (Jvm.Cond.code ({ cls := "FpuStackTrans", name := "work", desc := "(I)V" } : Jvm.MethodName) prog_1_method_28_code (6 : Nat) (Option.none : Option Jvm.ClassFile.FieldType)) ∈ lw_all := lw_g (lw_at lw_m1 149 rfl) rfl
theorem q174 : (Jvm.Cond.methodLink "FpuStackTrans" (82 : Nat) ({ cls := "FpuStackTrans", name := "tryOne", desc := "()V" } : Jvm.MethodName)) ∈ lw_all := lw_g (lw_at lw_m1 150 rfl) rfl
theorem q175 : (Jvm.Cond.privateMethod ({ cls := "FpuStackTrans", name := "tryOne", desc := "()V" } : Jvm.MethodName)) ∈ lw_tbl := lw_at lw_m1 151 rfl
theorem q176 : (Jvm.Cond.instanceMethod ({ cls := "FpuStackTrans", name := "tryOne", desc := "()V" } : Jvm.MethodName)) ∈ lw_all := lw_g (lw_at lw_m1 152 rfl) rfl
theorem q177 : (Jvm.Cond.code ({ cls := "FpuStackTrans", name := "tryOne", desc := "()V" } : Jvm.MethodName) prog_1_method_14_code (4 : Nat) (Option.none : Option Jvm.ClassFile.FieldType)) ∈ lw_all := lw_g (lw_at lw_m1 153 rfl) rfl
theorem q178 : (Jvm.Cond.methodLink "FpuStackTrans" (89 : Nat) ({ cls := "FpuStackTrans", name := "popAndBranch", desc := "(II)I" } : Jvm.MethodName)) ∈ lw_all := lw_g (lw_at lw_m1 154 rfl) rfl
theorem q179 : (Jvm.Cond.privateMethod ({ cls := "FpuStackTrans", name := "popAndBranch", desc := "(II)I" } : Jvm.MethodName)) ∈ lw_tbl := lw_at lw_m1 155 rfl
theorem q180 : (Jvm.Cond.instanceMethod ({ cls := "FpuStackTrans", name := "popAndBranch", desc := "(II)I" } : Jvm.MethodName)) ∈ lw_all := lw_g (lw_at lw_m1 156 rfl) rfl
theorem q181 : (Jvm.Cond.code ({ cls := "FpuStackTrans", name := "popAndBranch", desc := "(II)I" } : Jvm.MethodName) prog_1_method_15_code (5 : Nat) (Option.some Jvm.ClassFile.FieldType.int)) ∈ lw_all := lw_g (lw_at lw_m1 157 rfl) rfl
theorem q182 : (Jvm.Cond.methodLink "FpuStackTrans" (92 : Nat) ({ cls := "FpuStackTrans", name := "moveOne", desc := "(II)V" } : Jvm.MethodName)) ∈ lw_all := lw_g (lw_at lw_m1 158 rfl) rfl
theorem q183 : (Jvm.Cond.privateMethod ({ cls := "FpuStackTrans", name := "moveOne", desc := "(II)V" } : Jvm.MethodName)) ∈ lw_tbl := lw_at lw_m1 159 rfl
theorem q184 : (Jvm.Cond.instanceMethod ({ cls := "FpuStackTrans", name := "moveOne", desc := "(II)V" } : Jvm.MethodName)) ∈ lw_all := lw_g (lw_at lw_m1 160 rfl) rfl
theorem q185 : (Jvm.Cond.code ({ cls := "FpuStackTrans", name := "moveOne", desc := "(II)V" } : Jvm.MethodName) prog_1_method_16_code (3 : Nat) (Option.none : Option Jvm.ClassFile.FieldType)) ∈ lw_all := lw_g (lw_at lw_m1 161 rfl) rfl
theorem q186 : (Jvm.Cond.methodLink "FpuStackTrans" (96 : Nat) ({ cls := "FpuStackTrans", name := "combineOne", desc := "(II)V" } : Jvm.MethodName)) ∈ lw_all := lw_g (lw_at lw_m1 162 rfl) rfl
theorem q187 : (Jvm.Cond.privateMethod ({ cls := "FpuStackTrans", name := "combineOne", desc := "(II)V" } : Jvm.MethodName)) ∈ lw_tbl := lw_at lw_m1 163 rfl
theorem q188 : (Jvm.Cond.instanceMethod ({ cls := "FpuStackTrans", name := "combineOne", desc := "(II)V" } : Jvm.MethodName)) ∈ lw_all := lw_g (lw_at lw_m1 164 rfl) rfl
theorem q189 : (Jvm.Cond.code ({ cls := "FpuStackTrans", name := "combineOne", desc := "(II)V" } : Jvm.MethodName) prog_1_method_17_code (7 : Nat) (Option.none : Option Jvm.ClassFile.FieldType)) ∈ lw_all := lw_g (lw_at lw_m1 165 rfl) rfl
theorem q191 : (Jvm.Cond.instanceMethod ({ cls := "FpuStackTrans", name := "depth", desc := "()I" } : Jvm.MethodName)) ∈ lw_all := lw_g (lw_at lw_m1 167 rfl) rfl
theorem q192 : (Jvm.Cond.selects "FpuStackTrans" ({ cls := "FpuStackTrans", name := "depth", desc := "()I" } : Jvm.MethodName) ({ cls := "FpuStackTrans", name := "depth", desc := "()I" } : Jvm.MethodName)) ∈ lw_all := lw_g (lw_at lw_m1 168 rfl) rfl
theorem q193 : (Jvm.Cond.code ({ cls := "FpuStackTrans", name := "depth", desc := "()I" } : Jvm.MethodName) prog_1_method_8_code (1 : Nat) (Option.some Jvm.ClassFile.FieldType.int)) ∈ lw_all := lw_g (lw_at lw_m1 169 rfl) rfl
theorem q195 : (Jvm.Cond.instanceMethod ({ cls := "FpuStackTrans", name := "st", desc := "(I)I" } : Jvm.MethodName)) ∈ lw_all := lw_g (lw_at lw_m1 171 rfl) rfl
theorem q196 : (Jvm.Cond.selects "FpuStackTrans" ({ cls := "FpuStackTrans", name := "st", desc := "(I)I" } : Jvm.MethodName) ({ cls := "FpuStackTrans", name := "st", desc := "(I)I" } : Jvm.MethodName)) ∈ lw_all := lw_g (lw_at lw_m1 172 rfl) rfl
theorem q197 : (Jvm.Cond.code ({ cls := "FpuStackTrans", name := "st", desc := "(I)I" } : Jvm.MethodName) prog_1_method_9_code (2 : Nat) (Option.some Jvm.ClassFile.FieldType.int)) ∈ lw_all := lw_g (lw_at lw_m1 173 rfl) rfl
theorem q199 : (Jvm.Cond.instanceMethod ({ cls := "FpuStackTrans", name := "memory", desc := "(I)I" } : Jvm.MethodName)) ∈ lw_all := lw_g (lw_at lw_m1 175 rfl) rfl
theorem q200 : (Jvm.Cond.selects "FpuStackTrans" ({ cls := "FpuStackTrans", name := "memory", desc := "(I)I" } : Jvm.MethodName) ({ cls := "FpuStackTrans", name := "memory", desc := "(I)I" } : Jvm.MethodName)) ∈ lw_all := lw_g (lw_at lw_m1 176 rfl) rfl
theorem q201 : (Jvm.Cond.code ({ cls := "FpuStackTrans", name := "memory", desc := "(I)I" } : Jvm.MethodName) prog_1_method_10_code (2 : Nat) (Option.some Jvm.ClassFile.FieldType.int)) ∈ lw_all := lw_g (lw_at lw_m1 177 rfl) rfl
theorem q203 : (Jvm.Cond.instanceMethod ({ cls := "FpuStackTrans", name := "place", desc := "()I" } : Jvm.MethodName)) ∈ lw_all := lw_g (lw_at lw_m1 179 rfl) rfl
theorem q204 : (Jvm.Cond.selects "FpuStackTrans" ({ cls := "FpuStackTrans", name := "place", desc := "()I" } : Jvm.MethodName) ({ cls := "FpuStackTrans", name := "place", desc := "()I" } : Jvm.MethodName)) ∈ lw_all := lw_g (lw_at lw_m1 180 rfl) rfl
theorem q205 : (Jvm.Cond.code ({ cls := "FpuStackTrans", name := "place", desc := "()I" } : Jvm.MethodName) prog_1_method_11_code (1 : Nat) (Option.some Jvm.ClassFile.FieldType.int)) ∈ lw_all := lw_g (lw_at lw_m1 181 rfl) rfl
theorem q207 : (Jvm.Cond.instanceMethod ({ cls := "FpuStackTrans", name := "executed", desc := "()I" } : Jvm.MethodName)) ∈ lw_all := lw_g (lw_at lw_m1 183 rfl) rfl
theorem q208 : (Jvm.Cond.selects "FpuStackTrans" ({ cls := "FpuStackTrans", name := "executed", desc := "()I" } : Jvm.MethodName) ({ cls := "FpuStackTrans", name := "executed", desc := "()I" } : Jvm.MethodName)) ∈ lw_all := lw_g (lw_at lw_m1 184 rfl) rfl
theorem q209 : (Jvm.Cond.code ({ cls := "FpuStackTrans", name := "executed", desc := "()I" } : Jvm.MethodName) prog_1_method_12_code (1 : Nat) (Option.some Jvm.ClassFile.FieldType.int)) ∈ lw_all := lw_g (lw_at lw_m1 185 rfl) rfl
theorem in_X0 : ∀ w ∈ wsX00, w ∈ lw_all := lw_in wsX00 [60, 62, 64, 66, 68, 70, 72, 74, 76, 78, 80, 82, 84, 86, 88, 90, 92, 94, 96, 98, 100] (by decide +kernel) (by decide +kernel)
end
section
/-! FpuStackTransModel -/
set_option maxRecDepth 100000
def RX1 : String := "FpuStackTransModel"
def TX1 : u_T := fun k => match k with
  | 0 => ("FpuStackTransModel", "n", "I", false)
  | 1 => ("FpuStackTransModel", "op", "[I", false)
  | 2 => ("FpuStackTransModel", "arg", "[I", false)
  | 3 => ("FpuStackTransModel", "stack", "[I", false)
  | 4 => ("FpuStackTransModel", "depth", "I", false)
  | 5 => ("FpuStackTransModel", "mem", "[I", false)
  | 6 => ("FpuStackTransModel", "pc", "I", false)
  | 7 => ("FpuStackTransModel", "count", "I", false)
  | _ => ("FpuStackTransModel", "status", "I", false)
def tyX1 : Nat → FieldType := fun k => match k with
  | 0 => .int
  | 1 => .array .int
  | 2 => .array .int
  | 3 => .array .int
  | 4 => .int
  | 5 => .array .int
  | 6 => .int
  | 7 => .int
  | _ => .int
abbrev wsX10 : List Cond := u_ws RX1 TX1 9
theorem nmX1 : ∀ a, a < 9 → ∀ b, b < 9 → a ≠ b → (TX1 a).2.1 ≠ (TX1 b).2.1 := by decide +kernel
theorem tyX1_ok : ∀ k, k < 9 → parseFieldDescriptor (TX1 k).2.2.1 = some (tyX1 k) := by decide +kernel
abbrev cX1_init : ByteArray := prog_3_method_1_code
def yX1_init : MethodName := ⟨RX1, "<init>", "()V"⟩
theorem dX1_init_0 : decode cX1_init 0 = .ok (.aload_n 0, 1) := by decide +kernel
theorem dX1_init_1 : decode cX1_init 1 = .ok (.invokespecial 1, 3) := by decide +kernel
theorem dX1_init_4 : decode cX1_init 4 = .ok (.aload_n 0, 1) := by decide +kernel
theorem dX1_init_5 : decode cX1_init 5 = .ok (.iconst 0, 1) := by decide +kernel
theorem dX1_init_6 : decode cX1_init 6 = .ok (.putfield 7, 3) := by decide +kernel
theorem dX1_init_9 : decode cX1_init 9 = .ok (.aload_n 0, 1) := by decide +kernel
theorem dX1_init_10 : decode cX1_init 10 = .ok (.bipush 32, 2) := by decide +kernel
theorem dX1_init_12 : decode cX1_init 12 = .ok (.newarray .int, 2) := by decide +kernel
theorem dX1_init_14 : decode cX1_init 14 = .ok (.putfield 13, 3) := by decide +kernel
theorem dX1_init_17 : decode cX1_init 17 = .ok (.aload_n 0, 1) := by decide +kernel
theorem dX1_init_18 : decode cX1_init 18 = .ok (.bipush 32, 2) := by decide +kernel
theorem dX1_init_20 : decode cX1_init 20 = .ok (.newarray .int, 2) := by decide +kernel
theorem dX1_init_22 : decode cX1_init 22 = .ok (.putfield 17, 3) := by decide +kernel
theorem dX1_init_25 : decode cX1_init 25 = .ok (.aload_n 0, 1) := by decide +kernel
theorem dX1_init_26 : decode cX1_init 26 = .ok (.bipush 8, 2) := by decide +kernel
theorem dX1_init_28 : decode cX1_init 28 = .ok (.newarray .int, 2) := by decide +kernel
theorem dX1_init_30 : decode cX1_init 30 = .ok (.putfield 20, 3) := by decide +kernel
theorem dX1_init_33 : decode cX1_init 33 = .ok (.aload_n 0, 1) := by decide +kernel
theorem dX1_init_34 : decode cX1_init 34 = .ok (.iconst 0, 1) := by decide +kernel
theorem dX1_init_35 : decode cX1_init 35 = .ok (.putfield 23, 3) := by decide +kernel
theorem dX1_init_38 : decode cX1_init 38 = .ok (.aload_n 0, 1) := by decide +kernel
theorem dX1_init_39 : decode cX1_init 39 = .ok (.bipush 8, 2) := by decide +kernel
theorem dX1_init_41 : decode cX1_init 41 = .ok (.newarray .int, 2) := by decide +kernel
theorem dX1_init_43 : decode cX1_init 43 = .ok (.putfield 26, 3) := by decide +kernel
theorem dX1_init_46 : decode cX1_init 46 = .ok (.aload_n 0, 1) := by decide +kernel
theorem dX1_init_47 : decode cX1_init 47 = .ok (.iconst 0, 1) := by decide +kernel
theorem dX1_init_48 : decode cX1_init 48 = .ok (.putfield 29, 3) := by decide +kernel
theorem dX1_init_51 : decode cX1_init 51 = .ok (.aload_n 0, 1) := by decide +kernel
theorem dX1_init_52 : decode cX1_init 52 = .ok (.iconst 0, 1) := by decide +kernel
theorem dX1_init_53 : decode cX1_init 53 = .ok (.putfield 32, 3) := by decide +kernel
theorem dX1_init_56 : decode cX1_init 56 = .ok (.aload_n 0, 1) := by decide +kernel
theorem dX1_init_57 : decode cX1_init 57 = .ok (.iconst 0, 1) := by decide +kernel
theorem dX1_init_58 : decode cX1_init 58 = .ok (.putfield 35, 3) := by decide +kernel
theorem dX1_init_61 : decode cX1_init 61 = .ok (.return_, 1) := by decide +kernel
abbrev cX1_emit : ByteArray := prog_3_method_3_code
def yX1_emit : MethodName := ⟨RX1, "emit", "(II)I"⟩
theorem dX1_emit_0 : decode cX1_emit 0 = .ok (.aload_n 0, 1) := by decide +kernel
theorem dX1_emit_1 : decode cX1_emit 1 = .ok (.getfield 7, 3) := by decide +kernel
theorem dX1_emit_4 : decode cX1_emit 4 = .ok (.bipush 32, 2) := by decide +kernel
theorem dX1_emit_6 : decode cX1_emit 6 = .ok (.if_icmp .ne 6, 3) := by decide +kernel
theorem dX1_emit_9 : decode cX1_emit 9 = .ok (.bipush (-2), 2) := by decide +kernel
theorem dX1_emit_11 : decode cX1_emit 11 = .ok (.ireturn, 1) := by decide +kernel
theorem dX1_emit_12 : decode cX1_emit 12 = .ok (.aload_n 0, 1) := by decide +kernel
theorem dX1_emit_13 : decode cX1_emit 13 = .ok (.iload_n 1, 1) := by decide +kernel
theorem dX1_emit_14 : decode cX1_emit 14 = .ok (.iload_n 2, 1) := by decide +kernel
theorem dX1_emit_15 : decode cX1_emit 15 = .ok (.invokevirtual 38, 3) := by decide +kernel
theorem dX1_emit_18 : decode cX1_emit 18 = .ok (.ifCond .ne 5, 3) := by decide +kernel
theorem dX1_emit_21 : decode cX1_emit 21 = .ok (.iconst (-1), 1) := by decide +kernel
theorem dX1_emit_22 : decode cX1_emit 22 = .ok (.ireturn, 1) := by decide +kernel
theorem dX1_emit_23 : decode cX1_emit 23 = .ok (.aload_n 0, 1) := by decide +kernel
theorem dX1_emit_24 : decode cX1_emit 24 = .ok (.getfield 13, 3) := by decide +kernel
theorem dX1_emit_27 : decode cX1_emit 27 = .ok (.aload_n 0, 1) := by decide +kernel
theorem dX1_emit_28 : decode cX1_emit 28 = .ok (.getfield 7, 3) := by decide +kernel
theorem dX1_emit_31 : decode cX1_emit 31 = .ok (.iload_n 1, 1) := by decide +kernel
theorem dX1_emit_32 : decode cX1_emit 32 = .ok (.iastore, 1) := by decide +kernel
theorem dX1_emit_33 : decode cX1_emit 33 = .ok (.aload_n 0, 1) := by decide +kernel
theorem dX1_emit_34 : decode cX1_emit 34 = .ok (.getfield 17, 3) := by decide +kernel
theorem dX1_emit_37 : decode cX1_emit 37 = .ok (.aload_n 0, 1) := by decide +kernel
theorem dX1_emit_38 : decode cX1_emit 38 = .ok (.getfield 7, 3) := by decide +kernel
theorem dX1_emit_41 : decode cX1_emit 41 = .ok (.iload_n 2, 1) := by decide +kernel
theorem dX1_emit_42 : decode cX1_emit 42 = .ok (.iastore, 1) := by decide +kernel
theorem dX1_emit_43 : decode cX1_emit 43 = .ok (.aload_n 0, 1) := by decide +kernel
theorem dX1_emit_44 : decode cX1_emit 44 = .ok (.dup, 1) := by decide +kernel
theorem dX1_emit_45 : decode cX1_emit 45 = .ok (.getfield 7, 3) := by decide +kernel
theorem dX1_emit_48 : decode cX1_emit 48 = .ok (.iconst 1, 1) := by decide +kernel
theorem dX1_emit_49 : decode cX1_emit 49 = .ok (.iadd, 1) := by decide +kernel
theorem dX1_emit_50 : decode cX1_emit 50 = .ok (.putfield 7, 3) := by decide +kernel
theorem dX1_emit_53 : decode cX1_emit 53 = .ok (.aload_n 0, 1) := by decide +kernel
theorem dX1_emit_54 : decode cX1_emit 54 = .ok (.getfield 7, 3) := by decide +kernel
theorem dX1_emit_57 : decode cX1_emit 57 = .ok (.ireturn, 1) := by decide +kernel
abbrev cX1_fits : ByteArray := prog_3_method_2_code
def yX1_fits : MethodName := ⟨RX1, "fits", "(II)Z"⟩
theorem dX1_fits_0 : decode cX1_fits 0 = .ok (.iload_n 1, 1) := by decide +kernel
theorem dX1_fits_1 : decode cX1_fits 1 = .ok (.ifCond .lt 9, 3) := by decide +kernel
theorem dX1_fits_4 : decode cX1_fits 4 = .ok (.iload_n 1, 1) := by decide +kernel
theorem dX1_fits_5 : decode cX1_fits 5 = .ok (.bipush 13, 2) := by decide +kernel
theorem dX1_fits_7 : decode cX1_fits 7 = .ok (.if_icmp .le 5, 3) := by decide +kernel
theorem dX1_fits_10 : decode cX1_fits 10 = .ok (.iconst 0, 1) := by decide +kernel
theorem dX1_fits_11 : decode cX1_fits 11 = .ok (.ireturn, 1) := by decide +kernel
theorem dX1_fits_12 : decode cX1_fits 12 = .ok (.iload_n 1, 1) := by decide +kernel
theorem dX1_fits_13 : decode cX1_fits 13 = .ok (.iconst 1, 1) := by decide +kernel
theorem dX1_fits_14 : decode cX1_fits 14 = .ok (.if_icmp .lt 25, 3) := by decide +kernel
theorem dX1_fits_17 : decode cX1_fits 17 = .ok (.iload_n 1, 1) := by decide +kernel
theorem dX1_fits_18 : decode cX1_fits 18 = .ok (.bipush 7, 2) := by decide +kernel
theorem dX1_fits_20 : decode cX1_fits 20 = .ok (.if_icmp .gt 19, 3) := by decide +kernel
theorem dX1_fits_23 : decode cX1_fits 23 = .ok (.iload_n 2, 1) := by decide +kernel
theorem dX1_fits_24 : decode cX1_fits 24 = .ok (.ifCond .lt 13, 3) := by decide +kernel
theorem dX1_fits_27 : decode cX1_fits 27 = .ok (.iload_n 2, 1) := by decide +kernel
theorem dX1_fits_28 : decode cX1_fits 28 = .ok (.bipush 7, 2) := by decide +kernel
theorem dX1_fits_30 : decode cX1_fits 30 = .ok (.if_icmp .gt 7, 3) := by decide +kernel
theorem dX1_fits_33 : decode cX1_fits 33 = .ok (.iconst 1, 1) := by decide +kernel
theorem dX1_fits_34 : decode cX1_fits 34 = .ok (.goto 4, 3) := by decide +kernel
theorem dX1_fits_37 : decode cX1_fits 37 = .ok (.iconst 0, 1) := by decide +kernel
theorem dX1_fits_38 : decode cX1_fits 38 = .ok (.ireturn, 1) := by decide +kernel
theorem dX1_fits_39 : decode cX1_fits 39 = .ok (.iload_n 1, 1) := by decide +kernel
theorem dX1_fits_40 : decode cX1_fits 40 = .ok (.bipush 8, 2) := by decide +kernel
theorem dX1_fits_42 : decode cX1_fits 42 = .ok (.if_icmp .eq 9, 3) := by decide +kernel
theorem dX1_fits_45 : decode cX1_fits 45 = .ok (.iload_n 1, 1) := by decide +kernel
theorem dX1_fits_46 : decode cX1_fits 46 = .ok (.bipush 9, 2) := by decide +kernel
theorem dX1_fits_48 : decode cX1_fits 48 = .ok (.if_icmp .ne 20, 3) := by decide +kernel
theorem dX1_fits_51 : decode cX1_fits 51 = .ok (.iload_n 2, 1) := by decide +kernel
theorem dX1_fits_52 : decode cX1_fits 52 = .ok (.iconst 1, 1) := by decide +kernel
theorem dX1_fits_53 : decode cX1_fits 53 = .ok (.if_icmp .lt 13, 3) := by decide +kernel
theorem dX1_fits_56 : decode cX1_fits 56 = .ok (.iload_n 2, 1) := by decide +kernel
theorem dX1_fits_57 : decode cX1_fits 57 = .ok (.bipush 7, 2) := by decide +kernel
theorem dX1_fits_59 : decode cX1_fits 59 = .ok (.if_icmp .gt 7, 3) := by decide +kernel
theorem dX1_fits_62 : decode cX1_fits 62 = .ok (.iconst 1, 1) := by decide +kernel
theorem dX1_fits_63 : decode cX1_fits 63 = .ok (.goto 4, 3) := by decide +kernel
theorem dX1_fits_66 : decode cX1_fits 66 = .ok (.iconst 0, 1) := by decide +kernel
theorem dX1_fits_67 : decode cX1_fits 67 = .ok (.ireturn, 1) := by decide +kernel
theorem dX1_fits_68 : decode cX1_fits 68 = .ok (.iload_n 1, 1) := by decide +kernel
theorem dX1_fits_69 : decode cX1_fits 69 = .ok (.bipush 10, 2) := by decide +kernel
theorem dX1_fits_71 : decode cX1_fits 71 = .ok (.if_icmp .lt 19, 3) := by decide +kernel
theorem dX1_fits_74 : decode cX1_fits 74 = .ok (.iload_n 1, 1) := by decide +kernel
theorem dX1_fits_75 : decode cX1_fits 75 = .ok (.bipush 12, 2) := by decide +kernel
theorem dX1_fits_77 : decode cX1_fits 77 = .ok (.if_icmp .gt 13, 3) := by decide +kernel
theorem dX1_fits_80 : decode cX1_fits 80 = .ok (.iload_n 2, 1) := by decide +kernel
theorem dX1_fits_81 : decode cX1_fits 81 = .ok (.ifCond .lt 13, 3) := by decide +kernel
theorem dX1_fits_84 : decode cX1_fits 84 = .ok (.iload_n 2, 1) := by decide +kernel
theorem dX1_fits_85 : decode cX1_fits 85 = .ok (.bipush 31, 2) := by decide +kernel
theorem dX1_fits_87 : decode cX1_fits 87 = .ok (.if_icmp .gt 7, 3) := by decide +kernel
theorem dX1_fits_90 : decode cX1_fits 90 = .ok (.iconst 1, 1) := by decide +kernel
theorem dX1_fits_91 : decode cX1_fits 91 = .ok (.goto 4, 3) := by decide +kernel
theorem dX1_fits_94 : decode cX1_fits 94 = .ok (.iconst 0, 1) := by decide +kernel
theorem dX1_fits_95 : decode cX1_fits 95 = .ok (.ireturn, 1) := by decide +kernel
abbrev cX1_patch : ByteArray := prog_3_method_4_code
def yX1_patch : MethodName := ⟨RX1, "patch", "(III)I"⟩
theorem dX1_patch_0 : decode cX1_patch 0 = .ok (.iload_n 1, 1) := by decide +kernel
theorem dX1_patch_1 : decode cX1_patch 1 = .ok (.ifCond .lt 20, 3) := by decide +kernel
theorem dX1_patch_4 : decode cX1_patch 4 = .ok (.iload_n 1, 1) := by decide +kernel
theorem dX1_patch_5 : decode cX1_patch 5 = .ok (.aload_n 0, 1) := by decide +kernel
theorem dX1_patch_6 : decode cX1_patch 6 = .ok (.getfield 7, 3) := by decide +kernel
theorem dX1_patch_9 : decode cX1_patch 9 = .ok (.if_icmp .ge 12, 3) := by decide +kernel
theorem dX1_patch_12 : decode cX1_patch 12 = .ok (.aload_n 0, 1) := by decide +kernel
theorem dX1_patch_13 : decode cX1_patch 13 = .ok (.iload_n 2, 1) := by decide +kernel
theorem dX1_patch_14 : decode cX1_patch 14 = .ok (.iload_n 3, 1) := by decide +kernel
theorem dX1_patch_15 : decode cX1_patch 15 = .ok (.invokevirtual 38, 3) := by decide +kernel
theorem dX1_patch_18 : decode cX1_patch 18 = .ok (.ifCond .ne 5, 3) := by decide +kernel
theorem dX1_patch_21 : decode cX1_patch 21 = .ok (.iconst (-1), 1) := by decide +kernel
theorem dX1_patch_22 : decode cX1_patch 22 = .ok (.ireturn, 1) := by decide +kernel
theorem dX1_patch_23 : decode cX1_patch 23 = .ok (.aload_n 0, 1) := by decide +kernel
theorem dX1_patch_24 : decode cX1_patch 24 = .ok (.getfield 13, 3) := by decide +kernel
theorem dX1_patch_27 : decode cX1_patch 27 = .ok (.iload_n 1, 1) := by decide +kernel
theorem dX1_patch_28 : decode cX1_patch 28 = .ok (.iload_n 2, 1) := by decide +kernel
theorem dX1_patch_29 : decode cX1_patch 29 = .ok (.iastore, 1) := by decide +kernel
theorem dX1_patch_30 : decode cX1_patch 30 = .ok (.aload_n 0, 1) := by decide +kernel
theorem dX1_patch_31 : decode cX1_patch 31 = .ok (.getfield 17, 3) := by decide +kernel
theorem dX1_patch_34 : decode cX1_patch 34 = .ok (.iload_n 1, 1) := by decide +kernel
theorem dX1_patch_35 : decode cX1_patch 35 = .ok (.iload_n 3, 1) := by decide +kernel
theorem dX1_patch_36 : decode cX1_patch 36 = .ok (.iastore, 1) := by decide +kernel
theorem dX1_patch_37 : decode cX1_patch 37 = .ok (.aload_n 0, 1) := by decide +kernel
theorem dX1_patch_38 : decode cX1_patch 38 = .ok (.getfield 7, 3) := by decide +kernel
theorem dX1_patch_41 : decode cX1_patch 41 = .ok (.ireturn, 1) := by decide +kernel
abbrev cX1_poke : ByteArray := prog_3_method_5_code
def yX1_poke : MethodName := ⟨RX1, "poke", "(II)Z"⟩
theorem dX1_poke_0 : decode cX1_poke 0 = .ok (.iload_n 1, 1) := by decide +kernel
theorem dX1_poke_1 : decode cX1_poke 1 = .ok (.ifCond .lt 9, 3) := by decide +kernel
theorem dX1_poke_4 : decode cX1_poke 4 = .ok (.iload_n 1, 1) := by decide +kernel
theorem dX1_poke_5 : decode cX1_poke 5 = .ok (.bipush 7, 2) := by decide +kernel
theorem dX1_poke_7 : decode cX1_poke 7 = .ok (.if_icmp .le 5, 3) := by decide +kernel
theorem dX1_poke_10 : decode cX1_poke 10 = .ok (.iconst 0, 1) := by decide +kernel
theorem dX1_poke_11 : decode cX1_poke 11 = .ok (.ireturn, 1) := by decide +kernel
theorem dX1_poke_12 : decode cX1_poke 12 = .ok (.aload_n 0, 1) := by decide +kernel
theorem dX1_poke_13 : decode cX1_poke 13 = .ok (.getfield 26, 3) := by decide +kernel
theorem dX1_poke_16 : decode cX1_poke 16 = .ok (.iload_n 1, 1) := by decide +kernel
theorem dX1_poke_17 : decode cX1_poke 17 = .ok (.iload_n 2, 1) := by decide +kernel
theorem dX1_poke_18 : decode cX1_poke 18 = .ok (.iastore, 1) := by decide +kernel
theorem dX1_poke_19 : decode cX1_poke 19 = .ok (.iconst 1, 1) := by decide +kernel
theorem dX1_poke_20 : decode cX1_poke 20 = .ok (.ireturn, 1) := by decide +kernel
abbrev cX1_start : ByteArray := prog_3_method_6_code
def yX1_start : MethodName := ⟨RX1, "start", "()V"⟩
theorem dX1_start_0 : decode cX1_start 0 = .ok (.aload_n 0, 1) := by decide +kernel
theorem dX1_start_1 : decode cX1_start 1 = .ok (.iconst 0, 1) := by decide +kernel
theorem dX1_start_2 : decode cX1_start 2 = .ok (.putfield 23, 3) := by decide +kernel
theorem dX1_start_5 : decode cX1_start 5 = .ok (.aload_n 0, 1) := by decide +kernel
theorem dX1_start_6 : decode cX1_start 6 = .ok (.iconst 0, 1) := by decide +kernel
theorem dX1_start_7 : decode cX1_start 7 = .ok (.putfield 29, 3) := by decide +kernel
theorem dX1_start_10 : decode cX1_start 10 = .ok (.aload_n 0, 1) := by decide +kernel
theorem dX1_start_11 : decode cX1_start 11 = .ok (.iconst 0, 1) := by decide +kernel
theorem dX1_start_12 : decode cX1_start 12 = .ok (.putfield 32, 3) := by decide +kernel
theorem dX1_start_15 : decode cX1_start 15 = .ok (.aload_n 0, 1) := by decide +kernel
theorem dX1_start_16 : decode cX1_start 16 = .ok (.iconst 0, 1) := by decide +kernel
theorem dX1_start_17 : decode cX1_start 17 = .ok (.putfield 35, 3) := by decide +kernel
theorem dX1_start_20 : decode cX1_start 20 = .ok (.return_, 1) := by decide +kernel
abbrev cX1_run : ByteArray := prog_3_method_13_code
def yX1_run : MethodName := ⟨RX1, "run", "(I)I"⟩
theorem dX1_run_0 : decode cX1_run 0 = .ok (.iload_n 1, 1) := by decide +kernel
theorem dX1_run_1 : decode cX1_run 1 = .ok (.ifCond .ge 7, 3) := by decide +kernel
theorem dX1_run_4 : decode cX1_run 4 = .ok (.iconst 0, 1) := by decide +kernel
theorem dX1_run_5 : decode cX1_run 5 = .ok (.goto 17, 3) := by decide +kernel
theorem dX1_run_8 : decode cX1_run 8 = .ok (.iload_n 1, 1) := by decide +kernel
theorem dX1_run_9 : decode cX1_run 9 = .ok (.sipush 200, 3) := by decide +kernel
theorem dX1_run_12 : decode cX1_run 12 = .ok (.if_icmp .le 9, 3) := by decide +kernel
theorem dX1_run_15 : decode cX1_run 15 = .ok (.sipush 200, 3) := by decide +kernel
theorem dX1_run_18 : decode cX1_run 18 = .ok (.goto 4, 3) := by decide +kernel
theorem dX1_run_21 : decode cX1_run 21 = .ok (.iload_n 1, 1) := by decide +kernel
theorem dX1_run_22 : decode cX1_run 22 = .ok (.istore_n 2, 1) := by decide +kernel
theorem dX1_run_23 : decode cX1_run 23 = .ok (.iconst 0, 1) := by decide +kernel
theorem dX1_run_24 : decode cX1_run 24 = .ok (.istore_n 3, 1) := by decide +kernel
theorem dX1_run_25 : decode cX1_run 25 = .ok (.iload_n 3, 1) := by decide +kernel
theorem dX1_run_26 : decode cX1_run 26 = .ok (.iload_n 2, 1) := by decide +kernel
theorem dX1_run_27 : decode cX1_run 27 = .ok (.if_icmp .ge 20, 3) := by decide +kernel
theorem dX1_run_30 : decode cX1_run 30 = .ok (.aload_n 0, 1) := by decide +kernel
theorem dX1_run_31 : decode cX1_run 31 = .ok (.getfield 35, 3) := by decide +kernel
theorem dX1_run_34 : decode cX1_run 34 = .ok (.ifCond .ne 13, 3) := by decide +kernel
theorem dX1_run_37 : decode cX1_run 37 = .ok (.aload_n 0, 1) := by decide +kernel
theorem dX1_run_38 : decode cX1_run 38 = .ok (.invokevirtual 61, 3) := by decide +kernel
theorem dX1_run_41 : decode cX1_run 41 = .ok (.iinc 3 1, 3) := by decide +kernel
theorem dX1_run_44 : decode cX1_run 44 = .ok (.goto (-19), 3) := by decide +kernel
theorem dX1_run_47 : decode cX1_run 47 = .ok (.aload_n 0, 1) := by decide +kernel
theorem dX1_run_48 : decode cX1_run 48 = .ok (.getfield 35, 3) := by decide +kernel
theorem dX1_run_51 : decode cX1_run 51 = .ok (.ireturn, 1) := by decide +kernel
abbrev cX1_attempt : ByteArray := prog_3_method_12_code
def yX1_attempt : MethodName := ⟨RX1, "attempt", "()V"⟩
theorem dX1_attempt_0 : decode cX1_attempt 0 = .ok (.aload_n 0, 1) := by decide +kernel
theorem dX1_attempt_1 : decode cX1_attempt 1 = .ok (.getfield 29, 3) := by decide +kernel
theorem dX1_attempt_4 : decode cX1_attempt 4 = .ok (.aload_n 0, 1) := by decide +kernel
theorem dX1_attempt_5 : decode cX1_attempt 5 = .ok (.getfield 7, 3) := by decide +kernel
theorem dX1_attempt_8 : decode cX1_attempt 8 = .ok (.if_icmp .ge 28, 3) := by decide +kernel
theorem dX1_attempt_11 : decode cX1_attempt 11 = .ok (.aload_n 0, 1) := by decide +kernel
theorem dX1_attempt_12 : decode cX1_attempt 12 = .ok (.aload_n 0, 1) := by decide +kernel
theorem dX1_attempt_13 : decode cX1_attempt 13 = .ok (.getfield 13, 3) := by decide +kernel
theorem dX1_attempt_16 : decode cX1_attempt 16 = .ok (.aload_n 0, 1) := by decide +kernel
theorem dX1_attempt_17 : decode cX1_attempt 17 = .ok (.getfield 29, 3) := by decide +kernel
theorem dX1_attempt_20 : decode cX1_attempt 20 = .ok (.iaload, 1) := by decide +kernel
theorem dX1_attempt_21 : decode cX1_attempt 21 = .ok (.aload_n 0, 1) := by decide +kernel
theorem dX1_attempt_22 : decode cX1_attempt 22 = .ok (.getfield 17, 3) := by decide +kernel
theorem dX1_attempt_25 : decode cX1_attempt 25 = .ok (.aload_n 0, 1) := by decide +kernel
theorem dX1_attempt_26 : decode cX1_attempt 26 = .ok (.getfield 29, 3) := by decide +kernel
theorem dX1_attempt_29 : decode cX1_attempt 29 = .ok (.iaload, 1) := by decide +kernel
theorem dX1_attempt_30 : decode cX1_attempt 30 = .ok (.invokevirtual 50, 3) := by decide +kernel
theorem dX1_attempt_33 : decode cX1_attempt 33 = .ok (.ifCond .eq 9, 3) := by decide +kernel
theorem dX1_attempt_36 : decode cX1_attempt 36 = .ok (.aload_n 0, 1) := by decide +kernel
theorem dX1_attempt_37 : decode cX1_attempt 37 = .ok (.iconst 2, 1) := by decide +kernel
theorem dX1_attempt_38 : decode cX1_attempt 38 = .ok (.putfield 35, 3) := by decide +kernel
theorem dX1_attempt_41 : decode cX1_attempt 41 = .ok (.return_, 1) := by decide +kernel
theorem dX1_attempt_42 : decode cX1_attempt 42 = .ok (.aload_n 0, 1) := by decide +kernel
theorem dX1_attempt_43 : decode cX1_attempt 43 = .ok (.getfield 13, 3) := by decide +kernel
theorem dX1_attempt_46 : decode cX1_attempt 46 = .ok (.aload_n 0, 1) := by decide +kernel
theorem dX1_attempt_47 : decode cX1_attempt 47 = .ok (.getfield 29, 3) := by decide +kernel
theorem dX1_attempt_50 : decode cX1_attempt 50 = .ok (.iaload, 1) := by decide +kernel
theorem dX1_attempt_51 : decode cX1_attempt 51 = .ok (.istore_n 1, 1) := by decide +kernel
theorem dX1_attempt_52 : decode cX1_attempt 52 = .ok (.aload_n 0, 1) := by decide +kernel
theorem dX1_attempt_53 : decode cX1_attempt 53 = .ok (.getfield 17, 3) := by decide +kernel
theorem dX1_attempt_56 : decode cX1_attempt 56 = .ok (.aload_n 0, 1) := by decide +kernel
theorem dX1_attempt_57 : decode cX1_attempt 57 = .ok (.getfield 29, 3) := by decide +kernel
theorem dX1_attempt_60 : decode cX1_attempt 60 = .ok (.iaload, 1) := by decide +kernel
theorem dX1_attempt_61 : decode cX1_attempt 61 = .ok (.istore_n 2, 1) := by decide +kernel
theorem dX1_attempt_62 : decode cX1_attempt 62 = .ok (.aload_n 0, 1) := by decide +kernel
theorem dX1_attempt_63 : decode cX1_attempt 63 = .ok (.dup, 1) := by decide +kernel
theorem dX1_attempt_64 : decode cX1_attempt 64 = .ok (.getfield 32, 3) := by decide +kernel
theorem dX1_attempt_67 : decode cX1_attempt 67 = .ok (.iconst 1, 1) := by decide +kernel
theorem dX1_attempt_68 : decode cX1_attempt 68 = .ok (.iadd, 1) := by decide +kernel
theorem dX1_attempt_69 : decode cX1_attempt 69 = .ok (.putfield 32, 3) := by decide +kernel
theorem dX1_attempt_72 : decode cX1_attempt 72 = .ok (.iload_n 1, 1) := by decide +kernel
theorem dX1_attempt_73 : decode cX1_attempt 73 = .ok (.bipush 13, 2) := by decide +kernel
theorem dX1_attempt_75 : decode cX1_attempt 75 = .ok (.if_icmp .ne 9, 3) := by decide +kernel
theorem dX1_attempt_78 : decode cX1_attempt 78 = .ok (.aload_n 0, 1) := by decide +kernel
theorem dX1_attempt_79 : decode cX1_attempt 79 = .ok (.iconst 1, 1) := by decide +kernel
theorem dX1_attempt_80 : decode cX1_attempt 80 = .ok (.putfield 35, 3) := by decide +kernel
theorem dX1_attempt_83 : decode cX1_attempt 83 = .ok (.return_, 1) := by decide +kernel
theorem dX1_attempt_84 : decode cX1_attempt 84 = .ok (.aload_n 0, 1) := by decide +kernel
theorem dX1_attempt_85 : decode cX1_attempt 85 = .ok (.dup, 1) := by decide +kernel
theorem dX1_attempt_86 : decode cX1_attempt 86 = .ok (.getfield 29, 3) := by decide +kernel
theorem dX1_attempt_89 : decode cX1_attempt 89 = .ok (.iconst 1, 1) := by decide +kernel
theorem dX1_attempt_90 : decode cX1_attempt 90 = .ok (.iadd, 1) := by decide +kernel
theorem dX1_attempt_91 : decode cX1_attempt 91 = .ok (.putfield 29, 3) := by decide +kernel
theorem dX1_attempt_94 : decode cX1_attempt 94 = .ok (.iload_n 1, 1) := by decide +kernel
theorem dX1_attempt_95 : decode cX1_attempt 95 = .ok (.ifCond .ne 11, 3) := by decide +kernel
theorem dX1_attempt_98 : decode cX1_attempt 98 = .ok (.aload_n 0, 1) := by decide +kernel
theorem dX1_attempt_99 : decode cX1_attempt 99 = .ok (.iload_n 2, 1) := by decide +kernel
theorem dX1_attempt_100 : decode cX1_attempt 100 = .ok (.invokevirtual 53, 3) := by decide +kernel
theorem dX1_attempt_103 : decode cX1_attempt 103 = .ok (.goto 119, 3) := by decide +kernel
theorem dX1_attempt_106 : decode cX1_attempt 106 = .ok (.iload_n 1, 1) := by decide +kernel
theorem dX1_attempt_107 : decode cX1_attempt 107 = .ok (.iconst 1, 1) := by decide +kernel
theorem dX1_attempt_108 : decode cX1_attempt 108 = .ok (.if_icmp .ne 16, 3) := by decide +kernel
theorem dX1_attempt_111 : decode cX1_attempt 111 = .ok (.aload_n 0, 1) := by decide +kernel
theorem dX1_attempt_112 : decode cX1_attempt 112 = .ok (.aload_n 0, 1) := by decide +kernel
theorem dX1_attempt_113 : decode cX1_attempt 113 = .ok (.getfield 20, 3) := by decide +kernel
theorem dX1_attempt_116 : decode cX1_attempt 116 = .ok (.iload_n 2, 1) := by decide +kernel
theorem dX1_attempt_117 : decode cX1_attempt 117 = .ok (.iaload, 1) := by decide +kernel
theorem dX1_attempt_118 : decode cX1_attempt 118 = .ok (.invokevirtual 53, 3) := by decide +kernel
theorem dX1_attempt_121 : decode cX1_attempt 121 = .ok (.goto 101, 3) := by decide +kernel
theorem dX1_attempt_124 : decode cX1_attempt 124 = .ok (.iload_n 1, 1) := by decide +kernel
theorem dX1_attempt_125 : decode cX1_attempt 125 = .ok (.iconst 2, 1) := by decide +kernel
theorem dX1_attempt_126 : decode cX1_attempt 126 = .ok (.if_icmp .ne 16, 3) := by decide +kernel
theorem dX1_attempt_129 : decode cX1_attempt 129 = .ok (.aload_n 0, 1) := by decide +kernel
theorem dX1_attempt_130 : decode cX1_attempt 130 = .ok (.aload_n 0, 1) := by decide +kernel
theorem dX1_attempt_131 : decode cX1_attempt 131 = .ok (.getfield 26, 3) := by decide +kernel
theorem dX1_attempt_134 : decode cX1_attempt 134 = .ok (.iload_n 2, 1) := by decide +kernel
theorem dX1_attempt_135 : decode cX1_attempt 135 = .ok (.iaload, 1) := by decide +kernel
theorem dX1_attempt_136 : decode cX1_attempt 136 = .ok (.invokevirtual 53, 3) := by decide +kernel
theorem dX1_attempt_139 : decode cX1_attempt 139 = .ok (.goto 83, 3) := by decide +kernel
theorem dX1_attempt_142 : decode cX1_attempt 142 = .ok (.iload_n 1, 1) := by decide +kernel
theorem dX1_attempt_143 : decode cX1_attempt 143 = .ok (.iconst 3, 1) := by decide +kernel
theorem dX1_attempt_144 : decode cX1_attempt 144 = .ok (.if_icmp .ne 16, 3) := by decide +kernel
theorem dX1_attempt_147 : decode cX1_attempt 147 = .ok (.aload_n 0, 1) := by decide +kernel
theorem dX1_attempt_148 : decode cX1_attempt 148 = .ok (.getfield 26, 3) := by decide +kernel
theorem dX1_attempt_151 : decode cX1_attempt 151 = .ok (.iload_n 2, 1) := by decide +kernel
theorem dX1_attempt_152 : decode cX1_attempt 152 = .ok (.aload_n 0, 1) := by decide +kernel
theorem dX1_attempt_153 : decode cX1_attempt 153 = .ok (.invokevirtual 46, 3) := by decide +kernel
theorem dX1_attempt_156 : decode cX1_attempt 156 = .ok (.iastore, 1) := by decide +kernel
theorem dX1_attempt_157 : decode cX1_attempt 157 = .ok (.goto 65, 3) := by decide +kernel
theorem dX1_attempt_160 : decode cX1_attempt 160 = .ok (.iload_n 1, 1) := by decide +kernel
theorem dX1_attempt_161 : decode cX1_attempt 161 = .ok (.bipush 12, 2) := by decide +kernel
theorem dX1_attempt_163 : decode cX1_attempt 163 = .ok (.if_icmp .ne 11, 3) := by decide +kernel
theorem dX1_attempt_166 : decode cX1_attempt 166 = .ok (.aload_n 0, 1) := by decide +kernel
theorem dX1_attempt_167 : decode cX1_attempt 167 = .ok (.iload_n 2, 1) := by decide +kernel
theorem dX1_attempt_168 : decode cX1_attempt 168 = .ok (.putfield 29, 3) := by decide +kernel
theorem dX1_attempt_171 : decode cX1_attempt 171 = .ok (.goto 51, 3) := by decide +kernel
theorem dX1_attempt_174 : decode cX1_attempt 174 = .ok (.iload_n 1, 1) := by decide +kernel
theorem dX1_attempt_175 : decode cX1_attempt 175 = .ok (.bipush 10, 2) := by decide +kernel
theorem dX1_attempt_177 : decode cX1_attempt 177 = .ok (.if_icmp .eq 9, 3) := by decide +kernel
theorem dX1_attempt_180 : decode cX1_attempt 180 = .ok (.iload_n 1, 1) := by decide +kernel
theorem dX1_attempt_181 : decode cX1_attempt 181 = .ok (.bipush 11, 2) := by decide +kernel
theorem dX1_attempt_183 : decode cX1_attempt 183 = .ok (.if_icmp .ne 33, 3) := by decide +kernel
theorem dX1_attempt_186 : decode cX1_attempt 186 = .ok (.aload_n 0, 1) := by decide +kernel
theorem dX1_attempt_187 : decode cX1_attempt 187 = .ok (.invokevirtual 46, 3) := by decide +kernel
theorem dX1_attempt_190 : decode cX1_attempt 190 = .ok (.istore_n 3, 1) := by decide +kernel
theorem dX1_attempt_191 : decode cX1_attempt 191 = .ok (.iload_n 1, 1) := by decide +kernel
theorem dX1_attempt_192 : decode cX1_attempt 192 = .ok (.bipush 10, 2) := by decide +kernel
theorem dX1_attempt_194 : decode cX1_attempt 194 = .ok (.if_icmp .ne 10, 3) := by decide +kernel
theorem dX1_attempt_197 : decode cX1_attempt 197 = .ok (.iload_n 3, 1) := by decide +kernel
theorem dX1_attempt_198 : decode cX1_attempt 198 = .ok (.ifCond .ne 15, 3) := by decide +kernel
theorem dX1_attempt_201 : decode cX1_attempt 201 = .ok (.goto 7, 3) := by decide +kernel
theorem dX1_attempt_204 : decode cX1_attempt 204 = .ok (.iload_n 3, 1) := by decide +kernel
theorem dX1_attempt_205 : decode cX1_attempt 205 = .ok (.ifCond .ge 8, 3) := by decide +kernel
theorem dX1_attempt_208 : decode cX1_attempt 208 = .ok (.aload_n 0, 1) := by decide +kernel
theorem dX1_attempt_209 : decode cX1_attempt 209 = .ok (.iload_n 2, 1) := by decide +kernel
theorem dX1_attempt_210 : decode cX1_attempt 210 = .ok (.putfield 29, 3) := by decide +kernel
theorem dX1_attempt_213 : decode cX1_attempt 213 = .ok (.goto 9, 3) := by decide +kernel
theorem dX1_attempt_216 : decode cX1_attempt 216 = .ok (.aload_n 0, 1) := by decide +kernel
theorem dX1_attempt_217 : decode cX1_attempt 217 = .ok (.iload_n 1, 1) := by decide +kernel
theorem dX1_attempt_218 : decode cX1_attempt 218 = .ok (.iload_n 2, 1) := by decide +kernel
theorem dX1_attempt_219 : decode cX1_attempt 219 = .ok (.invokevirtual 57, 3) := by decide +kernel
theorem dX1_attempt_222 : decode cX1_attempt 222 = .ok (.return_, 1) := by decide +kernel
abbrev cX1_faulty : ByteArray := prog_3_method_10_code
def yX1_faulty : MethodName := ⟨RX1, "faulty", "(II)Z"⟩
theorem dX1_faulty_0 : decode cX1_faulty 0 = .ok (.aload_n 0, 1) := by decide +kernel
theorem dX1_faulty_1 : decode cX1_faulty 1 = .ok (.getfield 23, 3) := by decide +kernel
theorem dX1_faulty_4 : decode cX1_faulty 4 = .ok (.aload_n 0, 1) := by decide +kernel
theorem dX1_faulty_5 : decode cX1_faulty 5 = .ok (.iload_n 1, 1) := by decide +kernel
theorem dX1_faulty_6 : decode cX1_faulty 6 = .ok (.iload_n 2, 1) := by decide +kernel
theorem dX1_faulty_7 : decode cX1_faulty 7 = .ok (.invokevirtual 42, 3) := by decide +kernel
theorem dX1_faulty_10 : decode cX1_faulty 10 = .ok (.if_icmp .lt 17, 3) := by decide +kernel
theorem dX1_faulty_13 : decode cX1_faulty 13 = .ok (.iload_n 1, 1) := by decide +kernel
theorem dX1_faulty_14 : decode cX1_faulty 14 = .ok (.iconst 2, 1) := by decide +kernel
theorem dX1_faulty_15 : decode cX1_faulty 15 = .ok (.if_icmp .gt 16, 3) := by decide +kernel
theorem dX1_faulty_18 : decode cX1_faulty 18 = .ok (.aload_n 0, 1) := by decide +kernel
theorem dX1_faulty_19 : decode cX1_faulty 19 = .ok (.getfield 23, 3) := by decide +kernel
theorem dX1_faulty_22 : decode cX1_faulty 22 = .ok (.bipush 8, 2) := by decide +kernel
theorem dX1_faulty_24 : decode cX1_faulty 24 = .ok (.if_icmp .ne 7, 3) := by decide +kernel
theorem dX1_faulty_27 : decode cX1_faulty 27 = .ok (.iconst 1, 1) := by decide +kernel
theorem dX1_faulty_28 : decode cX1_faulty 28 = .ok (.goto 4, 3) := by decide +kernel
theorem dX1_faulty_31 : decode cX1_faulty 31 = .ok (.iconst 0, 1) := by decide +kernel
theorem dX1_faulty_32 : decode cX1_faulty 32 = .ok (.ireturn, 1) := by decide +kernel
abbrev cX1_needs : ByteArray := prog_3_method_9_code
def yX1_needs : MethodName := ⟨RX1, "needs", "(II)I"⟩
theorem dX1_needs_0 : decode cX1_needs 0 = .ok (.iload_n 1, 1) := by decide +kernel
theorem dX1_needs_1 : decode cX1_needs 1 = .ok (.ifCond .eq 20, 3) := by decide +kernel
theorem dX1_needs_4 : decode cX1_needs 4 = .ok (.iload_n 1, 1) := by decide +kernel
theorem dX1_needs_5 : decode cX1_needs 5 = .ok (.iconst 2, 1) := by decide +kernel
theorem dX1_needs_6 : decode cX1_needs 6 = .ok (.if_icmp .eq 15, 3) := by decide +kernel
theorem dX1_needs_9 : decode cX1_needs 9 = .ok (.iload_n 1, 1) := by decide +kernel
theorem dX1_needs_10 : decode cX1_needs 10 = .ok (.bipush 12, 2) := by decide +kernel
theorem dX1_needs_12 : decode cX1_needs 12 = .ok (.if_icmp .eq 9, 3) := by decide +kernel
theorem dX1_needs_15 : decode cX1_needs 15 = .ok (.iload_n 1, 1) := by decide +kernel
theorem dX1_needs_16 : decode cX1_needs 16 = .ok (.bipush 13, 2) := by decide +kernel
theorem dX1_needs_18 : decode cX1_needs 18 = .ok (.if_icmp .ne 5, 3) := by decide +kernel
theorem dX1_needs_21 : decode cX1_needs 21 = .ok (.iconst 0, 1) := by decide +kernel
theorem dX1_needs_22 : decode cX1_needs 22 = .ok (.ireturn, 1) := by decide +kernel
theorem dX1_needs_23 : decode cX1_needs 23 = .ok (.iload_n 1, 1) := by decide +kernel
theorem dX1_needs_24 : decode cX1_needs 24 = .ok (.iconst 3, 1) := by decide +kernel
theorem dX1_needs_25 : decode cX1_needs 25 = .ok (.if_icmp .eq 15, 3) := by decide +kernel
theorem dX1_needs_28 : decode cX1_needs 28 = .ok (.iload_n 1, 1) := by decide +kernel
theorem dX1_needs_29 : decode cX1_needs 29 = .ok (.bipush 10, 2) := by decide +kernel
theorem dX1_needs_31 : decode cX1_needs 31 = .ok (.if_icmp .eq 9, 3) := by decide +kernel
theorem dX1_needs_34 : decode cX1_needs 34 = .ok (.iload_n 1, 1) := by decide +kernel
theorem dX1_needs_35 : decode cX1_needs 35 = .ok (.bipush 11, 2) := by decide +kernel
theorem dX1_needs_37 : decode cX1_needs 37 = .ok (.if_icmp .ne 5, 3) := by decide +kernel
theorem dX1_needs_40 : decode cX1_needs 40 = .ok (.iconst 1, 1) := by decide +kernel
theorem dX1_needs_41 : decode cX1_needs 41 = .ok (.ireturn, 1) := by decide +kernel
theorem dX1_needs_42 : decode cX1_needs 42 = .ok (.iload_n 2, 1) := by decide +kernel
theorem dX1_needs_43 : decode cX1_needs 43 = .ok (.iconst 1, 1) := by decide +kernel
theorem dX1_needs_44 : decode cX1_needs 44 = .ok (.iadd, 1) := by decide +kernel
theorem dX1_needs_45 : decode cX1_needs 45 = .ok (.ireturn, 1) := by decide +kernel
abbrev cX1_push : ByteArray := prog_3_method_7_code
def yX1_push : MethodName := ⟨RX1, "push", "(I)V"⟩
theorem dX1_push_0 : decode cX1_push 0 = .ok (.bipush 7, 2) := by decide +kernel
theorem dX1_push_2 : decode cX1_push 2 = .ok (.istore_n 2, 1) := by decide +kernel
theorem dX1_push_3 : decode cX1_push 3 = .ok (.iload_n 2, 1) := by decide +kernel
theorem dX1_push_4 : decode cX1_push 4 = .ok (.ifCond .le 23, 3) := by decide +kernel
theorem dX1_push_7 : decode cX1_push 7 = .ok (.aload_n 0, 1) := by decide +kernel
theorem dX1_push_8 : decode cX1_push 8 = .ok (.getfield 20, 3) := by decide +kernel
theorem dX1_push_11 : decode cX1_push 11 = .ok (.iload_n 2, 1) := by decide +kernel
theorem dX1_push_12 : decode cX1_push 12 = .ok (.aload_n 0, 1) := by decide +kernel
theorem dX1_push_13 : decode cX1_push 13 = .ok (.getfield 20, 3) := by decide +kernel
theorem dX1_push_16 : decode cX1_push 16 = .ok (.iload_n 2, 1) := by decide +kernel
theorem dX1_push_17 : decode cX1_push 17 = .ok (.iconst 1, 1) := by decide +kernel
theorem dX1_push_18 : decode cX1_push 18 = .ok (.isub, 1) := by decide +kernel
theorem dX1_push_19 : decode cX1_push 19 = .ok (.iaload, 1) := by decide +kernel
theorem dX1_push_20 : decode cX1_push 20 = .ok (.iastore, 1) := by decide +kernel
theorem dX1_push_21 : decode cX1_push 21 = .ok (.iinc 2 (-1), 3) := by decide +kernel
theorem dX1_push_24 : decode cX1_push 24 = .ok (.goto (-21), 3) := by decide +kernel
theorem dX1_push_27 : decode cX1_push 27 = .ok (.aload_n 0, 1) := by decide +kernel
theorem dX1_push_28 : decode cX1_push 28 = .ok (.getfield 20, 3) := by decide +kernel
theorem dX1_push_31 : decode cX1_push 31 = .ok (.iconst 0, 1) := by decide +kernel
theorem dX1_push_32 : decode cX1_push 32 = .ok (.iload_n 1, 1) := by decide +kernel
theorem dX1_push_33 : decode cX1_push 33 = .ok (.iastore, 1) := by decide +kernel
theorem dX1_push_34 : decode cX1_push 34 = .ok (.aload_n 0, 1) := by decide +kernel
theorem dX1_push_35 : decode cX1_push 35 = .ok (.dup, 1) := by decide +kernel
theorem dX1_push_36 : decode cX1_push 36 = .ok (.getfield 23, 3) := by decide +kernel
theorem dX1_push_39 : decode cX1_push 39 = .ok (.iconst 1, 1) := by decide +kernel
theorem dX1_push_40 : decode cX1_push 40 = .ok (.iadd, 1) := by decide +kernel
theorem dX1_push_41 : decode cX1_push 41 = .ok (.putfield 23, 3) := by decide +kernel
theorem dX1_push_44 : decode cX1_push 44 = .ok (.return_, 1) := by decide +kernel
abbrev cX1_pop : ByteArray := prog_3_method_8_code
def yX1_pop : MethodName := ⟨RX1, "pop", "()I"⟩
theorem dX1_pop_0 : decode cX1_pop 0 = .ok (.aload_n 0, 1) := by decide +kernel
theorem dX1_pop_1 : decode cX1_pop 1 = .ok (.getfield 20, 3) := by decide +kernel
theorem dX1_pop_4 : decode cX1_pop 4 = .ok (.iconst 0, 1) := by decide +kernel
theorem dX1_pop_5 : decode cX1_pop 5 = .ok (.iaload, 1) := by decide +kernel
theorem dX1_pop_6 : decode cX1_pop 6 = .ok (.istore_n 1, 1) := by decide +kernel
theorem dX1_pop_7 : decode cX1_pop 7 = .ok (.iconst 0, 1) := by decide +kernel
theorem dX1_pop_8 : decode cX1_pop 8 = .ok (.istore_n 2, 1) := by decide +kernel
theorem dX1_pop_9 : decode cX1_pop 9 = .ok (.iload_n 2, 1) := by decide +kernel
theorem dX1_pop_10 : decode cX1_pop 10 = .ok (.bipush 7, 2) := by decide +kernel
theorem dX1_pop_12 : decode cX1_pop 12 = .ok (.if_icmp .ge 23, 3) := by decide +kernel
theorem dX1_pop_15 : decode cX1_pop 15 = .ok (.aload_n 0, 1) := by decide +kernel
theorem dX1_pop_16 : decode cX1_pop 16 = .ok (.getfield 20, 3) := by decide +kernel
theorem dX1_pop_19 : decode cX1_pop 19 = .ok (.iload_n 2, 1) := by decide +kernel
theorem dX1_pop_20 : decode cX1_pop 20 = .ok (.aload_n 0, 1) := by decide +kernel
theorem dX1_pop_21 : decode cX1_pop 21 = .ok (.getfield 20, 3) := by decide +kernel
theorem dX1_pop_24 : decode cX1_pop 24 = .ok (.iload_n 2, 1) := by decide +kernel
theorem dX1_pop_25 : decode cX1_pop 25 = .ok (.iconst 1, 1) := by decide +kernel
theorem dX1_pop_26 : decode cX1_pop 26 = .ok (.iadd, 1) := by decide +kernel
theorem dX1_pop_27 : decode cX1_pop 27 = .ok (.iaload, 1) := by decide +kernel
theorem dX1_pop_28 : decode cX1_pop 28 = .ok (.iastore, 1) := by decide +kernel
theorem dX1_pop_29 : decode cX1_pop 29 = .ok (.iinc 2 1, 3) := by decide +kernel
theorem dX1_pop_32 : decode cX1_pop 32 = .ok (.goto (-23), 3) := by decide +kernel
end
section
set_option maxRecDepth 100000
theorem dX1_pop_35 : decode cX1_pop 35 = .ok (.aload_n 0, 1) := by decide +kernel
theorem dX1_pop_36 : decode cX1_pop 36 = .ok (.dup, 1) := by decide +kernel
theorem dX1_pop_37 : decode cX1_pop 37 = .ok (.getfield 23, 3) := by decide +kernel
theorem dX1_pop_40 : decode cX1_pop 40 = .ok (.iconst 1, 1) := by decide +kernel
theorem dX1_pop_41 : decode cX1_pop 41 = .ok (.isub, 1) := by decide +kernel
theorem dX1_pop_42 : decode cX1_pop 42 = .ok (.putfield 23, 3) := by decide +kernel
theorem dX1_pop_45 : decode cX1_pop 45 = .ok (.iload_n 1, 1) := by decide +kernel
theorem dX1_pop_46 : decode cX1_pop 46 = .ok (.ireturn, 1) := by decide +kernel
abbrev cX1_calculate : ByteArray := prog_3_method_11_code
def yX1_calculate : MethodName := ⟨RX1, "calculate", "(II)V"⟩
theorem dX1_calculate_0 : decode cX1_calculate 0 = .ok (.iload_n 1, 1) := by decide +kernel
theorem dX1_calculate_1 : decode cX1_calculate 1 = .ok (.iconst 4, 1) := by decide +kernel
theorem dX1_calculate_2 : decode cX1_calculate 2 = .ok (.if_icmp .ne 29, 3) := by decide +kernel
theorem dX1_calculate_5 : decode cX1_calculate 5 = .ok (.aload_n 0, 1) := by decide +kernel
theorem dX1_calculate_6 : decode cX1_calculate 6 = .ok (.getfield 20, 3) := by decide +kernel
theorem dX1_calculate_9 : decode cX1_calculate 9 = .ok (.iconst 0, 1) := by decide +kernel
theorem dX1_calculate_10 : decode cX1_calculate 10 = .ok (.iaload, 1) := by decide +kernel
theorem dX1_calculate_11 : decode cX1_calculate 11 = .ok (.istore_n 3, 1) := by decide +kernel
theorem dX1_calculate_12 : decode cX1_calculate 12 = .ok (.aload_n 0, 1) := by decide +kernel
theorem dX1_calculate_13 : decode cX1_calculate 13 = .ok (.getfield 20, 3) := by decide +kernel
theorem dX1_calculate_16 : decode cX1_calculate 16 = .ok (.iconst 0, 1) := by decide +kernel
theorem dX1_calculate_17 : decode cX1_calculate 17 = .ok (.aload_n 0, 1) := by decide +kernel
theorem dX1_calculate_18 : decode cX1_calculate 18 = .ok (.getfield 20, 3) := by decide +kernel
theorem dX1_calculate_21 : decode cX1_calculate 21 = .ok (.iload_n 2, 1) := by decide +kernel
theorem dX1_calculate_22 : decode cX1_calculate 22 = .ok (.iaload, 1) := by decide +kernel
theorem dX1_calculate_23 : decode cX1_calculate 23 = .ok (.iastore, 1) := by decide +kernel
theorem dX1_calculate_24 : decode cX1_calculate 24 = .ok (.aload_n 0, 1) := by decide +kernel
theorem dX1_calculate_25 : decode cX1_calculate 25 = .ok (.getfield 20, 3) := by decide +kernel
theorem dX1_calculate_28 : decode cX1_calculate 28 = .ok (.iload_n 2, 1) := by decide +kernel
theorem dX1_calculate_29 : decode cX1_calculate 29 = .ok (.iload_n 3, 1) := by decide +kernel
theorem dX1_calculate_30 : decode cX1_calculate 30 = .ok (.iastore, 1) := by decide +kernel
theorem dX1_calculate_31 : decode cX1_calculate 31 = .ok (.iload_n 1, 1) := by decide +kernel
theorem dX1_calculate_32 : decode cX1_calculate 32 = .ok (.iconst 5, 1) := by decide +kernel
theorem dX1_calculate_33 : decode cX1_calculate 33 = .ok (.if_icmp .ne 22, 3) := by decide +kernel
theorem dX1_calculate_36 : decode cX1_calculate 36 = .ok (.aload_n 0, 1) := by decide +kernel
theorem dX1_calculate_37 : decode cX1_calculate 37 = .ok (.getfield 20, 3) := by decide +kernel
theorem dX1_calculate_40 : decode cX1_calculate 40 = .ok (.iconst 0, 1) := by decide +kernel
theorem dX1_calculate_41 : decode cX1_calculate 41 = .ok (.aload_n 0, 1) := by decide +kernel
theorem dX1_calculate_42 : decode cX1_calculate 42 = .ok (.getfield 20, 3) := by decide +kernel
theorem dX1_calculate_45 : decode cX1_calculate 45 = .ok (.iconst 0, 1) := by decide +kernel
theorem dX1_calculate_46 : decode cX1_calculate 46 = .ok (.iaload, 1) := by decide +kernel
theorem dX1_calculate_47 : decode cX1_calculate 47 = .ok (.aload_n 0, 1) := by decide +kernel
theorem dX1_calculate_48 : decode cX1_calculate 48 = .ok (.getfield 20, 3) := by decide +kernel
theorem dX1_calculate_51 : decode cX1_calculate 51 = .ok (.iload_n 2, 1) := by decide +kernel
theorem dX1_calculate_52 : decode cX1_calculate 52 = .ok (.iaload, 1) := by decide +kernel
theorem dX1_calculate_53 : decode cX1_calculate 53 = .ok (.iadd, 1) := by decide +kernel
theorem dX1_calculate_54 : decode cX1_calculate 54 = .ok (.iastore, 1) := by decide +kernel
theorem dX1_calculate_55 : decode cX1_calculate 55 = .ok (.iload_n 1, 1) := by decide +kernel
theorem dX1_calculate_56 : decode cX1_calculate 56 = .ok (.bipush 6, 2) := by decide +kernel
theorem dX1_calculate_58 : decode cX1_calculate 58 = .ok (.if_icmp .ne 22, 3) := by decide +kernel
theorem dX1_calculate_61 : decode cX1_calculate 61 = .ok (.aload_n 0, 1) := by decide +kernel
theorem dX1_calculate_62 : decode cX1_calculate 62 = .ok (.getfield 20, 3) := by decide +kernel
theorem dX1_calculate_65 : decode cX1_calculate 65 = .ok (.iconst 0, 1) := by decide +kernel
theorem dX1_calculate_66 : decode cX1_calculate 66 = .ok (.aload_n 0, 1) := by decide +kernel
theorem dX1_calculate_67 : decode cX1_calculate 67 = .ok (.getfield 20, 3) := by decide +kernel
theorem dX1_calculate_70 : decode cX1_calculate 70 = .ok (.iconst 0, 1) := by decide +kernel
theorem dX1_calculate_71 : decode cX1_calculate 71 = .ok (.iaload, 1) := by decide +kernel
theorem dX1_calculate_72 : decode cX1_calculate 72 = .ok (.aload_n 0, 1) := by decide +kernel
theorem dX1_calculate_73 : decode cX1_calculate 73 = .ok (.getfield 20, 3) := by decide +kernel
theorem dX1_calculate_76 : decode cX1_calculate 76 = .ok (.iload_n 2, 1) := by decide +kernel
theorem dX1_calculate_77 : decode cX1_calculate 77 = .ok (.iaload, 1) := by decide +kernel
theorem dX1_calculate_78 : decode cX1_calculate 78 = .ok (.isub, 1) := by decide +kernel
theorem dX1_calculate_79 : decode cX1_calculate 79 = .ok (.iastore, 1) := by decide +kernel
theorem dX1_calculate_80 : decode cX1_calculate 80 = .ok (.iload_n 1, 1) := by decide +kernel
theorem dX1_calculate_81 : decode cX1_calculate 81 = .ok (.bipush 7, 2) := by decide +kernel
theorem dX1_calculate_83 : decode cX1_calculate 83 = .ok (.if_icmp .ne 22, 3) := by decide +kernel
theorem dX1_calculate_86 : decode cX1_calculate 86 = .ok (.aload_n 0, 1) := by decide +kernel
theorem dX1_calculate_87 : decode cX1_calculate 87 = .ok (.getfield 20, 3) := by decide +kernel
theorem dX1_calculate_90 : decode cX1_calculate 90 = .ok (.iconst 0, 1) := by decide +kernel
theorem dX1_calculate_91 : decode cX1_calculate 91 = .ok (.aload_n 0, 1) := by decide +kernel
theorem dX1_calculate_92 : decode cX1_calculate 92 = .ok (.getfield 20, 3) := by decide +kernel
theorem dX1_calculate_95 : decode cX1_calculate 95 = .ok (.iconst 0, 1) := by decide +kernel
theorem dX1_calculate_96 : decode cX1_calculate 96 = .ok (.iaload, 1) := by decide +kernel
theorem dX1_calculate_97 : decode cX1_calculate 97 = .ok (.aload_n 0, 1) := by decide +kernel
theorem dX1_calculate_98 : decode cX1_calculate 98 = .ok (.getfield 20, 3) := by decide +kernel
theorem dX1_calculate_101 : decode cX1_calculate 101 = .ok (.iload_n 2, 1) := by decide +kernel
theorem dX1_calculate_102 : decode cX1_calculate 102 = .ok (.iaload, 1) := by decide +kernel
theorem dX1_calculate_103 : decode cX1_calculate 103 = .ok (.imul, 1) := by decide +kernel
theorem dX1_calculate_104 : decode cX1_calculate 104 = .ok (.iastore, 1) := by decide +kernel
theorem dX1_calculate_105 : decode cX1_calculate 105 = .ok (.iload_n 1, 1) := by decide +kernel
theorem dX1_calculate_106 : decode cX1_calculate 106 = .ok (.bipush 8, 2) := by decide +kernel
theorem dX1_calculate_108 : decode cX1_calculate 108 = .ok (.if_icmp .ne 22, 3) := by decide +kernel
theorem dX1_calculate_111 : decode cX1_calculate 111 = .ok (.aload_n 0, 1) := by decide +kernel
theorem dX1_calculate_112 : decode cX1_calculate 112 = .ok (.getfield 20, 3) := by decide +kernel
theorem dX1_calculate_115 : decode cX1_calculate 115 = .ok (.iload_n 2, 1) := by decide +kernel
theorem dX1_calculate_116 : decode cX1_calculate 116 = .ok (.aload_n 0, 1) := by decide +kernel
theorem dX1_calculate_117 : decode cX1_calculate 117 = .ok (.getfield 20, 3) := by decide +kernel
theorem dX1_calculate_120 : decode cX1_calculate 120 = .ok (.iload_n 2, 1) := by decide +kernel
theorem dX1_calculate_121 : decode cX1_calculate 121 = .ok (.iaload, 1) := by decide +kernel
theorem dX1_calculate_122 : decode cX1_calculate 122 = .ok (.aload_n 0, 1) := by decide +kernel
theorem dX1_calculate_123 : decode cX1_calculate 123 = .ok (.getfield 20, 3) := by decide +kernel
theorem dX1_calculate_126 : decode cX1_calculate 126 = .ok (.iconst 0, 1) := by decide +kernel
theorem dX1_calculate_127 : decode cX1_calculate 127 = .ok (.iaload, 1) := by decide +kernel
theorem dX1_calculate_128 : decode cX1_calculate 128 = .ok (.iadd, 1) := by decide +kernel
theorem dX1_calculate_129 : decode cX1_calculate 129 = .ok (.iastore, 1) := by decide +kernel
theorem dX1_calculate_130 : decode cX1_calculate 130 = .ok (.iload_n 1, 1) := by decide +kernel
theorem dX1_calculate_131 : decode cX1_calculate 131 = .ok (.bipush 9, 2) := by decide +kernel
theorem dX1_calculate_133 : decode cX1_calculate 133 = .ok (.if_icmp .ne 22, 3) := by decide +kernel
theorem dX1_calculate_136 : decode cX1_calculate 136 = .ok (.aload_n 0, 1) := by decide +kernel
theorem dX1_calculate_137 : decode cX1_calculate 137 = .ok (.getfield 20, 3) := by decide +kernel
theorem dX1_calculate_140 : decode cX1_calculate 140 = .ok (.iload_n 2, 1) := by decide +kernel
theorem dX1_calculate_141 : decode cX1_calculate 141 = .ok (.aload_n 0, 1) := by decide +kernel
theorem dX1_calculate_142 : decode cX1_calculate 142 = .ok (.getfield 20, 3) := by decide +kernel
theorem dX1_calculate_145 : decode cX1_calculate 145 = .ok (.iload_n 2, 1) := by decide +kernel
theorem dX1_calculate_146 : decode cX1_calculate 146 = .ok (.iaload, 1) := by decide +kernel
theorem dX1_calculate_147 : decode cX1_calculate 147 = .ok (.aload_n 0, 1) := by decide +kernel
theorem dX1_calculate_148 : decode cX1_calculate 148 = .ok (.getfield 20, 3) := by decide +kernel
theorem dX1_calculate_151 : decode cX1_calculate 151 = .ok (.iconst 0, 1) := by decide +kernel
theorem dX1_calculate_152 : decode cX1_calculate 152 = .ok (.iaload, 1) := by decide +kernel
theorem dX1_calculate_153 : decode cX1_calculate 153 = .ok (.isub, 1) := by decide +kernel
theorem dX1_calculate_154 : decode cX1_calculate 154 = .ok (.iastore, 1) := by decide +kernel
theorem dX1_calculate_155 : decode cX1_calculate 155 = .ok (.iload_n 1, 1) := by decide +kernel
theorem dX1_calculate_156 : decode cX1_calculate 156 = .ok (.bipush 8, 2) := by decide +kernel
theorem dX1_calculate_158 : decode cX1_calculate 158 = .ok (.if_icmp .eq 9, 3) := by decide +kernel
theorem dX1_calculate_161 : decode cX1_calculate 161 = .ok (.iload_n 1, 1) := by decide +kernel
theorem dX1_calculate_162 : decode cX1_calculate 162 = .ok (.bipush 9, 2) := by decide +kernel
theorem dX1_calculate_164 : decode cX1_calculate 164 = .ok (.if_icmp .ne 8, 3) := by decide +kernel
theorem dX1_calculate_167 : decode cX1_calculate 167 = .ok (.aload_n 0, 1) := by decide +kernel
theorem dX1_calculate_168 : decode cX1_calculate 168 = .ok (.invokevirtual 46, 3) := by decide +kernel
theorem dX1_calculate_171 : decode cX1_calculate 171 = .ok (.pop, 1) := by decide +kernel
theorem dX1_calculate_172 : decode cX1_calculate 172 = .ok (.return_, 1) := by decide +kernel
abbrev cX1_depth : ByteArray := prog_3_method_14_code
def yX1_depth : MethodName := ⟨RX1, "depth", "()I"⟩
theorem dX1_depth_0 : decode cX1_depth 0 = .ok (.aload_n 0, 1) := by decide +kernel
theorem dX1_depth_1 : decode cX1_depth 1 = .ok (.getfield 23, 3) := by decide +kernel
theorem dX1_depth_4 : decode cX1_depth 4 = .ok (.ireturn, 1) := by decide +kernel
abbrev cX1_st : ByteArray := prog_3_method_15_code
def yX1_st : MethodName := ⟨RX1, "st", "(I)I"⟩
theorem dX1_st_0 : decode cX1_st 0 = .ok (.iload_n 1, 1) := by decide +kernel
theorem dX1_st_1 : decode cX1_st 1 = .ok (.ifCond .lt 20, 3) := by decide +kernel
theorem dX1_st_4 : decode cX1_st 4 = .ok (.iload_n 1, 1) := by decide +kernel
theorem dX1_st_5 : decode cX1_st 5 = .ok (.aload_n 0, 1) := by decide +kernel
theorem dX1_st_6 : decode cX1_st 6 = .ok (.getfield 23, 3) := by decide +kernel
theorem dX1_st_9 : decode cX1_st 9 = .ok (.if_icmp .ge 12, 3) := by decide +kernel
theorem dX1_st_12 : decode cX1_st 12 = .ok (.aload_n 0, 1) := by decide +kernel
theorem dX1_st_13 : decode cX1_st 13 = .ok (.getfield 20, 3) := by decide +kernel
theorem dX1_st_16 : decode cX1_st 16 = .ok (.iload_n 1, 1) := by decide +kernel
theorem dX1_st_17 : decode cX1_st 17 = .ok (.iaload, 1) := by decide +kernel
theorem dX1_st_18 : decode cX1_st 18 = .ok (.goto 4, 3) := by decide +kernel
theorem dX1_st_21 : decode cX1_st 21 = .ok (.iconst 0, 1) := by decide +kernel
theorem dX1_st_22 : decode cX1_st 22 = .ok (.ireturn, 1) := by decide +kernel
abbrev cX1_memory : ByteArray := prog_3_method_16_code
def yX1_memory : MethodName := ⟨RX1, "memory", "(I)I"⟩
theorem dX1_memory_0 : decode cX1_memory 0 = .ok (.iload_n 1, 1) := by decide +kernel
theorem dX1_memory_1 : decode cX1_memory 1 = .ok (.ifCond .lt 18, 3) := by decide +kernel
theorem dX1_memory_4 : decode cX1_memory 4 = .ok (.iload_n 1, 1) := by decide +kernel
theorem dX1_memory_5 : decode cX1_memory 5 = .ok (.bipush 7, 2) := by decide +kernel
theorem dX1_memory_7 : decode cX1_memory 7 = .ok (.if_icmp .gt 12, 3) := by decide +kernel
theorem dX1_memory_10 : decode cX1_memory 10 = .ok (.aload_n 0, 1) := by decide +kernel
theorem dX1_memory_11 : decode cX1_memory 11 = .ok (.getfield 26, 3) := by decide +kernel
theorem dX1_memory_14 : decode cX1_memory 14 = .ok (.iload_n 1, 1) := by decide +kernel
theorem dX1_memory_15 : decode cX1_memory 15 = .ok (.iaload, 1) := by decide +kernel
theorem dX1_memory_16 : decode cX1_memory 16 = .ok (.goto 4, 3) := by decide +kernel
theorem dX1_memory_19 : decode cX1_memory 19 = .ok (.iconst 0, 1) := by decide +kernel
theorem dX1_memory_20 : decode cX1_memory 20 = .ok (.ireturn, 1) := by decide +kernel
abbrev cX1_place : ByteArray := prog_3_method_17_code
def yX1_place : MethodName := ⟨RX1, "place", "()I"⟩
theorem dX1_place_0 : decode cX1_place 0 = .ok (.aload_n 0, 1) := by decide +kernel
theorem dX1_place_1 : decode cX1_place 1 = .ok (.getfield 29, 3) := by decide +kernel
theorem dX1_place_4 : decode cX1_place 4 = .ok (.ireturn, 1) := by decide +kernel
abbrev cX1_executed : ByteArray := prog_3_method_18_code
def yX1_executed : MethodName := ⟨RX1, "executed", "()I"⟩
theorem dX1_executed_0 : decode cX1_executed 0 = .ok (.aload_n 0, 1) := by decide +kernel
theorem dX1_executed_1 : decode cX1_executed 1 = .ok (.getfield 32, 3) := by decide +kernel
theorem dX1_executed_4 : decode cX1_executed 4 = .ok (.ireturn, 1) := by decide +kernel
theorem q26 : (Jvm.Cond.initialized "FpuStackTransModel") ∈ lw_all := lw_g (lw_at lw_m1 2 rfl) rfl
theorem q211 : (Jvm.Cond.instantiable "FpuStackTransModel" (9 : Nat)) ∈ lw_all := lw_g (lw_at lw_m1 187 rfl) rfl
theorem q213 : (Jvm.Cond.instanceMethod ({ cls := "FpuStackTransModel", name := "<init>", desc := "()V" } : Jvm.MethodName)) ∈ lw_all := lw_g (lw_at lw_m1 189 rfl) rfl
theorem q214 : (Jvm.Cond.code ({ cls := "FpuStackTransModel", name := "<init>", desc := "()V" } : Jvm.MethodName) prog_3_method_1_code (1 : Nat) (Option.none : Option Jvm.ClassFile.FieldType)) ∈ lw_all := lw_g (lw_at lw_m1 190 rfl) rfl
theorem q215 : (Jvm.Cond.methodLink "FpuStackTransModel" (1 : Nat) ({ cls := "java/lang/Object", name := "<init>", desc := "()V" } : Jvm.MethodName)) ∈ lw_all := lw_g (lw_at lw_m1 191 rfl) rfl
theorem q216 : (Jvm.Cond.fieldLink "FpuStackTransModel" (7 : Nat) "FpuStackTransModel" "n" "I") ∈ lw_all := lw_g (lw_at lw_m1 192 rfl) rfl
theorem q217 : (Jvm.Cond.fieldLink "FpuStackTransModel" (13 : Nat) "FpuStackTransModel" "op" "[I") ∈ lw_all := lw_g (lw_at lw_m1 193 rfl) rfl
theorem q218 : (Jvm.Cond.fieldLink "FpuStackTransModel" (17 : Nat) "FpuStackTransModel" "arg" "[I") ∈ lw_all := lw_g (lw_at lw_m1 194 rfl) rfl
theorem q219 : (Jvm.Cond.fieldLink "FpuStackTransModel" (20 : Nat) "FpuStackTransModel" "stack" "[I") ∈ lw_all := lw_g (lw_at lw_m1 195 rfl) rfl
theorem q220 : (Jvm.Cond.fieldLink "FpuStackTransModel" (23 : Nat) "FpuStackTransModel" "depth" "I") ∈ lw_all := lw_g (lw_at lw_m1 196 rfl) rfl
theorem q221 : (Jvm.Cond.fieldLink "FpuStackTransModel" (26 : Nat) "FpuStackTransModel" "mem" "[I") ∈ lw_all := lw_g (lw_at lw_m1 197 rfl) rfl
theorem q222 : (Jvm.Cond.fieldLink "FpuStackTransModel" (29 : Nat) "FpuStackTransModel" "pc" "I") ∈ lw_all := lw_g (lw_at lw_m1 198 rfl) rfl
theorem q223 : (Jvm.Cond.fieldLink "FpuStackTransModel" (32 : Nat) "FpuStackTransModel" "count" "I") ∈ lw_all := lw_g (lw_at lw_m1 199 rfl) rfl
theorem q224 : (Jvm.Cond.fieldLink "FpuStackTransModel" (35 : Nat) "FpuStackTransModel" "status" "I") ∈ lw_all := lw_g (lw_at lw_m1 200 rfl) rfl
theorem q225 : (Jvm.Cond.lays "FpuStackTransModel" "FpuStackTransModel" "n" "I") ∈ lw_all := lw_g (lw_at lw_m1 201 rfl) rfl
theorem q226 : (Jvm.Cond.soleField "FpuStackTransModel" "n") ∈ lw_all := lw_g (lw_at lw_m1 202 rfl) rfl
theorem q227 : (Jvm.Cond.lays "FpuStackTransModel" "FpuStackTransModel" "op" "[I") ∈ lw_all := lw_g (lw_at lw_m1 203 rfl) rfl
theorem q228 : (Jvm.Cond.soleField "FpuStackTransModel" "op") ∈ lw_all := lw_g (lw_at lw_m1 204 rfl) rfl
theorem q229 : (Jvm.Cond.lays "FpuStackTransModel" "FpuStackTransModel" "arg" "[I") ∈ lw_all := lw_g (lw_at lw_m1 205 rfl) rfl
theorem q230 : (Jvm.Cond.soleField "FpuStackTransModel" "arg") ∈ lw_all := lw_g (lw_at lw_m1 206 rfl) rfl
theorem q231 : (Jvm.Cond.lays "FpuStackTransModel" "FpuStackTransModel" "stack" "[I") ∈ lw_all := lw_g (lw_at lw_m1 207 rfl) rfl
theorem q232 : (Jvm.Cond.soleField "FpuStackTransModel" "stack") ∈ lw_all := lw_g (lw_at lw_m1 208 rfl) rfl
theorem q233 : (Jvm.Cond.lays "FpuStackTransModel" "FpuStackTransModel" "depth" "I") ∈ lw_all := lw_g (lw_at lw_m1 209 rfl) rfl
theorem q234 : (Jvm.Cond.soleField "FpuStackTransModel" "depth") ∈ lw_all := lw_g (lw_at lw_m1 210 rfl) rfl
theorem q235 : (Jvm.Cond.lays "FpuStackTransModel" "FpuStackTransModel" "mem" "[I") ∈ lw_all := lw_g (lw_at lw_m1 211 rfl) rfl
theorem q236 : (Jvm.Cond.soleField "FpuStackTransModel" "mem") ∈ lw_all := lw_g (lw_at lw_m1 212 rfl) rfl
theorem q237 : (Jvm.Cond.lays "FpuStackTransModel" "FpuStackTransModel" "pc" "I") ∈ lw_all := lw_g (lw_at lw_m1 213 rfl) rfl
theorem q238 : (Jvm.Cond.soleField "FpuStackTransModel" "pc") ∈ lw_all := lw_g (lw_at lw_m1 214 rfl) rfl
theorem q239 : (Jvm.Cond.lays "FpuStackTransModel" "FpuStackTransModel" "count" "I") ∈ lw_all := lw_g (lw_at lw_m1 215 rfl) rfl
theorem q240 : (Jvm.Cond.soleField "FpuStackTransModel" "count") ∈ lw_all := lw_g (lw_at lw_m1 216 rfl) rfl
theorem q241 : (Jvm.Cond.lays "FpuStackTransModel" "FpuStackTransModel" "status" "I") ∈ lw_all := lw_g (lw_at lw_m1 217 rfl) rfl
theorem q242 : (Jvm.Cond.soleField "FpuStackTransModel" "status") ∈ lw_all := lw_g (lw_at lw_m1 218 rfl) rfl
theorem q243 : (Jvm.Cond.superclass "FpuStackTransModel" "java/lang/Object") ∈ lw_all := lw_g (lw_at lw_m1 219 rfl) rfl
theorem q245 : (Jvm.Cond.instanceMethod ({ cls := "FpuStackTransModel", name := "emit", desc := "(II)I" } : Jvm.MethodName)) ∈ lw_all := lw_g (lw_at lw_m1 221 rfl) rfl
theorem q246 : (Jvm.Cond.selects "FpuStackTransModel" ({ cls := "FpuStackTransModel", name := "emit", desc := "(II)I" } : Jvm.MethodName) ({ cls := "FpuStackTransModel", name := "emit", desc := "(II)I" } : Jvm.MethodName)) ∈ lw_all := lw_g (lw_at lw_m1 222 rfl) rfl
theorem q247 : (Jvm.Cond.code ({ cls := "FpuStackTransModel", name := "emit", desc := "(II)I" } : Jvm.MethodName) prog_3_method_3_code (3 : Nat) (Option.some Jvm.ClassFile.FieldType.int)) ∈ lw_all := lw_g (lw_at lw_m1 223 rfl) rfl
theorem q248 : (Jvm.Cond.methodLink "FpuStackTransModel" (38 : Nat) ({ cls := "FpuStackTransModel", name := "fits", desc := "(II)Z" } : Jvm.MethodName)) ∈ lw_all := lw_g (lw_at lw_m1 224 rfl) rfl
theorem q249 : (Jvm.Cond.privateMethod ({ cls := "FpuStackTransModel", name := "fits", desc := "(II)Z" } : Jvm.MethodName)) ∈ lw_tbl := lw_at lw_m1 225 rfl
theorem q250 : (Jvm.Cond.instanceMethod ({ cls := "FpuStackTransModel", name := "fits", desc := "(II)Z" } : Jvm.MethodName)) ∈ lw_all := lw_g (lw_at lw_m1 226 rfl) rfl
theorem q251 : (Jvm.Cond.code ({ cls := "FpuStackTransModel", name := "fits", desc := "(II)Z" } : Jvm.MethodName) prog_3_method_2_code (3 : Nat) (Option.some Jvm.ClassFile.FieldType.boolean)) ∈ lw_all := lw_g (lw_at lw_m1 227 rfl) rfl
theorem q253 : (Jvm.Cond.instanceMethod ({ cls := "FpuStackTransModel", name := "patch", desc := "(III)I" } : Jvm.MethodName)) ∈ lw_all := lw_g (lw_at lw_m1 229 rfl) rfl
theorem q254 : (Jvm.Cond.selects "FpuStackTransModel" ({ cls := "FpuStackTransModel", name := "patch", desc := "(III)I" } : Jvm.MethodName) ({ cls := "FpuStackTransModel", name := "patch", desc := "(III)I" } : Jvm.MethodName)) ∈ lw_all := lw_g (lw_at lw_m1 230 rfl) rfl
theorem q255 : (Jvm.Cond.code ({ cls := "FpuStackTransModel", name := "patch", desc := "(III)I" } : Jvm.MethodName) prog_3_method_4_code (4 : Nat) (Option.some Jvm.ClassFile.FieldType.int)) ∈ lw_all := lw_g (lw_at lw_m1 231 rfl) rfl
theorem q257 : (Jvm.Cond.instanceMethod ({ cls := "FpuStackTransModel", name := "poke", desc := "(II)Z" } : Jvm.MethodName)) ∈ lw_all := lw_g (lw_at lw_m1 233 rfl) rfl
theorem q258 : (Jvm.Cond.selects "FpuStackTransModel" ({ cls := "FpuStackTransModel", name := "poke", desc := "(II)Z" } : Jvm.MethodName) ({ cls := "FpuStackTransModel", name := "poke", desc := "(II)Z" } : Jvm.MethodName)) ∈ lw_all := lw_g (lw_at lw_m1 234 rfl) rfl
theorem q259 : (Jvm.Cond.code ({ cls := "FpuStackTransModel", name := "poke", desc := "(II)Z" } : Jvm.MethodName) prog_3_method_5_code (3 : Nat) (Option.some Jvm.ClassFile.FieldType.boolean)) ∈ lw_all := lw_g (lw_at lw_m1 235 rfl) rfl
theorem q261 : (Jvm.Cond.instanceMethod ({ cls := "FpuStackTransModel", name := "start", desc := "()V" } : Jvm.MethodName)) ∈ lw_all := lw_g (lw_at lw_m1 237 rfl) rfl
theorem q262 : (Jvm.Cond.selects "FpuStackTransModel" ({ cls := "FpuStackTransModel", name := "start", desc := "()V" } : Jvm.MethodName) ({ cls := "FpuStackTransModel", name := "start", desc := "()V" } : Jvm.MethodName)) ∈ lw_all := lw_g (lw_at lw_m1 238 rfl) rfl
theorem q263 : (Jvm.Cond.code ({ cls := "FpuStackTransModel", name := "start", desc := "()V" } : Jvm.MethodName) prog_3_method_6_code (1 : Nat) (Option.none : Option Jvm.ClassFile.FieldType)) ∈ lw_all := lw_g (lw_at lw_m1 239 rfl) rfl
theorem q265 : (Jvm.Cond.instanceMethod ({ cls := "FpuStackTransModel", name := "run", desc := "(I)I" } : Jvm.MethodName)) ∈ lw_all := lw_g (lw_at lw_m2 1 rfl) rfl
theorem q266 : (Jvm.Cond.selects "FpuStackTransModel" ({ cls := "FpuStackTransModel", name := "run", desc := "(I)I" } : Jvm.MethodName) ({ cls := "FpuStackTransModel", name := "run", desc := "(I)I" } : Jvm.MethodName)) ∈ lw_all := lw_g (lw_at lw_m2 2 rfl) rfl
theorem q267 : (Jvm.Cond.code ({ cls := "FpuStackTransModel", name := "run", desc := "(I)I" } : Jvm.MethodName) prog_3_method_13_code (4 : Nat) (Option.some Jvm.ClassFile.FieldType.int)) ∈ lw_all := lw_g (lw_at lw_m2 3 rfl) rfl
theorem q268 : (Jvm.Cond.methodLink "FpuStackTransModel" (61 : Nat) ({ cls := "FpuStackTransModel", name := "attempt", desc := "()V" } : Jvm.MethodName)) ∈ lw_all := lw_g (lw_at lw_m2 4 rfl) rfl
theorem q269 : (Jvm.Cond.privateMethod ({ cls := "FpuStackTransModel", name := "attempt", desc := "()V" } : Jvm.MethodName)) ∈ lw_tbl := lw_at lw_m2 5 rfl
theorem q270 : (Jvm.Cond.instanceMethod ({ cls := "FpuStackTransModel", name := "attempt", desc := "()V" } : Jvm.MethodName)) ∈ lw_all := lw_g (lw_at lw_m2 6 rfl) rfl
theorem q271 : (Jvm.Cond.code ({ cls := "FpuStackTransModel", name := "attempt", desc := "()V" } : Jvm.MethodName) prog_3_method_12_code (4 : Nat) (Option.none : Option Jvm.ClassFile.FieldType)) ∈ lw_all := lw_g (lw_at lw_m2 7 rfl) rfl
theorem q272 : (Jvm.Cond.methodLink "FpuStackTransModel" (50 : Nat) ({ cls := "FpuStackTransModel", name := "faulty", desc := "(II)Z" } : Jvm.MethodName)) ∈ lw_all := lw_g (lw_at lw_m2 8 rfl) rfl
theorem q273 : (Jvm.Cond.privateMethod ({ cls := "FpuStackTransModel", name := "faulty", desc := "(II)Z" } : Jvm.MethodName)) ∈ lw_tbl := lw_at lw_m2 9 rfl
theorem q274 : (Jvm.Cond.instanceMethod ({ cls := "FpuStackTransModel", name := "faulty", desc := "(II)Z" } : Jvm.MethodName)) ∈ lw_all := lw_g (lw_at lw_m2 10 rfl) rfl
theorem q275 : (Jvm.Cond.code ({ cls := "FpuStackTransModel", name := "faulty", desc := "(II)Z" } : Jvm.MethodName) prog_3_method_10_code (3 : Nat) (Option.some Jvm.ClassFile.FieldType.boolean)) ∈ lw_all := lw_g (lw_at lw_m2 11 rfl) rfl
theorem q276 : (Jvm.Cond.methodLink "FpuStackTransModel" (42 : Nat) ({ cls := "FpuStackTransModel", name := "needs", desc := "(II)I" } : Jvm.MethodName)) ∈ lw_all := lw_g (lw_at lw_m2 12 rfl) rfl
theorem q277 : (Jvm.Cond.privateMethod ({ cls := "FpuStackTransModel", name := "needs", desc := "(II)I" } : Jvm.MethodName)) ∈ lw_tbl := lw_at lw_m2 13 rfl
theorem q278 : (Jvm.Cond.instanceMethod ({ cls := "FpuStackTransModel", name := "needs", desc := "(II)I" } : Jvm.MethodName)) ∈ lw_all := lw_g (lw_at lw_m2 14 rfl) rfl
theorem q279 : (Jvm.Cond.code ({ cls := "FpuStackTransModel", name := "needs", desc := "(II)I" } : Jvm.MethodName) prog_3_method_9_code (3 : Nat) (Option.some Jvm.ClassFile.FieldType.int)) ∈ lw_all := lw_g (lw_at lw_m2 15 rfl) rfl
theorem q280 : (Jvm.Cond.methodLink "FpuStackTransModel" (53 : Nat) ({ cls := "FpuStackTransModel", name := "push", desc := "(I)V" } : Jvm.MethodName)) ∈ lw_all := lw_g (lw_at lw_m2 16 rfl) rfl
theorem q281 : (Jvm.Cond.privateMethod ({ cls := "FpuStackTransModel", name := "push", desc := "(I)V" } : Jvm.MethodName)) ∈ lw_tbl := lw_at lw_m2 17 rfl
theorem q282 : (Jvm.Cond.instanceMethod ({ cls := "FpuStackTransModel", name := "push", desc := "(I)V" } : Jvm.MethodName)) ∈ lw_all := lw_g (lw_at lw_m2 18 rfl) rfl
theorem q283 : (Jvm.Cond.code ({ cls := "FpuStackTransModel", name := "push", desc := "(I)V" } : Jvm.MethodName) prog_3_method_7_code (3 : Nat) (Option.none : Option Jvm.ClassFile.FieldType)) ∈ lw_all := lw_g (lw_at lw_m2 19 rfl) rfl
theorem q284 : (Jvm.Cond.methodLink "FpuStackTransModel" (46 : Nat) ({ cls := "FpuStackTransModel", name := "pop", desc := "()I" } : Jvm.MethodName)) ∈ lw_all := lw_g (lw_at lw_m2 20 rfl) rfl
theorem q285 : (Jvm.Cond.privateMethod ({ cls := "FpuStackTransModel", name := "pop", desc := "()I" } : Jvm.MethodName)) ∈ lw_tbl := lw_at lw_m2 21 rfl
theorem q286 : (Jvm.Cond.instanceMethod ({ cls := "FpuStackTransModel", name := "pop", desc := "()I" } : Jvm.MethodName)) ∈ lw_all := lw_g (lw_at lw_m2 22 rfl) rfl
theorem q287 : (Jvm.Cond.code ({ cls := "FpuStackTransModel", name := "pop", desc := "()I" } : Jvm.MethodName) prog_3_method_8_code (3 : Nat) (Option.some Jvm.ClassFile.FieldType.int)) ∈ lw_all := lw_g (lw_at lw_m2 23 rfl) rfl
theorem q288 : (Jvm.Cond.methodLink "FpuStackTransModel" (57 : Nat) ({ cls := "FpuStackTransModel", name := "calculate", desc := "(II)V" } : Jvm.MethodName)) ∈ lw_all := lw_g (lw_at lw_m2 24 rfl) rfl
theorem q289 : (Jvm.Cond.privateMethod ({ cls := "FpuStackTransModel", name := "calculate", desc := "(II)V" } : Jvm.MethodName)) ∈ lw_tbl := lw_at lw_m2 25 rfl
theorem q290 : (Jvm.Cond.instanceMethod ({ cls := "FpuStackTransModel", name := "calculate", desc := "(II)V" } : Jvm.MethodName)) ∈ lw_all := lw_g (lw_at lw_m2 26 rfl) rfl
theorem q291 : (Jvm.Cond.code ({ cls := "FpuStackTransModel", name := "calculate", desc := "(II)V" } : Jvm.MethodName) prog_3_method_11_code (4 : Nat) (Option.none : Option Jvm.ClassFile.FieldType)) ∈ lw_all := lw_g (lw_at lw_m2 27 rfl) rfl
theorem q293 : (Jvm.Cond.instanceMethod ({ cls := "FpuStackTransModel", name := "depth", desc := "()I" } : Jvm.MethodName)) ∈ lw_all := lw_g (lw_at lw_m2 29 rfl) rfl
theorem q294 : (Jvm.Cond.selects "FpuStackTransModel" ({ cls := "FpuStackTransModel", name := "depth", desc := "()I" } : Jvm.MethodName) ({ cls := "FpuStackTransModel", name := "depth", desc := "()I" } : Jvm.MethodName)) ∈ lw_all := lw_g (lw_at lw_m2 30 rfl) rfl
theorem q295 : (Jvm.Cond.code ({ cls := "FpuStackTransModel", name := "depth", desc := "()I" } : Jvm.MethodName) prog_3_method_14_code (1 : Nat) (Option.some Jvm.ClassFile.FieldType.int)) ∈ lw_all := lw_g (lw_at lw_m2 31 rfl) rfl
theorem q297 : (Jvm.Cond.instanceMethod ({ cls := "FpuStackTransModel", name := "st", desc := "(I)I" } : Jvm.MethodName)) ∈ lw_all := lw_g (lw_at lw_m2 33 rfl) rfl
theorem q298 : (Jvm.Cond.selects "FpuStackTransModel" ({ cls := "FpuStackTransModel", name := "st", desc := "(I)I" } : Jvm.MethodName) ({ cls := "FpuStackTransModel", name := "st", desc := "(I)I" } : Jvm.MethodName)) ∈ lw_all := lw_g (lw_at lw_m2 34 rfl) rfl
theorem q299 : (Jvm.Cond.code ({ cls := "FpuStackTransModel", name := "st", desc := "(I)I" } : Jvm.MethodName) prog_3_method_15_code (2 : Nat) (Option.some Jvm.ClassFile.FieldType.int)) ∈ lw_all := lw_g (lw_at lw_m2 35 rfl) rfl
theorem q301 : (Jvm.Cond.instanceMethod ({ cls := "FpuStackTransModel", name := "memory", desc := "(I)I" } : Jvm.MethodName)) ∈ lw_all := lw_g (lw_at lw_m2 37 rfl) rfl
theorem q302 : (Jvm.Cond.selects "FpuStackTransModel" ({ cls := "FpuStackTransModel", name := "memory", desc := "(I)I" } : Jvm.MethodName) ({ cls := "FpuStackTransModel", name := "memory", desc := "(I)I" } : Jvm.MethodName)) ∈ lw_all := lw_g (lw_at lw_m2 38 rfl) rfl
theorem q303 : (Jvm.Cond.code ({ cls := "FpuStackTransModel", name := "memory", desc := "(I)I" } : Jvm.MethodName) prog_3_method_16_code (2 : Nat) (Option.some Jvm.ClassFile.FieldType.int)) ∈ lw_all := lw_g (lw_at lw_m2 39 rfl) rfl
theorem q305 : (Jvm.Cond.instanceMethod ({ cls := "FpuStackTransModel", name := "place", desc := "()I" } : Jvm.MethodName)) ∈ lw_all := lw_g (lw_at lw_m2 41 rfl) rfl
theorem q306 : (Jvm.Cond.selects "FpuStackTransModel" ({ cls := "FpuStackTransModel", name := "place", desc := "()I" } : Jvm.MethodName) ({ cls := "FpuStackTransModel", name := "place", desc := "()I" } : Jvm.MethodName)) ∈ lw_all := lw_g (lw_at lw_m2 42 rfl) rfl
theorem q307 : (Jvm.Cond.code ({ cls := "FpuStackTransModel", name := "place", desc := "()I" } : Jvm.MethodName) prog_3_method_17_code (1 : Nat) (Option.some Jvm.ClassFile.FieldType.int)) ∈ lw_all := lw_g (lw_at lw_m2 43 rfl) rfl
theorem q309 : (Jvm.Cond.instanceMethod ({ cls := "FpuStackTransModel", name := "executed", desc := "()I" } : Jvm.MethodName)) ∈ lw_all := lw_g (lw_at lw_m2 45 rfl) rfl
theorem q310 : (Jvm.Cond.selects "FpuStackTransModel" ({ cls := "FpuStackTransModel", name := "executed", desc := "()I" } : Jvm.MethodName) ({ cls := "FpuStackTransModel", name := "executed", desc := "()I" } : Jvm.MethodName)) ∈ lw_all := lw_g (lw_at lw_m2 46 rfl) rfl
theorem q311 : (Jvm.Cond.code ({ cls := "FpuStackTransModel", name := "executed", desc := "()I" } : Jvm.MethodName) prog_3_method_18_code (1 : Nat) (Option.some Jvm.ClassFile.FieldType.int)) ∈ lw_all := lw_g (lw_at lw_m2 47 rfl) rfl
theorem in_X1 : ∀ w ∈ wsX10, w ∈ lw_all := lw_in wsX10 [225, 227, 229, 231, 233, 235, 237, 239, 241] (by decide +kernel) (by decide +kernel)
end
section
/-! java/lang/Object -/
set_option maxRecDepth 100000
def RJ0 : String := "java/lang/Object"
abbrev cJ0_init : ByteArray := object_method_1_code
def yJ0_init : MethodName := ⟨RJ0, "<init>", "()V"⟩
theorem dJ0_init_0 : decode cJ0_init 0 = .ok (.return_, 1) := by decide +kernel
theorem q33 : (Jvm.Cond.instanceMethod ({ cls := "java/lang/Object", name := "<init>", desc := "()V" } : Jvm.MethodName)) ∈ lw_all := lw_g (lw_at lw_m1 9 rfl) rfl
theorem q34 : (Jvm.Cond.code ({ cls := "java/lang/Object", name := "<init>", desc := "()V" } : Jvm.MethodName) object_method_1_code (1 : Nat) (Option.none : Option Jvm.ClassFile.FieldType)) ∈ lw_all := lw_g (lw_at lw_m1 10 rfl) rfl

theorem q103 : (Jvm.Cond.arrayClass Jvm.ClassFile.FieldType.byte) ∈ lw_all := lw_g (lw_at lw_m1 79 rfl) rfl
set_option maxRecDepth 100000
theorem q104 : (Jvm.Cond.arrayClass Jvm.ClassFile.FieldType.int) ∈ lw_all := lw_g (lw_at lw_m1 80 rfl) rfl
theorem q105 : (Jvm.Cond.arrayClass Jvm.ClassFile.FieldType.short) ∈ lw_all := lw_g (lw_at lw_m1 81 rfl) rfl

theorem q24 : (Jvm.Cond.initialized "FpuStackTransLaw") ∈ lw_all := lw_g (lw_at lw_m1 0 rfl) rfl
set_option maxRecDepth 100000
theorem q27 : (Jvm.Cond.classLink "FpuStackTransLaw" (7 : Nat) "FpuStackTrans") ∈ lw_all := lw_g (lw_at lw_m1 3 rfl) rfl
theorem q29 : (Jvm.Cond.methodLink "FpuStackTransLaw" (9 : Nat) ({ cls := "FpuStackTrans", name := "<init>", desc := "()V" } : Jvm.MethodName)) ∈ lw_all := lw_g (lw_at lw_m1 5 rfl) rfl
theorem q106 : (Jvm.Cond.methodLink "FpuStackTransLaw" (13 : Nat) ({ cls := "FpuStackTrans", name := "emit", desc := "(II)I" } : Jvm.MethodName)) ∈ lw_all := lw_g (lw_at lw_m1 82 rfl) rfl
theorem q114 : (Jvm.Cond.methodLink "FpuStackTransLaw" (18 : Nat) ({ cls := "FpuStackTrans", name := "patch", desc := "(III)I" } : Jvm.MethodName)) ∈ lw_all := lw_g (lw_at lw_m1 90 rfl) rfl
theorem q118 : (Jvm.Cond.methodLink "FpuStackTransLaw" (23 : Nat) ({ cls := "FpuStackTrans", name := "poke", desc := "(II)Z" } : Jvm.MethodName)) ∈ lw_all := lw_g (lw_at lw_m1 94 rfl) rfl
theorem q122 : (Jvm.Cond.methodLink "FpuStackTransLaw" (28 : Nat) ({ cls := "FpuStackTrans", name := "start", desc := "()V" } : Jvm.MethodName)) ∈ lw_all := lw_g (lw_at lw_m1 98 rfl) rfl
theorem q126 : (Jvm.Cond.methodLink "FpuStackTransLaw" (32 : Nat) ({ cls := "FpuStackTrans", name := "run", desc := "(I)I" } : Jvm.MethodName)) ∈ lw_all := lw_g (lw_at lw_m1 102 rfl) rfl
theorem q190 : (Jvm.Cond.methodLink "FpuStackTransLaw" (37 : Nat) ({ cls := "FpuStackTrans", name := "depth", desc := "()I" } : Jvm.MethodName)) ∈ lw_all := lw_g (lw_at lw_m1 166 rfl) rfl
theorem q194 : (Jvm.Cond.methodLink "FpuStackTransLaw" (42 : Nat) ({ cls := "FpuStackTrans", name := "st", desc := "(I)I" } : Jvm.MethodName)) ∈ lw_all := lw_g (lw_at lw_m1 170 rfl) rfl
theorem q198 : (Jvm.Cond.methodLink "FpuStackTransLaw" (46 : Nat) ({ cls := "FpuStackTrans", name := "memory", desc := "(I)I" } : Jvm.MethodName)) ∈ lw_all := lw_g (lw_at lw_m1 174 rfl) rfl
theorem q202 : (Jvm.Cond.methodLink "FpuStackTransLaw" (50 : Nat) ({ cls := "FpuStackTrans", name := "place", desc := "()I" } : Jvm.MethodName)) ∈ lw_all := lw_g (lw_at lw_m1 178 rfl) rfl
theorem q206 : (Jvm.Cond.methodLink "FpuStackTransLaw" (54 : Nat) ({ cls := "FpuStackTrans", name := "executed", desc := "()I" } : Jvm.MethodName)) ∈ lw_all := lw_g (lw_at lw_m1 182 rfl) rfl
theorem q210 : (Jvm.Cond.classLink "FpuStackTransLaw" (10 : Nat) "FpuStackTransModel") ∈ lw_all := lw_g (lw_at lw_m1 186 rfl) rfl
theorem q212 : (Jvm.Cond.methodLink "FpuStackTransLaw" (12 : Nat) ({ cls := "FpuStackTransModel", name := "<init>", desc := "()V" } : Jvm.MethodName)) ∈ lw_all := lw_g (lw_at lw_m1 188 rfl) rfl
theorem q244 : (Jvm.Cond.methodLink "FpuStackTransLaw" (17 : Nat) ({ cls := "FpuStackTransModel", name := "emit", desc := "(II)I" } : Jvm.MethodName)) ∈ lw_all := lw_g (lw_at lw_m1 220 rfl) rfl
theorem q252 : (Jvm.Cond.methodLink "FpuStackTransLaw" (22 : Nat) ({ cls := "FpuStackTransModel", name := "patch", desc := "(III)I" } : Jvm.MethodName)) ∈ lw_all := lw_g (lw_at lw_m1 228 rfl) rfl
theorem q256 : (Jvm.Cond.methodLink "FpuStackTransLaw" (27 : Nat) ({ cls := "FpuStackTransModel", name := "poke", desc := "(II)Z" } : Jvm.MethodName)) ∈ lw_all := lw_g (lw_at lw_m1 232 rfl) rfl
theorem q260 : (Jvm.Cond.methodLink "FpuStackTransLaw" (31 : Nat) ({ cls := "FpuStackTransModel", name := "start", desc := "()V" } : Jvm.MethodName)) ∈ lw_all := lw_g (lw_at lw_m1 236 rfl) rfl
theorem q264 : (Jvm.Cond.methodLink "FpuStackTransLaw" (36 : Nat) ({ cls := "FpuStackTransModel", name := "run", desc := "(I)I" } : Jvm.MethodName)) ∈ lw_all := lw_g (lw_at lw_m2 0 rfl) rfl
theorem q292 : (Jvm.Cond.methodLink "FpuStackTransLaw" (41 : Nat) ({ cls := "FpuStackTransModel", name := "depth", desc := "()I" } : Jvm.MethodName)) ∈ lw_all := lw_g (lw_at lw_m2 28 rfl) rfl
theorem q296 : (Jvm.Cond.methodLink "FpuStackTransLaw" (45 : Nat) ({ cls := "FpuStackTransModel", name := "st", desc := "(I)I" } : Jvm.MethodName)) ∈ lw_all := lw_g (lw_at lw_m2 32 rfl) rfl
theorem q300 : (Jvm.Cond.methodLink "FpuStackTransLaw" (49 : Nat) ({ cls := "FpuStackTransModel", name := "memory", desc := "(I)I" } : Jvm.MethodName)) ∈ lw_all := lw_g (lw_at lw_m2 36 rfl) rfl
theorem q304 : (Jvm.Cond.methodLink "FpuStackTransLaw" (53 : Nat) ({ cls := "FpuStackTransModel", name := "place", desc := "()I" } : Jvm.MethodName)) ∈ lw_all := lw_g (lw_at lw_m2 40 rfl) rfl
theorem q308 : (Jvm.Cond.methodLink "FpuStackTransLaw" (57 : Nat) ({ cls := "FpuStackTransModel", name := "executed", desc := "()I" } : Jvm.MethodName)) ∈ lw_all := lw_g (lw_at lw_m2 44 rfl) rfl

/-! the law's own entry -/
set_option maxRecDepth 100000
abbrev cL_law : ByteArray := code
theorem dL_law_0 : decode cL_law 0 = .ok (.new 7, 3) := by decide +kernel
theorem dL_law_3 : decode cL_law 3 = .ok (.dup, 1) := by decide +kernel
theorem dL_law_4 : decode cL_law 4 = .ok (.invokespecial 9, 3) := by decide +kernel
theorem dL_law_7 : decode cL_law 7 = .ok (.astore_n 1, 1) := by decide +kernel
theorem dL_law_8 : decode cL_law 8 = .ok (.new 10, 3) := by decide +kernel
theorem dL_law_11 : decode cL_law 11 = .ok (.dup, 1) := by decide +kernel
theorem dL_law_12 : decode cL_law 12 = .ok (.invokespecial 12, 3) := by decide +kernel
theorem dL_law_15 : decode cL_law 15 = .ok (.astore_n 2, 1) := by decide +kernel
theorem dL_law_16 : decode cL_law 16 = .ok (.iconst 0, 1) := by decide +kernel
theorem dL_law_17 : decode cL_law 17 = .ok (.istore_n 3, 1) := by decide +kernel
theorem dL_law_18 : decode cL_law 18 = .ok (.iload_n 3, 1) := by decide +kernel
theorem dL_law_19 : decode cL_law 19 = .ok (.aload_n 0, 1) := by decide +kernel
theorem dL_law_20 : decode cL_law 20 = .ok (.arraylength, 1) := by decide +kernel
theorem dL_law_21 : decode cL_law 21 = .ok (.iconst 4, 1) := by decide +kernel
theorem dL_law_22 : decode cL_law 22 = .ok (.isub, 1) := by decide +kernel
theorem dL_law_23 : decode cL_law 23 = .ok (.if_icmp .gt 299, 3) := by decide +kernel
theorem dL_law_26 : decode cL_law 26 = .ok (.aload_n 0, 1) := by decide +kernel
theorem dL_law_27 : decode cL_law 27 = .ok (.iload_n 3, 1) := by decide +kernel
theorem dL_law_28 : decode cL_law 28 = .ok (.iaload, 1) := by decide +kernel
theorem dL_law_29 : decode cL_law 29 = .ok (.bipush 15, 2) := by decide +kernel
theorem dL_law_31 : decode cL_law 31 = .ok (.iand, 1) := by decide +kernel
theorem dL_law_32 : decode cL_law 32 = .ok (.tableswitch 284 0 9 #[56, 89, 132, 165, 176, 199, 212, 235, 258, 271], 56) := by decide +kernel
theorem dL_law_88 : decode cL_law 88 = .ok (.aload_n 1, 1) := by decide +kernel
theorem dL_law_89 : decode cL_law 89 = .ok (.aload_n 0, 1) := by decide +kernel
theorem dL_law_90 : decode cL_law 90 = .ok (.iload_n 3, 1) := by decide +kernel
theorem dL_law_91 : decode cL_law 91 = .ok (.iconst 1, 1) := by decide +kernel
theorem dL_law_92 : decode cL_law 92 = .ok (.iadd, 1) := by decide +kernel
theorem dL_law_93 : decode cL_law 93 = .ok (.iaload, 1) := by decide +kernel
theorem dL_law_94 : decode cL_law 94 = .ok (.aload_n 0, 1) := by decide +kernel
theorem dL_law_95 : decode cL_law 95 = .ok (.iload_n 3, 1) := by decide +kernel
theorem dL_law_96 : decode cL_law 96 = .ok (.iconst 2, 1) := by decide +kernel
theorem dL_law_97 : decode cL_law 97 = .ok (.iadd, 1) := by decide +kernel
theorem dL_law_98 : decode cL_law 98 = .ok (.iaload, 1) := by decide +kernel
theorem dL_law_99 : decode cL_law 99 = .ok (.invokevirtual 13, 3) := by decide +kernel
theorem dL_law_102 : decode cL_law 102 = .ok (.aload_n 2, 1) := by decide +kernel
theorem dL_law_103 : decode cL_law 103 = .ok (.aload_n 0, 1) := by decide +kernel
theorem dL_law_104 : decode cL_law 104 = .ok (.iload_n 3, 1) := by decide +kernel
theorem dL_law_105 : decode cL_law 105 = .ok (.iconst 1, 1) := by decide +kernel
theorem dL_law_106 : decode cL_law 106 = .ok (.iadd, 1) := by decide +kernel
theorem dL_law_107 : decode cL_law 107 = .ok (.iaload, 1) := by decide +kernel
theorem dL_law_108 : decode cL_law 108 = .ok (.aload_n 0, 1) := by decide +kernel
theorem dL_law_109 : decode cL_law 109 = .ok (.iload_n 3, 1) := by decide +kernel
theorem dL_law_110 : decode cL_law 110 = .ok (.iconst 2, 1) := by decide +kernel
theorem dL_law_111 : decode cL_law 111 = .ok (.iadd, 1) := by decide +kernel
theorem dL_law_112 : decode cL_law 112 = .ok (.iaload, 1) := by decide +kernel
theorem dL_law_113 : decode cL_law 113 = .ok (.invokevirtual 17, 3) := by decide +kernel
theorem dL_law_116 : decode cL_law 116 = .ok (.if_icmp .eq 200, 3) := by decide +kernel
theorem dL_law_119 : decode cL_law 119 = .ok (.iconst 0, 1) := by decide +kernel
theorem dL_law_120 : decode cL_law 120 = .ok (.ireturn, 1) := by decide +kernel
theorem dL_law_121 : decode cL_law 121 = .ok (.aload_n 1, 1) := by decide +kernel
theorem dL_law_122 : decode cL_law 122 = .ok (.aload_n 0, 1) := by decide +kernel
theorem dL_law_123 : decode cL_law 123 = .ok (.iload_n 3, 1) := by decide +kernel
theorem dL_law_124 : decode cL_law 124 = .ok (.iconst 1, 1) := by decide +kernel
theorem dL_law_125 : decode cL_law 125 = .ok (.iadd, 1) := by decide +kernel
theorem dL_law_126 : decode cL_law 126 = .ok (.iaload, 1) := by decide +kernel
theorem dL_law_127 : decode cL_law 127 = .ok (.aload_n 0, 1) := by decide +kernel
theorem dL_law_128 : decode cL_law 128 = .ok (.iload_n 3, 1) := by decide +kernel
theorem dL_law_129 : decode cL_law 129 = .ok (.iconst 2, 1) := by decide +kernel
theorem dL_law_130 : decode cL_law 130 = .ok (.iadd, 1) := by decide +kernel
theorem dL_law_131 : decode cL_law 131 = .ok (.iaload, 1) := by decide +kernel
theorem dL_law_132 : decode cL_law 132 = .ok (.aload_n 0, 1) := by decide +kernel
theorem dL_law_133 : decode cL_law 133 = .ok (.iload_n 3, 1) := by decide +kernel
theorem dL_law_134 : decode cL_law 134 = .ok (.iconst 3, 1) := by decide +kernel
theorem dL_law_135 : decode cL_law 135 = .ok (.iadd, 1) := by decide +kernel
theorem dL_law_136 : decode cL_law 136 = .ok (.iaload, 1) := by decide +kernel
theorem dL_law_137 : decode cL_law 137 = .ok (.invokevirtual 18, 3) := by decide +kernel
theorem dL_law_140 : decode cL_law 140 = .ok (.aload_n 2, 1) := by decide +kernel
theorem dL_law_141 : decode cL_law 141 = .ok (.aload_n 0, 1) := by decide +kernel
theorem dL_law_142 : decode cL_law 142 = .ok (.iload_n 3, 1) := by decide +kernel
theorem dL_law_143 : decode cL_law 143 = .ok (.iconst 1, 1) := by decide +kernel
theorem dL_law_144 : decode cL_law 144 = .ok (.iadd, 1) := by decide +kernel
theorem dL_law_145 : decode cL_law 145 = .ok (.iaload, 1) := by decide +kernel
theorem dL_law_146 : decode cL_law 146 = .ok (.aload_n 0, 1) := by decide +kernel
theorem dL_law_147 : decode cL_law 147 = .ok (.iload_n 3, 1) := by decide +kernel
theorem dL_law_148 : decode cL_law 148 = .ok (.iconst 2, 1) := by decide +kernel
theorem dL_law_149 : decode cL_law 149 = .ok (.iadd, 1) := by decide +kernel
theorem dL_law_150 : decode cL_law 150 = .ok (.iaload, 1) := by decide +kernel
theorem dL_law_151 : decode cL_law 151 = .ok (.aload_n 0, 1) := by decide +kernel
theorem dL_law_152 : decode cL_law 152 = .ok (.iload_n 3, 1) := by decide +kernel
theorem dL_law_153 : decode cL_law 153 = .ok (.iconst 3, 1) := by decide +kernel
theorem dL_law_154 : decode cL_law 154 = .ok (.iadd, 1) := by decide +kernel
theorem dL_law_155 : decode cL_law 155 = .ok (.iaload, 1) := by decide +kernel
theorem dL_law_156 : decode cL_law 156 = .ok (.invokevirtual 22, 3) := by decide +kernel
theorem dL_law_159 : decode cL_law 159 = .ok (.if_icmp .eq 157, 3) := by decide +kernel
theorem dL_law_162 : decode cL_law 162 = .ok (.iconst 0, 1) := by decide +kernel
theorem dL_law_163 : decode cL_law 163 = .ok (.ireturn, 1) := by decide +kernel
theorem dL_law_164 : decode cL_law 164 = .ok (.aload_n 1, 1) := by decide +kernel
theorem dL_law_165 : decode cL_law 165 = .ok (.aload_n 0, 1) := by decide +kernel
theorem dL_law_166 : decode cL_law 166 = .ok (.iload_n 3, 1) := by decide +kernel
theorem dL_law_167 : decode cL_law 167 = .ok (.iconst 1, 1) := by decide +kernel
theorem dL_law_168 : decode cL_law 168 = .ok (.iadd, 1) := by decide +kernel
theorem dL_law_169 : decode cL_law 169 = .ok (.iaload, 1) := by decide +kernel
theorem dL_law_170 : decode cL_law 170 = .ok (.aload_n 0, 1) := by decide +kernel
theorem dL_law_171 : decode cL_law 171 = .ok (.iload_n 3, 1) := by decide +kernel
theorem dL_law_172 : decode cL_law 172 = .ok (.iconst 2, 1) := by decide +kernel
theorem dL_law_173 : decode cL_law 173 = .ok (.iadd, 1) := by decide +kernel
theorem dL_law_174 : decode cL_law 174 = .ok (.iaload, 1) := by decide +kernel
theorem dL_law_175 : decode cL_law 175 = .ok (.invokevirtual 23, 3) := by decide +kernel
theorem dL_law_178 : decode cL_law 178 = .ok (.aload_n 2, 1) := by decide +kernel
theorem dL_law_179 : decode cL_law 179 = .ok (.aload_n 0, 1) := by decide +kernel
theorem dL_law_180 : decode cL_law 180 = .ok (.iload_n 3, 1) := by decide +kernel
theorem dL_law_181 : decode cL_law 181 = .ok (.iconst 1, 1) := by decide +kernel
theorem dL_law_182 : decode cL_law 182 = .ok (.iadd, 1) := by decide +kernel
theorem dL_law_183 : decode cL_law 183 = .ok (.iaload, 1) := by decide +kernel
theorem dL_law_184 : decode cL_law 184 = .ok (.aload_n 0, 1) := by decide +kernel
theorem dL_law_185 : decode cL_law 185 = .ok (.iload_n 3, 1) := by decide +kernel
theorem dL_law_186 : decode cL_law 186 = .ok (.iconst 2, 1) := by decide +kernel
theorem dL_law_187 : decode cL_law 187 = .ok (.iadd, 1) := by decide +kernel
theorem dL_law_188 : decode cL_law 188 = .ok (.iaload, 1) := by decide +kernel
theorem dL_law_189 : decode cL_law 189 = .ok (.invokevirtual 27, 3) := by decide +kernel
theorem dL_law_192 : decode cL_law 192 = .ok (.if_icmp .eq 124, 3) := by decide +kernel
theorem dL_law_195 : decode cL_law 195 = .ok (.iconst 0, 1) := by decide +kernel
theorem dL_law_196 : decode cL_law 196 = .ok (.ireturn, 1) := by decide +kernel
theorem dL_law_197 : decode cL_law 197 = .ok (.aload_n 1, 1) := by decide +kernel
theorem dL_law_198 : decode cL_law 198 = .ok (.invokevirtual 28, 3) := by decide +kernel
theorem dL_law_201 : decode cL_law 201 = .ok (.aload_n 2, 1) := by decide +kernel
theorem dL_law_202 : decode cL_law 202 = .ok (.invokevirtual 31, 3) := by decide +kernel
theorem dL_law_205 : decode cL_law 205 = .ok (.goto 111, 3) := by decide +kernel
theorem dL_law_208 : decode cL_law 208 = .ok (.aload_n 1, 1) := by decide +kernel
theorem dL_law_209 : decode cL_law 209 = .ok (.aload_n 0, 1) := by decide +kernel
theorem dL_law_210 : decode cL_law 210 = .ok (.iload_n 3, 1) := by decide +kernel
theorem dL_law_211 : decode cL_law 211 = .ok (.iconst 1, 1) := by decide +kernel
theorem dL_law_212 : decode cL_law 212 = .ok (.iadd, 1) := by decide +kernel
theorem dL_law_213 : decode cL_law 213 = .ok (.iaload, 1) := by decide +kernel
theorem dL_law_214 : decode cL_law 214 = .ok (.invokevirtual 32, 3) := by decide +kernel
theorem dL_law_217 : decode cL_law 217 = .ok (.aload_n 2, 1) := by decide +kernel
theorem dL_law_218 : decode cL_law 218 = .ok (.aload_n 0, 1) := by decide +kernel
theorem dL_law_219 : decode cL_law 219 = .ok (.iload_n 3, 1) := by decide +kernel
theorem dL_law_220 : decode cL_law 220 = .ok (.iconst 1, 1) := by decide +kernel
theorem dL_law_221 : decode cL_law 221 = .ok (.iadd, 1) := by decide +kernel
theorem dL_law_222 : decode cL_law 222 = .ok (.iaload, 1) := by decide +kernel
theorem dL_law_223 : decode cL_law 223 = .ok (.invokevirtual 36, 3) := by decide +kernel
theorem dL_law_226 : decode cL_law 226 = .ok (.if_icmp .eq 90, 3) := by decide +kernel
theorem dL_law_229 : decode cL_law 229 = .ok (.iconst 0, 1) := by decide +kernel
theorem dL_law_230 : decode cL_law 230 = .ok (.ireturn, 1) := by decide +kernel
theorem dL_law_231 : decode cL_law 231 = .ok (.aload_n 1, 1) := by decide +kernel
theorem dL_law_232 : decode cL_law 232 = .ok (.invokevirtual 37, 3) := by decide +kernel
theorem dL_law_235 : decode cL_law 235 = .ok (.aload_n 2, 1) := by decide +kernel
theorem dL_law_236 : decode cL_law 236 = .ok (.invokevirtual 41, 3) := by decide +kernel
theorem dL_law_239 : decode cL_law 239 = .ok (.if_icmp .eq 77, 3) := by decide +kernel
theorem dL_law_242 : decode cL_law 242 = .ok (.iconst 0, 1) := by decide +kernel
theorem dL_law_243 : decode cL_law 243 = .ok (.ireturn, 1) := by decide +kernel
theorem dL_law_244 : decode cL_law 244 = .ok (.aload_n 1, 1) := by decide +kernel
theorem dL_law_245 : decode cL_law 245 = .ok (.aload_n 0, 1) := by decide +kernel
theorem dL_law_246 : decode cL_law 246 = .ok (.iload_n 3, 1) := by decide +kernel
theorem dL_law_247 : decode cL_law 247 = .ok (.iconst 1, 1) := by decide +kernel
theorem dL_law_248 : decode cL_law 248 = .ok (.iadd, 1) := by decide +kernel
theorem dL_law_249 : decode cL_law 249 = .ok (.iaload, 1) := by decide +kernel
theorem dL_law_250 : decode cL_law 250 = .ok (.invokevirtual 42, 3) := by decide +kernel
theorem dL_law_253 : decode cL_law 253 = .ok (.aload_n 2, 1) := by decide +kernel
theorem dL_law_254 : decode cL_law 254 = .ok (.aload_n 0, 1) := by decide +kernel
theorem dL_law_255 : decode cL_law 255 = .ok (.iload_n 3, 1) := by decide +kernel
theorem dL_law_256 : decode cL_law 256 = .ok (.iconst 1, 1) := by decide +kernel
theorem dL_law_257 : decode cL_law 257 = .ok (.iadd, 1) := by decide +kernel
theorem dL_law_258 : decode cL_law 258 = .ok (.iaload, 1) := by decide +kernel
theorem dL_law_259 : decode cL_law 259 = .ok (.invokevirtual 45, 3) := by decide +kernel
theorem dL_law_262 : decode cL_law 262 = .ok (.if_icmp .eq 54, 3) := by decide +kernel
theorem dL_law_265 : decode cL_law 265 = .ok (.iconst 0, 1) := by decide +kernel
theorem dL_law_266 : decode cL_law 266 = .ok (.ireturn, 1) := by decide +kernel
theorem dL_law_267 : decode cL_law 267 = .ok (.aload_n 1, 1) := by decide +kernel
theorem dL_law_268 : decode cL_law 268 = .ok (.aload_n 0, 1) := by decide +kernel
theorem dL_law_269 : decode cL_law 269 = .ok (.iload_n 3, 1) := by decide +kernel
theorem dL_law_270 : decode cL_law 270 = .ok (.iconst 1, 1) := by decide +kernel
theorem dL_law_271 : decode cL_law 271 = .ok (.iadd, 1) := by decide +kernel
theorem dL_law_272 : decode cL_law 272 = .ok (.iaload, 1) := by decide +kernel
theorem dL_law_273 : decode cL_law 273 = .ok (.invokevirtual 46, 3) := by decide +kernel
theorem dL_law_276 : decode cL_law 276 = .ok (.aload_n 2, 1) := by decide +kernel
theorem dL_law_277 : decode cL_law 277 = .ok (.aload_n 0, 1) := by decide +kernel
theorem dL_law_278 : decode cL_law 278 = .ok (.iload_n 3, 1) := by decide +kernel
theorem dL_law_279 : decode cL_law 279 = .ok (.iconst 1, 1) := by decide +kernel
theorem dL_law_280 : decode cL_law 280 = .ok (.iadd, 1) := by decide +kernel
theorem dL_law_281 : decode cL_law 281 = .ok (.iaload, 1) := by decide +kernel
theorem dL_law_282 : decode cL_law 282 = .ok (.invokevirtual 49, 3) := by decide +kernel
theorem dL_law_285 : decode cL_law 285 = .ok (.if_icmp .eq 31, 3) := by decide +kernel
theorem dL_law_288 : decode cL_law 288 = .ok (.iconst 0, 1) := by decide +kernel
theorem dL_law_289 : decode cL_law 289 = .ok (.ireturn, 1) := by decide +kernel
theorem dL_law_290 : decode cL_law 290 = .ok (.aload_n 1, 1) := by decide +kernel
theorem dL_law_291 : decode cL_law 291 = .ok (.invokevirtual 50, 3) := by decide +kernel
theorem dL_law_294 : decode cL_law 294 = .ok (.aload_n 2, 1) := by decide +kernel
theorem dL_law_295 : decode cL_law 295 = .ok (.invokevirtual 53, 3) := by decide +kernel
theorem dL_law_298 : decode cL_law 298 = .ok (.if_icmp .eq 18, 3) := by decide +kernel
theorem dL_law_301 : decode cL_law 301 = .ok (.iconst 0, 1) := by decide +kernel
theorem dL_law_302 : decode cL_law 302 = .ok (.ireturn, 1) := by decide +kernel
theorem dL_law_303 : decode cL_law 303 = .ok (.aload_n 1, 1) := by decide +kernel
theorem dL_law_304 : decode cL_law 304 = .ok (.invokevirtual 54, 3) := by decide +kernel
theorem dL_law_307 : decode cL_law 307 = .ok (.aload_n 2, 1) := by decide +kernel
theorem dL_law_308 : decode cL_law 308 = .ok (.invokevirtual 57, 3) := by decide +kernel
theorem dL_law_311 : decode cL_law 311 = .ok (.if_icmp .eq 5, 3) := by decide +kernel
theorem dL_law_314 : decode cL_law 314 = .ok (.iconst 0, 1) := by decide +kernel
theorem dL_law_315 : decode cL_law 315 = .ok (.ireturn, 1) := by decide +kernel
theorem dL_law_316 : decode cL_law 316 = .ok (.iinc 3 4, 3) := by decide +kernel
theorem dL_law_319 : decode cL_law 319 = .ok (.goto (-301), 3) := by decide +kernel
theorem dL_law_322 : decode cL_law 322 = .ok (.iconst 1, 1) := by decide +kernel
theorem dL_law_323 : decode cL_law 323 = .ok (.ireturn, 1) := by decide +kernel
end
section
/-! ROWS OF MY OWN: numbers, branches by toInt, the two classes' worlds -/
set_option maxRecDepth 100000
theorem n_byte : ∀ x, x < 128 → (nI x).toInt8.toInt32 = nI x := by decide +kernel
theorem n_short : ∀ x, x < 1024 → (nI x).toInt16.toInt32 = nI x := by decide +kernel
theorem n_upd (f : Nat → Nat) (j x : Nat) : upd (fun i => nI (f i)) j (nI x) = fun i => nI (va_up f j x i) := by
  funext i
  simp only [upd, va_up]
  split <;> rfl
theorem n_of (x : Int32) (h : 0 ≤ x.toInt) : ∃ k : Nat, x = nI k ∧ (k : Int) = x.toInt ∧ k < 2 ^ 31 := by
  obtain ⟨k, hk, hx⟩ := nI_of (x := x) (by rw [Int32.lt_iff_toInt_lt, Int32.toInt_zero]; omega)
  exact ⟨k, hx, by rw [hx, nI_toInt hk], hk⟩
theorem n_inc (a : Nat) : nI a + Int32.ofInt 1 = nI (a + 1) := nI_1 a
theorem n_dec {a : Nat} (h : 1 ≤ a) : nI a + Int32.ofInt (-1) = nI (a - 1) := by
  obtain ⟨b, rfl⟩ : ∃ b, a = b + 1 := ⟨a - 1, by omega⟩
  exact pk_m1 b
theorem i_eq {x y : Int32} (h : x = y) : x.toInt = y.toInt := by rw [h]
theorem i_ne {x y : Int32} (h : ¬ x = y) : x.toInt ≠ y.toInt := fun q => h (Int32.toInt_inj.mp q)
theorem i_lt {x y : Int32} (h : x < y) : x.toInt < y.toInt := Int32.lt_iff_toInt_lt.mp h
theorem i_nlt {x y : Int32} (h : ¬ x < y) : y.toInt ≤ x.toInt := Int.not_lt.mp (fun q => h (Int32.lt_iff_toInt_lt.mpr q))
theorem i_le {x y : Int32} (h : x ≤ y) : x.toInt ≤ y.toInt := Int32.le_iff_toInt_le.mp h
theorem i_nle {x y : Int32} (h : ¬ x ≤ y) : y.toInt < x.toInt := Int.not_le.mp (fun q => h (Int32.le_iff_toInt_le.mpr q))
section NR
variable {p : Program} {l : Launch} {e : Env} {R : Room} {s : State} {m : MethodId} {args : Array Value} {below : List Frame} {meth : Method} {c : Code} {H : Heap} {locs : List Loc} {cells slots : Nat} {Q : State → Prop}
variable {cc : ByteArray} {nL pc : Nat} {ls : Array Slot} {rest : List Value} {own : String} {Ts : List Cond}

theorem n_iadd (F : CallFix p m c cc nL s args Ts own) {a b : Nat} (hdg : decode cc pc = .ok (.iadd, 1)) (kk : W p l e R s m args below meth c H locs cells slots Q (F0 m (pc + 1) ls (.int (nI (a + b)) :: rest))) : W p l e R s m args below meth c H locs cells slots Q (F0 m pc ls (.int (nI b) :: .int (nI a) :: rest)) :=
  lv_iadd F.1 F.2.1 hdg (by rw [nI_add]; exact kk)
theorem n_isub (F : CallFix p m c cc nL s args Ts own) {a b : Nat} (h : b ≤ a) (hdg : decode cc pc = .ok (.isub, 1)) (kk : W p l e R s m args below meth c H locs cells slots Q (F0 m (pc + 1) ls (.int (nI (a - b)) :: rest))) : W p l e R s m args below meth c H locs cells slots Q (F0 m pc ls (.int (nI b) :: .int (nI a) :: rest)) :=
  lv_isub F.1 F.2.1 hdg (by rw [pk_sub h]; exact kk)
theorem n_imul (F : CallFix p m c cc nL s args Ts own) {a b : Nat} (hdg : decode cc pc = .ok (.imul, 1)) (kk : W p l e R s m args below meth c H locs cells slots Q (F0 m (pc + 1) ls (.int (nI (a * b)) :: rest))) : W p l e R s m args below meth c H locs cells slots Q (F0 m pc ls (.int (nI b) :: .int (nI a) :: rest)) :=
  lv_imul F.1 F.2.1 hdg (by rw [pk_mul]; exact kk)
theorem t_icmp_eq (F : CallFix p m c cc nL s args Ts own) {x y : Int32} {a b : Int} (hx : x.toInt = a) (hy : y.toInt = b) {off : Int} {tgt : Nat} (hdg : decode cc pc = .ok (.if_icmp .eq off, 3)) (ht : (pc : Int) + off = (tgt : Int)) (kt : a = b → W p l e R s m args below meth c H locs cells slots Q (F0 m tgt ls rest)) (kf : a ≠ b → W p l e R s m args below meth c H locs cells slots Q (F0 m (pc + 3) ls rest)) : W p l e R s m args below meth c H locs cells slots Q (F0 m pc ls (.int y :: .int x :: rest)) := by
  subst hx
  subst hy
  exact lv_icmp_eq F.1 F.2.1 hdg ht (fun h => kt (i_eq h)) (fun h => kf (i_ne h))
theorem t_if_eq (F : CallFix p m c cc nL s args Ts own) {x : Int32} {a : Int} (hx : x.toInt = a) {off : Int} {tgt : Nat} (hdg : decode cc pc = .ok (.ifCond .eq off, 3)) (ht : (pc : Int) + off = (tgt : Int)) (kt : a = 0 → W p l e R s m args below meth c H locs cells slots Q (F0 m tgt ls rest)) (kf : a ≠ 0 → W p l e R s m args below meth c H locs cells slots Q (F0 m (pc + 3) ls rest)) : W p l e R s m args below meth c H locs cells slots Q (F0 m pc ls (.int x :: rest)) := by
  subst hx
  exact lv_if_eq F.1 F.2.1 hdg ht (fun h => kt (by have q := i_eq h; rwa [Int32.toInt_zero] at q)) (fun h => kf (by have q := i_ne h; rwa [Int32.toInt_zero] at q))
theorem t_icmp_ne (F : CallFix p m c cc nL s args Ts own) {x y : Int32} {a b : Int} (hx : x.toInt = a) (hy : y.toInt = b) {off : Int} {tgt : Nat} (hdg : decode cc pc = .ok (.if_icmp .ne off, 3)) (ht : (pc : Int) + off = (tgt : Int)) (kt : a ≠ b → W p l e R s m args below meth c H locs cells slots Q (F0 m tgt ls rest)) (kf : a = b → W p l e R s m args below meth c H locs cells slots Q (F0 m (pc + 3) ls rest)) : W p l e R s m args below meth c H locs cells slots Q (F0 m pc ls (.int y :: .int x :: rest)) := by
  subst hx
  subst hy
  exact lv_icmp_ne F.1 F.2.1 hdg ht (fun h => kt (i_ne h)) (fun h => kf (i_eq h))
theorem t_if_ne (F : CallFix p m c cc nL s args Ts own) {x : Int32} {a : Int} (hx : x.toInt = a) {off : Int} {tgt : Nat} (hdg : decode cc pc = .ok (.ifCond .ne off, 3)) (ht : (pc : Int) + off = (tgt : Int)) (kt : a ≠ 0 → W p l e R s m args below meth c H locs cells slots Q (F0 m tgt ls rest)) (kf : a = 0 → W p l e R s m args below meth c H locs cells slots Q (F0 m (pc + 3) ls rest)) : W p l e R s m args below meth c H locs cells slots Q (F0 m pc ls (.int x :: rest)) := by
  subst hx
  exact lv_if_ne F.1 F.2.1 hdg ht (fun h => kt (by have q := i_ne h; rwa [Int32.toInt_zero] at q)) (fun h => kf (by have q := i_eq h; rwa [Int32.toInt_zero] at q))
theorem t_icmp_lt (F : CallFix p m c cc nL s args Ts own) {x y : Int32} {a b : Int} (hx : x.toInt = a) (hy : y.toInt = b) {off : Int} {tgt : Nat} (hdg : decode cc pc = .ok (.if_icmp .lt off, 3)) (ht : (pc : Int) + off = (tgt : Int)) (kt : a < b → W p l e R s m args below meth c H locs cells slots Q (F0 m tgt ls rest)) (kf : b ≤ a → W p l e R s m args below meth c H locs cells slots Q (F0 m (pc + 3) ls rest)) : W p l e R s m args below meth c H locs cells slots Q (F0 m pc ls (.int y :: .int x :: rest)) := by
  subst hx
  subst hy
  exact lv_icmp_lt F.1 F.2.1 hdg ht (fun h => kt (i_lt h)) (fun h => kf (i_nlt h))
theorem t_if_lt (F : CallFix p m c cc nL s args Ts own) {x : Int32} {a : Int} (hx : x.toInt = a) {off : Int} {tgt : Nat} (hdg : decode cc pc = .ok (.ifCond .lt off, 3)) (ht : (pc : Int) + off = (tgt : Int)) (kt : a < 0 → W p l e R s m args below meth c H locs cells slots Q (F0 m tgt ls rest)) (kf : 0 ≤ a → W p l e R s m args below meth c H locs cells slots Q (F0 m (pc + 3) ls rest)) : W p l e R s m args below meth c H locs cells slots Q (F0 m pc ls (.int x :: rest)) := by
  subst hx
  exact lv_if_lt F.1 F.2.1 hdg ht (fun h => kt (by have q := i_lt h; rwa [Int32.toInt_zero] at q)) (fun h => kf (by have q := i_nlt h; rwa [Int32.toInt_zero] at q))
theorem t_icmp_ge (F : CallFix p m c cc nL s args Ts own) {x y : Int32} {a b : Int} (hx : x.toInt = a) (hy : y.toInt = b) {off : Int} {tgt : Nat} (hdg : decode cc pc = .ok (.if_icmp .ge off, 3)) (ht : (pc : Int) + off = (tgt : Int)) (kt : b ≤ a → W p l e R s m args below meth c H locs cells slots Q (F0 m tgt ls rest)) (kf : a < b → W p l e R s m args below meth c H locs cells slots Q (F0 m (pc + 3) ls rest)) : W p l e R s m args below meth c H locs cells slots Q (F0 m pc ls (.int y :: .int x :: rest)) := by
  subst hx
  subst hy
  exact lv_icmp_ge F.1 F.2.1 hdg ht (fun h => kt (i_le h)) (fun h => kf (i_nle h))
theorem t_if_ge (F : CallFix p m c cc nL s args Ts own) {x : Int32} {a : Int} (hx : x.toInt = a) {off : Int} {tgt : Nat} (hdg : decode cc pc = .ok (.ifCond .ge off, 3)) (ht : (pc : Int) + off = (tgt : Int)) (kt : 0 ≤ a → W p l e R s m args below meth c H locs cells slots Q (F0 m tgt ls rest)) (kf : a < 0 → W p l e R s m args below meth c H locs cells slots Q (F0 m (pc + 3) ls rest)) : W p l e R s m args below meth c H locs cells slots Q (F0 m pc ls (.int x :: rest)) := by
  subst hx
  exact lv_if_ge F.1 F.2.1 hdg ht (fun h => kt (by have q := i_le h; rwa [Int32.toInt_zero] at q)) (fun h => kf (by have q := i_nle h; rwa [Int32.toInt_zero] at q))
theorem t_icmp_gt (F : CallFix p m c cc nL s args Ts own) {x y : Int32} {a b : Int} (hx : x.toInt = a) (hy : y.toInt = b) {off : Int} {tgt : Nat} (hdg : decode cc pc = .ok (.if_icmp .gt off, 3)) (ht : (pc : Int) + off = (tgt : Int)) (kt : b < a → W p l e R s m args below meth c H locs cells slots Q (F0 m tgt ls rest)) (kf : a ≤ b → W p l e R s m args below meth c H locs cells slots Q (F0 m (pc + 3) ls rest)) : W p l e R s m args below meth c H locs cells slots Q (F0 m pc ls (.int y :: .int x :: rest)) := by
  subst hx
  subst hy
  exact lv_icmp_gt F.1 F.2.1 hdg ht (fun h => kt (i_lt h)) (fun h => kf (i_nlt h))
theorem t_if_gt (F : CallFix p m c cc nL s args Ts own) {x : Int32} {a : Int} (hx : x.toInt = a) {off : Int} {tgt : Nat} (hdg : decode cc pc = .ok (.ifCond .gt off, 3)) (ht : (pc : Int) + off = (tgt : Int)) (kt : 0 < a → W p l e R s m args below meth c H locs cells slots Q (F0 m tgt ls rest)) (kf : a ≤ 0 → W p l e R s m args below meth c H locs cells slots Q (F0 m (pc + 3) ls rest)) : W p l e R s m args below meth c H locs cells slots Q (F0 m pc ls (.int x :: rest)) := by
  subst hx
  exact lv_if_gt F.1 F.2.1 hdg ht (fun h => kt (by have q := i_lt h; rwa [Int32.toInt_zero] at q)) (fun h => kf (by have q := i_nlt h; rwa [Int32.toInt_zero] at q))
theorem t_icmp_le (F : CallFix p m c cc nL s args Ts own) {x y : Int32} {a b : Int} (hx : x.toInt = a) (hy : y.toInt = b) {off : Int} {tgt : Nat} (hdg : decode cc pc = .ok (.if_icmp .le off, 3)) (ht : (pc : Int) + off = (tgt : Int)) (kt : a ≤ b → W p l e R s m args below meth c H locs cells slots Q (F0 m tgt ls rest)) (kf : b < a → W p l e R s m args below meth c H locs cells slots Q (F0 m (pc + 3) ls rest)) : W p l e R s m args below meth c H locs cells slots Q (F0 m pc ls (.int y :: .int x :: rest)) := by
  subst hx
  subst hy
  exact lv_icmp_le F.1 F.2.1 hdg ht (fun h => kt (i_le h)) (fun h => kf (i_nle h))
theorem t_if_le (F : CallFix p m c cc nL s args Ts own) {x : Int32} {a : Int} (hx : x.toInt = a) {off : Int} {tgt : Nat} (hdg : decode cc pc = .ok (.ifCond .le off, 3)) (ht : (pc : Int) + off = (tgt : Int)) (kt : a ≤ 0 → W p l e R s m args below meth c H locs cells slots Q (F0 m tgt ls rest)) (kf : 0 < a → W p l e R s m args below meth c H locs cells slots Q (F0 m (pc + 3) ls rest)) : W p l e R s m args below meth c H locs cells slots Q (F0 m pc ls (.int x :: rest)) := by
  subst hx
  exact lv_if_le F.1 F.2.1 hdg ht (fun h => kt (by have q := i_le h; rwa [Int32.toInt_zero] at q)) (fun h => kf (by have q := i_nle h; rwa [Int32.toInt_zero] at q))
end NR
abbrev vwCl : List vw_C := [(RX0, TX0, 21), (RX1, TX1, 9)]
/-- the picture of an object: its int fields (all small), its arrays of small numbers, its arrays of ints, each by the number of its field -/
abbrev XS : Type := (Nat → Nat) × (Nat → Nat → Nat) × (Nat → Nat → Int32)
def xs (u : XS) (k v : Nat) : XS := (va_up u.1 k v, u.2.1, u.2.2)
def xn (u : XS) (k i v : Nat) : XS := (u.1, va_up u.2.1 k (va_up (u.2.1 k) i v), u.2.2)
def xz (u : XS) (k i : Nat) (v : Int32) : XS := (u.1, u.2.1, va_up u.2.2 k (upd (u.2.2 k) i v))
def xF (ad : Nat → Nat) (u : XS) : List Value := [.int (nI (u.1 0)), .ref (ad 1), .ref (ad 2), .ref (ad 3), .ref (ad 4), .int (nI (u.1 5)), .int (nI (u.1 6)), .int (nI (u.1 7)), .int (nI (u.1 8)), .ref (ad 9), .int (nI (u.1 10)), .ref (ad 11), .ref (ad 12), .ref (ad 13), .int (nI (u.1 14)), .ref (ad 15), .ref (ad 16), .ref (ad 17), .ref (ad 18), .int (nI (u.1 19)), .ref (ad 20)]
def xW (ad : Nat → Nat) (d : Nat → ClassId) (u : XS) : va_W := [(ad 0, .inr (0, xF ad u)), (ad 1, .inl (d 1, 32, .inl (fun i => nI (u.2.1 1 i)))), (ad 2, .inl (d 2, 32, .inl (u.2.2 2))), (ad 3, .inl (d 3, 8, .inl (u.2.2 3))), (ad 4, .inl (d 4, 10, .inl (u.2.2 4))), (ad 9, .inl (d 9, 297, .inl (u.2.2 9))), (ad 11, .inl (d 11, 48, .inl (fun i => nI (u.2.1 11 i)))), (ad 12, .inl (d 12, 48, .inl (fun i => nI (u.2.1 12 i)))), (ad 13, .inl (d 13, 48, .inl (fun i => nI (u.2.1 13 i)))), (ad 15, .inl (d 15, 640, .inl (fun i => nI (u.2.1 15 i)))), (ad 16, .inl (d 16, 640, .inl (fun i => nI (u.2.1 16 i)))), (ad 17, .inl (d 17, 640, .inl (fun i => nI (u.2.1 17 i)))), (ad 18, .inl (d 18, 640, .inl (u.2.2 18))), (ad 20, .inl (d 20, 8, .inl (fun i => nI (u.2.1 20 i))))]
def xT (d : Nat → ClassId) : List (ClassId × FieldType) := [(d 1, .byte), (d 2, .int), (d 3, .int), (d 4, .int), (d 9, .short), (d 11, .short), (d 12, .byte), (d 13, .byte), (d 15, .byte), (d 16, .byte), (d 17, .byte), (d 18, .int), (d 20, .byte)]
def xI (g : va_G) (ad : Nat → Nat) (d : Nat → ClassId) (A : Nat → Prop) (s : State) (u : XS) (H : Heap) (locs : List Loc) : Prop := va_K g vwCl (xT d) s ∧ va_P g vwCl (xW ad d u) H ∧ va_D A (xW ad d u) ∧ va_S A s.heap H locs
def xB (g : va_G) (ad : Nat → Nat) (d : Nat → ClassId) (A : Nat → Prop) (u : XS) (t : State) : Prop := va_K g vwCl (xT d) t ∧ va_P g vwCl (xW ad d u) t.heap ∧ va_D A (xW ad d u)
def xPc (g : va_G) (ad : Nat → Nat) (d : Nat → ClassId) (A : Nat → Prop) (u : XS) (av : List Value) : Array Value → State → Prop := va_Pc (.ref (ad 0) :: av) (xB g ad d A u)
def xQv (g : va_G) (ad : Nat → Nat) (d : Nat → ClassId) (A : Nat → Prop) (post : XS → Prop) : Array Value → State → Outcome → State → Prop := va_Qv post (xB g ad d A) A
def xQi (g : va_G) (ad : Nat → Nat) (d : Nat → ClassId) (A : Nat → Prop) (post : Int32 → XS → Prop) : Array Value → State → Outcome → State → Prop := va_Qi post (xB g ad d A) A
section XR
variable {p : Program} {l : Launch} {e : Env} {R : Room} {s : State} {m : MethodId} {args : Array Value} {below : List Frame} {meth : Method} {c : Code} {H : Heap} {locs : List Loc} {cells slots : Nat} {Q : State → Prop}
variable {cc : ByteArray} {nL pc : Nat} {ls : Array Slot} {rest : List Value} {own : String} {Ts : List Cond}
variable {g : va_G} {ad : Nat → Nat} {d : Nat → ClassId} {A : Nat → Prop} {u : XS}
theorem x_get (F : CallFix p m c cc nL s args lw_all RX0) (hI : xI g ad d A s u H locs) (k : Nat) (hk : k < 21) {idx : Nat} (hq : Cond.fieldLink RX0 idx RX0 (TX0 k).2.1 (TX0 k).2.2.1 ∈ lw_all) (hT : (TX0 k).1 = RX0) {v : Value} (hv : (xF ad u)[k]? = some v) (hdg : decode cc pc = .ok (.getfield idx, 3)) (kk : W p l e R s m args below meth c H locs cells slots Q (F0 m (pc + 3) ls (v :: rest))) : W p l e R s m args below meth c H locs cells slots Q (F0 m pc ls (.ref (ad 0) :: rest)) :=
  va_get (D := g) (ci := 0) (v := v) (C := RX0) (T := TX0) (N := 21) (ref := RX0) F.1 F.2.1 F.2.2.2.2 in_X0 F.2.2.2.1 hI.1 hI.2.1 0 rfl rfl k hk (F.2.2.2.2 _ hq) (fun _ h9 => by rw [hT] at h9; exact h9) hv hdg kk
theorem xg0 (F : CallFix p m c cc nL s args lw_all RX0) (hI : xI g ad d A s u H locs) {v : Nat} (hv : u.1 0 = v) (hdg : decode cc pc = .ok (.getfield 54, 3)) (kk : W p l e R s m args below meth c H locs cells slots Q (F0 m (pc + 3) ls (.int (nI v) :: rest))) : W p l e R s m args below meth c H locs cells slots Q (F0 m pc ls (.ref (ad 0) :: rest)) := by
  subst hv
  exact x_get F hI 0 (by decide) q39 rfl rfl hdg kk
theorem xp0 (F : CallFix p m c cc nL s args lw_all RX0) (hI : xI g ad d A s u H locs) {v : Nat} (hdg : decode cc pc = .ok (.putfield 54, 3)) (kk : ∀ (H : Heap) (locs : List Loc), xI g ad d A s (xs u 0 v) H locs → W p l e R s m args below meth c H locs cells slots Q (F0 m (pc + 3) ls rest)) : W p l e R s m args below meth c H locs cells slots Q (F0 m pc ls (.int (nI v) :: .ref (ad 0) :: rest)) :=
  va_put (D := g) (ci := 0) (v := .int (nI v)) (ty := .int) (C := RX0) (T := TX0) (N := 21) (ref := RX0) F.1 F.2.1 F.2.2.2.2 in_X0 tyX0 tyX0_ok nmX0 F.2.2.2.1 hI.1 hI.2.1 hI.2.2.1 hI.2.2.2 0 rfl rfl 0 (by decide) (F.2.2.2.2 _ q39) (fun _ h9 => h9) rfl (by decide +kernel) rfl rfl (Nat.le_of_ble_eq_true rfl) hdg (fun H locs hP hD hS => kk H locs ⟨hI.1, hP, hD, hS⟩)
theorem xg1 (F : CallFix p m c cc nL s args lw_all RX0) (hI : xI g ad d A s u H locs) (hdg : decode cc pc = .ok (.getfield 7, 3)) (kk : W p l e R s m args below meth c H locs cells slots Q (F0 m (pc + 3) ls (.ref (ad 1) :: rest))) : W p l e R s m args below meth c H locs cells slots Q (F0 m pc ls (.ref (ad 0) :: rest)) :=
  x_get F hI 1 (by decide) q40 rfl rfl hdg kk
theorem xl1 (F : CallFix p m c cc nL s args lw_all RX0) (hI : xI g ad d A s u H locs) {i x : Nat} (hi : i < 32) (hv : u.2.1 1 i = x) (hdg : decode cc pc = .ok (.baload, 1)) (kk : W p l e R s m args below meth c H locs cells slots Q (F0 m (pc + 1) ls (.int (nI x) :: rest))) : W p l e R s m args below meth c H locs cells slots Q (F0 m pc ls (.int (nI i) :: .ref (ad 1) :: rest)) := by
  subst hv
  refine va_bald F.1 F.2.1 hI.1 hI.2.1 1 0 rfl rfl (vp_in_nI hi (by decide)) hdg ?_
  rw [nI_clamp (by omega)]
  exact kk
theorem xt1 (F : CallFix p m c cc nL s args lw_all RX0) (hI : xI g ad d A s u H locs) {i x : Nat} (hi : i < 32) (hx : x < 128) (hdg : decode cc pc = .ok (.bastore, 1)) (kk : ∀ (H : Heap) (locs : List Loc), xI g ad d A s (xn u 1 i x) H locs → W p l e R s m args below meth c H locs cells slots Q (F0 m (pc + 1) ls rest)) : W p l e R s m args below meth c H locs cells slots Q (F0 m pc ls (.int (nI x) :: .int (nI i) :: .ref (ad 1) :: rest)) := by
  refine va_bast F.1 F.2.1 hI.1 hI.2.1 hI.2.2.1 hI.2.2.2 1 0 rfl rfl (vp_in_nI hi (by decide)) hdg (fun H locs hP hD hS => ?_)
  rw [nI_clamp (by omega), vp_nar_byte, n_byte x hx, n_upd] at hP hD
  exact kk H locs ⟨hI.1, hP, hD, hS⟩
theorem xg2 (F : CallFix p m c cc nL s args lw_all RX0) (hI : xI g ad d A s u H locs) (hdg : decode cc pc = .ok (.getfield 13, 3)) (kk : W p l e R s m args below meth c H locs cells slots Q (F0 m (pc + 3) ls (.ref (ad 2) :: rest))) : W p l e R s m args below meth c H locs cells slots Q (F0 m pc ls (.ref (ad 0) :: rest)) :=
  x_get F hI 2 (by decide) q41 rfl rfl hdg kk
theorem xl2 (F : CallFix p m c cc nL s args lw_all RX0) (hI : xI g ad d A s u H locs) {i : Nat} {x : Int32} (hi : i < 32) (hv : u.2.2 2 i = x) (hdg : decode cc pc = .ok (.iaload, 1)) (kk : W p l e R s m args below meth c H locs cells slots Q (F0 m (pc + 1) ls (.int x :: rest))) : W p l e R s m args below meth c H locs cells slots Q (F0 m pc ls (.int (nI i) :: .ref (ad 2) :: rest)) := by
  subst hv
  refine va_iald F.1 F.2.1 hI.1 hI.2.1 2 1 rfl rfl (vp_in_nI hi (by decide)) hdg ?_
  rw [nI_clamp (by omega)]
  exact kk
theorem xt2 (F : CallFix p m c cc nL s args lw_all RX0) (hI : xI g ad d A s u H locs) {i : Nat} {x : Int32} (hi : i < 32) (hdg : decode cc pc = .ok (.iastore, 1)) (kk : ∀ (H : Heap) (locs : List Loc), xI g ad d A s (xz u 2 i x) H locs → W p l e R s m args below meth c H locs cells slots Q (F0 m (pc + 1) ls rest)) : W p l e R s m args below meth c H locs cells slots Q (F0 m pc ls (.int x :: .int (nI i) :: .ref (ad 2) :: rest)) := by
  refine va_iast F.1 F.2.1 hI.1 hI.2.1 hI.2.2.1 hI.2.2.2 2 1 rfl rfl (vp_in_nI hi (by decide)) hdg (fun H locs hP hD hS => ?_)
  rw [nI_clamp (by omega)] at hP hD
  exact kk H locs ⟨hI.1, hP, hD, hS⟩
theorem xg3 (F : CallFix p m c cc nL s args lw_all RX0) (hI : xI g ad d A s u H locs) (hdg : decode cc pc = .ok (.getfield 17, 3)) (kk : W p l e R s m args below meth c H locs cells slots Q (F0 m (pc + 3) ls (.ref (ad 3) :: rest))) : W p l e R s m args below meth c H locs cells slots Q (F0 m pc ls (.ref (ad 0) :: rest)) :=
  x_get F hI 3 (by decide) q42 rfl rfl hdg kk
theorem xl3 (F : CallFix p m c cc nL s args lw_all RX0) (hI : xI g ad d A s u H locs) {i : Nat} {x : Int32} (hi : i < 8) (hv : u.2.2 3 i = x) (hdg : decode cc pc = .ok (.iaload, 1)) (kk : W p l e R s m args below meth c H locs cells slots Q (F0 m (pc + 1) ls (.int x :: rest))) : W p l e R s m args below meth c H locs cells slots Q (F0 m pc ls (.int (nI i) :: .ref (ad 3) :: rest)) := by
  subst hv
  refine va_iald F.1 F.2.1 hI.1 hI.2.1 3 2 rfl rfl (vp_in_nI hi (by decide)) hdg ?_
  rw [nI_clamp (by omega)]
  exact kk
theorem xt3 (F : CallFix p m c cc nL s args lw_all RX0) (hI : xI g ad d A s u H locs) {i : Nat} {x : Int32} (hi : i < 8) (hdg : decode cc pc = .ok (.iastore, 1)) (kk : ∀ (H : Heap) (locs : List Loc), xI g ad d A s (xz u 3 i x) H locs → W p l e R s m args below meth c H locs cells slots Q (F0 m (pc + 1) ls rest)) : W p l e R s m args below meth c H locs cells slots Q (F0 m pc ls (.int x :: .int (nI i) :: .ref (ad 3) :: rest)) := by
  refine va_iast F.1 F.2.1 hI.1 hI.2.1 hI.2.2.1 hI.2.2.2 3 2 rfl rfl (vp_in_nI hi (by decide)) hdg (fun H locs hP hD hS => ?_)
  rw [nI_clamp (by omega)] at hP hD
  exact kk H locs ⟨hI.1, hP, hD, hS⟩
theorem xg4 (F : CallFix p m c cc nL s args lw_all RX0) (hI : xI g ad d A s u H locs) (hdg : decode cc pc = .ok (.getfield 20, 3)) (kk : W p l e R s m args below meth c H locs cells slots Q (F0 m (pc + 3) ls (.ref (ad 4) :: rest))) : W p l e R s m args below meth c H locs cells slots Q (F0 m pc ls (.ref (ad 0) :: rest)) :=
  x_get F hI 4 (by decide) q43 rfl rfl hdg kk
theorem xl4 (F : CallFix p m c cc nL s args lw_all RX0) (hI : xI g ad d A s u H locs) {i : Nat} {x : Int32} (hi : i < 10) (hv : u.2.2 4 i = x) (hdg : decode cc pc = .ok (.iaload, 1)) (kk : W p l e R s m args below meth c H locs cells slots Q (F0 m (pc + 1) ls (.int x :: rest))) : W p l e R s m args below meth c H locs cells slots Q (F0 m pc ls (.int (nI i) :: .ref (ad 4) :: rest)) := by
  subst hv
  refine va_iald F.1 F.2.1 hI.1 hI.2.1 4 3 rfl rfl (vp_in_nI hi (by decide)) hdg ?_
  rw [nI_clamp (by omega)]
  exact kk
theorem xt4 (F : CallFix p m c cc nL s args lw_all RX0) (hI : xI g ad d A s u H locs) {i : Nat} {x : Int32} (hi : i < 10) (hdg : decode cc pc = .ok (.iastore, 1)) (kk : ∀ (H : Heap) (locs : List Loc), xI g ad d A s (xz u 4 i x) H locs → W p l e R s m args below meth c H locs cells slots Q (F0 m (pc + 1) ls rest)) : W p l e R s m args below meth c H locs cells slots Q (F0 m pc ls (.int x :: .int (nI i) :: .ref (ad 4) :: rest)) := by
  refine va_iast F.1 F.2.1 hI.1 hI.2.1 hI.2.2.1 hI.2.2.2 4 3 rfl rfl (vp_in_nI hi (by decide)) hdg (fun H locs hP hD hS => ?_)
  rw [nI_clamp (by omega)] at hP hD
  exact kk H locs ⟨hI.1, hP, hD, hS⟩
theorem xg5 (F : CallFix p m c cc nL s args lw_all RX0) (hI : xI g ad d A s u H locs) {v : Nat} (hv : u.1 5 = v) (hdg : decode cc pc = .ok (.getfield 62, 3)) (kk : W p l e R s m args below meth c H locs cells slots Q (F0 m (pc + 3) ls (.int (nI v) :: rest))) : W p l e R s m args below meth c H locs cells slots Q (F0 m pc ls (.ref (ad 0) :: rest)) := by
  subst hv
  exact x_get F hI 5 (by decide) q44 rfl rfl hdg kk
theorem xp5 (F : CallFix p m c cc nL s args lw_all RX0) (hI : xI g ad d A s u H locs) {v : Nat} (hdg : decode cc pc = .ok (.putfield 62, 3)) (kk : ∀ (H : Heap) (locs : List Loc), xI g ad d A s (xs u 5 v) H locs → W p l e R s m args below meth c H locs cells slots Q (F0 m (pc + 3) ls rest)) : W p l e R s m args below meth c H locs cells slots Q (F0 m pc ls (.int (nI v) :: .ref (ad 0) :: rest)) :=
  va_put (D := g) (ci := 0) (v := .int (nI v)) (ty := .int) (C := RX0) (T := TX0) (N := 21) (ref := RX0) F.1 F.2.1 F.2.2.2.2 in_X0 tyX0 tyX0_ok nmX0 F.2.2.2.1 hI.1 hI.2.1 hI.2.2.1 hI.2.2.2 0 rfl rfl 5 (by decide) (F.2.2.2.2 _ q44) (fun _ h9 => h9) rfl (by decide +kernel) rfl rfl (Nat.le_of_ble_eq_true rfl) hdg (fun H locs hP hD hS => kk H locs ⟨hI.1, hP, hD, hS⟩)
theorem xg6 (F : CallFix p m c cc nL s args lw_all RX0) (hI : xI g ad d A s u H locs) {v : Nat} (hv : u.1 6 = v) (hdg : decode cc pc = .ok (.getfield 65, 3)) (kk : W p l e R s m args below meth c H locs cells slots Q (F0 m (pc + 3) ls (.int (nI v) :: rest))) : W p l e R s m args below meth c H locs cells slots Q (F0 m pc ls (.ref (ad 0) :: rest)) := by
  subst hv
  exact x_get F hI 6 (by decide) q45 rfl rfl hdg kk
theorem xp6 (F : CallFix p m c cc nL s args lw_all RX0) (hI : xI g ad d A s u H locs) {v : Nat} (hdg : decode cc pc = .ok (.putfield 65, 3)) (kk : ∀ (H : Heap) (locs : List Loc), xI g ad d A s (xs u 6 v) H locs → W p l e R s m args below meth c H locs cells slots Q (F0 m (pc + 3) ls rest)) : W p l e R s m args below meth c H locs cells slots Q (F0 m pc ls (.int (nI v) :: .ref (ad 0) :: rest)) :=
  va_put (D := g) (ci := 0) (v := .int (nI v)) (ty := .int) (C := RX0) (T := TX0) (N := 21) (ref := RX0) F.1 F.2.1 F.2.2.2.2 in_X0 tyX0 tyX0_ok nmX0 F.2.2.2.1 hI.1 hI.2.1 hI.2.2.1 hI.2.2.2 0 rfl rfl 6 (by decide) (F.2.2.2.2 _ q45) (fun _ h9 => h9) rfl (by decide +kernel) rfl rfl (Nat.le_of_ble_eq_true rfl) hdg (fun H locs hP hD hS => kk H locs ⟨hI.1, hP, hD, hS⟩)
theorem xg7 (F : CallFix p m c cc nL s args lw_all RX0) (hI : xI g ad d A s u H locs) {v : Nat} (hv : u.1 7 = v) (hdg : decode cc pc = .ok (.getfield 71, 3)) (kk : W p l e R s m args below meth c H locs cells slots Q (F0 m (pc + 3) ls (.int (nI v) :: rest))) : W p l e R s m args below meth c H locs cells slots Q (F0 m pc ls (.ref (ad 0) :: rest)) := by
  subst hv
  exact x_get F hI 7 (by decide) q46 rfl rfl hdg kk
theorem xp7 (F : CallFix p m c cc nL s args lw_all RX0) (hI : xI g ad d A s u H locs) {v : Nat} (hdg : decode cc pc = .ok (.putfield 71, 3)) (kk : ∀ (H : Heap) (locs : List Loc), xI g ad d A s (xs u 7 v) H locs → W p l e R s m args below meth c H locs cells slots Q (F0 m (pc + 3) ls rest)) : W p l e R s m args below meth c H locs cells slots Q (F0 m pc ls (.int (nI v) :: .ref (ad 0) :: rest)) :=
  va_put (D := g) (ci := 0) (v := .int (nI v)) (ty := .int) (C := RX0) (T := TX0) (N := 21) (ref := RX0) F.1 F.2.1 F.2.2.2.2 in_X0 tyX0 tyX0_ok nmX0 F.2.2.2.1 hI.1 hI.2.1 hI.2.2.1 hI.2.2.2 0 rfl rfl 7 (by decide) (F.2.2.2.2 _ q46) (fun _ h9 => h9) rfl (by decide +kernel) rfl rfl (Nat.le_of_ble_eq_true rfl) hdg (fun H locs hP hD hS => kk H locs ⟨hI.1, hP, hD, hS⟩)
theorem xg8 (F : CallFix p m c cc nL s args lw_all RX0) (hI : xI g ad d A s u H locs) {v : Nat} (hv : u.1 8 = v) (hdg : decode cc pc = .ok (.getfield 68, 3)) (kk : W p l e R s m args below meth c H locs cells slots Q (F0 m (pc + 3) ls (.int (nI v) :: rest))) : W p l e R s m args below meth c H locs cells slots Q (F0 m pc ls (.ref (ad 0) :: rest)) := by
  subst hv
  exact x_get F hI 8 (by decide) q47 rfl rfl hdg kk
theorem xp8 (F : CallFix p m c cc nL s args lw_all RX0) (hI : xI g ad d A s u H locs) {v : Nat} (hdg : decode cc pc = .ok (.putfield 68, 3)) (kk : ∀ (H : Heap) (locs : List Loc), xI g ad d A s (xs u 8 v) H locs → W p l e R s m args below meth c H locs cells slots Q (F0 m (pc + 3) ls rest)) : W p l e R s m args below meth c H locs cells slots Q (F0 m pc ls (.int (nI v) :: .ref (ad 0) :: rest)) :=
  va_put (D := g) (ci := 0) (v := .int (nI v)) (ty := .int) (C := RX0) (T := TX0) (N := 21) (ref := RX0) F.1 F.2.1 F.2.2.2.2 in_X0 tyX0 tyX0_ok nmX0 F.2.2.2.1 hI.1 hI.2.1 hI.2.2.1 hI.2.2.2 0 rfl rfl 8 (by decide) (F.2.2.2.2 _ q47) (fun _ h9 => h9) rfl (by decide +kernel) rfl rfl (Nat.le_of_ble_eq_true rfl) hdg (fun H locs hP hD hS => kk H locs ⟨hI.1, hP, hD, hS⟩)
theorem xg9 (F : CallFix p m c cc nL s args lw_all RX0) (hI : xI g ad d A s u H locs) (hdg : decode cc pc = .ok (.getfield 23, 3)) (kk : W p l e R s m args below meth c H locs cells slots Q (F0 m (pc + 3) ls (.ref (ad 9) :: rest))) : W p l e R s m args below meth c H locs cells slots Q (F0 m pc ls (.ref (ad 0) :: rest)) :=
  x_get F hI 9 (by decide) q48 rfl rfl hdg kk
theorem xl9 (F : CallFix p m c cc nL s args lw_all RX0) (hI : xI g ad d A s u H locs) {i : Nat} {x : Int32} (hi : i < 297) (hv : u.2.2 9 i = x) (hdg : decode cc pc = .ok (.saload, 1)) (kk : W p l e R s m args below meth c H locs cells slots Q (F0 m (pc + 1) ls (.int x :: rest))) : W p l e R s m args below meth c H locs cells slots Q (F0 m pc ls (.int (nI i) :: .ref (ad 9) :: rest)) := by
  subst hv
  refine va_sald F.1 F.2.1 hI.1 hI.2.1 5 4 rfl rfl (vp_in_nI hi (by decide)) hdg ?_
  rw [nI_clamp (by omega)]
  exact kk
theorem xt9 (F : CallFix p m c cc nL s args lw_all RX0) (hI : xI g ad d A s u H locs) {i : Nat} {x : Int32} (hi : i < 297) (hx : x.toInt16.toInt32 = x) (hdg : decode cc pc = .ok (.sastore, 1)) (kk : ∀ (H : Heap) (locs : List Loc), xI g ad d A s (xz u 9 i x) H locs → W p l e R s m args below meth c H locs cells slots Q (F0 m (pc + 1) ls rest)) : W p l e R s m args below meth c H locs cells slots Q (F0 m pc ls (.int x :: .int (nI i) :: .ref (ad 9) :: rest)) := by
  refine va_sast F.1 F.2.1 hI.1 hI.2.1 hI.2.2.1 hI.2.2.2 5 4 rfl rfl (vp_in_nI hi (by decide)) hdg (fun H locs hP hD hS => ?_)
  rw [nI_clamp (by omega), vp_nar_short, hx] at hP hD
  exact kk H locs ⟨hI.1, hP, hD, hS⟩
theorem xg10 (F : CallFix p m c cc nL s args lw_all RX0) (hI : xI g ad d A s u H locs) {v : Nat} (hv : u.1 10 = v) (hdg : decode cc pc = .ok (.getfield 99, 3)) (kk : W p l e R s m args below meth c H locs cells slots Q (F0 m (pc + 3) ls (.int (nI v) :: rest))) : W p l e R s m args below meth c H locs cells slots Q (F0 m pc ls (.ref (ad 0) :: rest)) := by
  subst hv
  exact x_get F hI 10 (by decide) q49 rfl rfl hdg kk
theorem xp10 (F : CallFix p m c cc nL s args lw_all RX0) (hI : xI g ad d A s u H locs) {v : Nat} (hdg : decode cc pc = .ok (.putfield 99, 3)) (kk : ∀ (H : Heap) (locs : List Loc), xI g ad d A s (xs u 10 v) H locs → W p l e R s m args below meth c H locs cells slots Q (F0 m (pc + 3) ls rest)) : W p l e R s m args below meth c H locs cells slots Q (F0 m pc ls (.int (nI v) :: .ref (ad 0) :: rest)) :=
  va_put (D := g) (ci := 0) (v := .int (nI v)) (ty := .int) (C := RX0) (T := TX0) (N := 21) (ref := RX0) F.1 F.2.1 F.2.2.2.2 in_X0 tyX0 tyX0_ok nmX0 F.2.2.2.1 hI.1 hI.2.1 hI.2.2.1 hI.2.2.2 0 rfl rfl 10 (by decide) (F.2.2.2.2 _ q49) (fun _ h9 => h9) rfl (by decide +kernel) rfl rfl (Nat.le_of_ble_eq_true rfl) hdg (fun H locs hP hD hS => kk H locs ⟨hI.1, hP, hD, hS⟩)
theorem xg11 (F : CallFix p m c cc nL s args lw_all RX0) (hI : xI g ad d A s u H locs) (hdg : decode cc pc = .ok (.getfield 27, 3)) (kk : W p l e R s m args below meth c H locs cells slots Q (F0 m (pc + 3) ls (.ref (ad 11) :: rest))) : W p l e R s m args below meth c H locs cells slots Q (F0 m pc ls (.ref (ad 0) :: rest)) :=
  x_get F hI 11 (by decide) q50 rfl rfl hdg kk
theorem xl11 (F : CallFix p m c cc nL s args lw_all RX0) (hI : xI g ad d A s u H locs) {i x : Nat} (hi : i < 48) (hv : u.2.1 11 i = x) (hdg : decode cc pc = .ok (.saload, 1)) (kk : W p l e R s m args below meth c H locs cells slots Q (F0 m (pc + 1) ls (.int (nI x) :: rest))) : W p l e R s m args below meth c H locs cells slots Q (F0 m pc ls (.int (nI i) :: .ref (ad 11) :: rest)) := by
  subst hv
  refine va_sald F.1 F.2.1 hI.1 hI.2.1 6 5 rfl rfl (vp_in_nI hi (by decide)) hdg ?_
  rw [nI_clamp (by omega)]
  exact kk
theorem xt11 (F : CallFix p m c cc nL s args lw_all RX0) (hI : xI g ad d A s u H locs) {i x : Nat} (hi : i < 48) (hx : x < 1024) (hdg : decode cc pc = .ok (.sastore, 1)) (kk : ∀ (H : Heap) (locs : List Loc), xI g ad d A s (xn u 11 i x) H locs → W p l e R s m args below meth c H locs cells slots Q (F0 m (pc + 1) ls rest)) : W p l e R s m args below meth c H locs cells slots Q (F0 m pc ls (.int (nI x) :: .int (nI i) :: .ref (ad 11) :: rest)) := by
  refine va_sast F.1 F.2.1 hI.1 hI.2.1 hI.2.2.1 hI.2.2.2 6 5 rfl rfl (vp_in_nI hi (by decide)) hdg (fun H locs hP hD hS => ?_)
  rw [nI_clamp (by omega), vp_nar_short, n_short x hx, n_upd] at hP hD
  exact kk H locs ⟨hI.1, hP, hD, hS⟩
theorem xg12 (F : CallFix p m c cc nL s args lw_all RX0) (hI : xI g ad d A s u H locs) (hdg : decode cc pc = .ok (.getfield 30, 3)) (kk : W p l e R s m args below meth c H locs cells slots Q (F0 m (pc + 3) ls (.ref (ad 12) :: rest))) : W p l e R s m args below meth c H locs cells slots Q (F0 m pc ls (.ref (ad 0) :: rest)) :=
  x_get F hI 12 (by decide) q51 rfl rfl hdg kk
theorem xl12 (F : CallFix p m c cc nL s args lw_all RX0) (hI : xI g ad d A s u H locs) {i x : Nat} (hi : i < 48) (hv : u.2.1 12 i = x) (hdg : decode cc pc = .ok (.baload, 1)) (kk : W p l e R s m args below meth c H locs cells slots Q (F0 m (pc + 1) ls (.int (nI x) :: rest))) : W p l e R s m args below meth c H locs cells slots Q (F0 m pc ls (.int (nI i) :: .ref (ad 12) :: rest)) := by
  subst hv
  refine va_bald F.1 F.2.1 hI.1 hI.2.1 7 6 rfl rfl (vp_in_nI hi (by decide)) hdg ?_
  rw [nI_clamp (by omega)]
  exact kk
theorem xt12 (F : CallFix p m c cc nL s args lw_all RX0) (hI : xI g ad d A s u H locs) {i x : Nat} (hi : i < 48) (hx : x < 128) (hdg : decode cc pc = .ok (.bastore, 1)) (kk : ∀ (H : Heap) (locs : List Loc), xI g ad d A s (xn u 12 i x) H locs → W p l e R s m args below meth c H locs cells slots Q (F0 m (pc + 1) ls rest)) : W p l e R s m args below meth c H locs cells slots Q (F0 m pc ls (.int (nI x) :: .int (nI i) :: .ref (ad 12) :: rest)) := by
  refine va_bast F.1 F.2.1 hI.1 hI.2.1 hI.2.2.1 hI.2.2.2 7 6 rfl rfl (vp_in_nI hi (by decide)) hdg (fun H locs hP hD hS => ?_)
  rw [nI_clamp (by omega), vp_nar_byte, n_byte x hx, n_upd] at hP hD
  exact kk H locs ⟨hI.1, hP, hD, hS⟩
theorem xg13 (F : CallFix p m c cc nL s args lw_all RX0) (hI : xI g ad d A s u H locs) (hdg : decode cc pc = .ok (.getfield 33, 3)) (kk : W p l e R s m args below meth c H locs cells slots Q (F0 m (pc + 3) ls (.ref (ad 13) :: rest))) : W p l e R s m args below meth c H locs cells slots Q (F0 m pc ls (.ref (ad 0) :: rest)) :=
  x_get F hI 13 (by decide) q52 rfl rfl hdg kk
theorem xl13 (F : CallFix p m c cc nL s args lw_all RX0) (hI : xI g ad d A s u H locs) {i x : Nat} (hi : i < 48) (hv : u.2.1 13 i = x) (hdg : decode cc pc = .ok (.baload, 1)) (kk : W p l e R s m args below meth c H locs cells slots Q (F0 m (pc + 1) ls (.int (nI x) :: rest))) : W p l e R s m args below meth c H locs cells slots Q (F0 m pc ls (.int (nI i) :: .ref (ad 13) :: rest)) := by
  subst hv
  refine va_bald F.1 F.2.1 hI.1 hI.2.1 8 7 rfl rfl (vp_in_nI hi (by decide)) hdg ?_
  rw [nI_clamp (by omega)]
  exact kk
theorem xt13 (F : CallFix p m c cc nL s args lw_all RX0) (hI : xI g ad d A s u H locs) {i x : Nat} (hi : i < 48) (hx : x < 128) (hdg : decode cc pc = .ok (.bastore, 1)) (kk : ∀ (H : Heap) (locs : List Loc), xI g ad d A s (xn u 13 i x) H locs → W p l e R s m args below meth c H locs cells slots Q (F0 m (pc + 1) ls rest)) : W p l e R s m args below meth c H locs cells slots Q (F0 m pc ls (.int (nI x) :: .int (nI i) :: .ref (ad 13) :: rest)) := by
  refine va_bast F.1 F.2.1 hI.1 hI.2.1 hI.2.2.1 hI.2.2.2 8 7 rfl rfl (vp_in_nI hi (by decide)) hdg (fun H locs hP hD hS => ?_)
  rw [nI_clamp (by omega), vp_nar_byte, n_byte x hx, n_upd] at hP hD
  exact kk H locs ⟨hI.1, hP, hD, hS⟩
theorem xg14 (F : CallFix p m c cc nL s args lw_all RX0) (hI : xI g ad d A s u H locs) {v : Nat} (hv : u.1 14 = v) (hdg : decode cc pc = .ok (.getfield 102, 3)) (kk : W p l e R s m args below meth c H locs cells slots Q (F0 m (pc + 3) ls (.int (nI v) :: rest))) : W p l e R s m args below meth c H locs cells slots Q (F0 m pc ls (.ref (ad 0) :: rest)) := by
  subst hv
  exact x_get F hI 14 (by decide) q53 rfl rfl hdg kk
theorem xp14 (F : CallFix p m c cc nL s args lw_all RX0) (hI : xI g ad d A s u H locs) {v : Nat} (hdg : decode cc pc = .ok (.putfield 102, 3)) (kk : ∀ (H : Heap) (locs : List Loc), xI g ad d A s (xs u 14 v) H locs → W p l e R s m args below meth c H locs cells slots Q (F0 m (pc + 3) ls rest)) : W p l e R s m args below meth c H locs cells slots Q (F0 m pc ls (.int (nI v) :: .ref (ad 0) :: rest)) :=
  va_put (D := g) (ci := 0) (v := .int (nI v)) (ty := .int) (C := RX0) (T := TX0) (N := 21) (ref := RX0) F.1 F.2.1 F.2.2.2.2 in_X0 tyX0 tyX0_ok nmX0 F.2.2.2.1 hI.1 hI.2.1 hI.2.2.1 hI.2.2.2 0 rfl rfl 14 (by decide) (F.2.2.2.2 _ q53) (fun _ h9 => h9) rfl (by decide +kernel) rfl rfl (Nat.le_of_ble_eq_true rfl) hdg (fun H locs hP hD hS => kk H locs ⟨hI.1, hP, hD, hS⟩)
theorem xg15 (F : CallFix p m c cc nL s args lw_all RX0) (hI : xI g ad d A s u H locs) (hdg : decode cc pc = .ok (.getfield 36, 3)) (kk : W p l e R s m args below meth c H locs cells slots Q (F0 m (pc + 3) ls (.ref (ad 15) :: rest))) : W p l e R s m args below meth c H locs cells slots Q (F0 m pc ls (.ref (ad 0) :: rest)) :=
  x_get F hI 15 (by decide) q54 rfl rfl hdg kk
theorem xl15 (F : CallFix p m c cc nL s args lw_all RX0) (hI : xI g ad d A s u H locs) {i x : Nat} (hi : i < 640) (hv : u.2.1 15 i = x) (hdg : decode cc pc = .ok (.baload, 1)) (kk : W p l e R s m args below meth c H locs cells slots Q (F0 m (pc + 1) ls (.int (nI x) :: rest))) : W p l e R s m args below meth c H locs cells slots Q (F0 m pc ls (.int (nI i) :: .ref (ad 15) :: rest)) := by
  subst hv
  refine va_bald F.1 F.2.1 hI.1 hI.2.1 9 8 rfl rfl (vp_in_nI hi (by decide)) hdg ?_
  rw [nI_clamp (by omega)]
  exact kk
theorem xt15 (F : CallFix p m c cc nL s args lw_all RX0) (hI : xI g ad d A s u H locs) {i x : Nat} (hi : i < 640) (hx : x < 128) (hdg : decode cc pc = .ok (.bastore, 1)) (kk : ∀ (H : Heap) (locs : List Loc), xI g ad d A s (xn u 15 i x) H locs → W p l e R s m args below meth c H locs cells slots Q (F0 m (pc + 1) ls rest)) : W p l e R s m args below meth c H locs cells slots Q (F0 m pc ls (.int (nI x) :: .int (nI i) :: .ref (ad 15) :: rest)) := by
  refine va_bast F.1 F.2.1 hI.1 hI.2.1 hI.2.2.1 hI.2.2.2 9 8 rfl rfl (vp_in_nI hi (by decide)) hdg (fun H locs hP hD hS => ?_)
  rw [nI_clamp (by omega), vp_nar_byte, n_byte x hx, n_upd] at hP hD
  exact kk H locs ⟨hI.1, hP, hD, hS⟩
theorem xg16 (F : CallFix p m c cc nL s args lw_all RX0) (hI : xI g ad d A s u H locs) (hdg : decode cc pc = .ok (.getfield 39, 3)) (kk : W p l e R s m args below meth c H locs cells slots Q (F0 m (pc + 3) ls (.ref (ad 16) :: rest))) : W p l e R s m args below meth c H locs cells slots Q (F0 m pc ls (.ref (ad 0) :: rest)) :=
  x_get F hI 16 (by decide) q55 rfl rfl hdg kk
theorem xl16 (F : CallFix p m c cc nL s args lw_all RX0) (hI : xI g ad d A s u H locs) {i x : Nat} (hi : i < 640) (hv : u.2.1 16 i = x) (hdg : decode cc pc = .ok (.baload, 1)) (kk : W p l e R s m args below meth c H locs cells slots Q (F0 m (pc + 1) ls (.int (nI x) :: rest))) : W p l e R s m args below meth c H locs cells slots Q (F0 m pc ls (.int (nI i) :: .ref (ad 16) :: rest)) := by
  subst hv
  refine va_bald F.1 F.2.1 hI.1 hI.2.1 10 9 rfl rfl (vp_in_nI hi (by decide)) hdg ?_
  rw [nI_clamp (by omega)]
  exact kk
theorem xt16 (F : CallFix p m c cc nL s args lw_all RX0) (hI : xI g ad d A s u H locs) {i x : Nat} (hi : i < 640) (hx : x < 128) (hdg : decode cc pc = .ok (.bastore, 1)) (kk : ∀ (H : Heap) (locs : List Loc), xI g ad d A s (xn u 16 i x) H locs → W p l e R s m args below meth c H locs cells slots Q (F0 m (pc + 1) ls rest)) : W p l e R s m args below meth c H locs cells slots Q (F0 m pc ls (.int (nI x) :: .int (nI i) :: .ref (ad 16) :: rest)) := by
  refine va_bast F.1 F.2.1 hI.1 hI.2.1 hI.2.2.1 hI.2.2.2 10 9 rfl rfl (vp_in_nI hi (by decide)) hdg (fun H locs hP hD hS => ?_)
  rw [nI_clamp (by omega), vp_nar_byte, n_byte x hx, n_upd] at hP hD
  exact kk H locs ⟨hI.1, hP, hD, hS⟩
theorem xg17 (F : CallFix p m c cc nL s args lw_all RX0) (hI : xI g ad d A s u H locs) (hdg : decode cc pc = .ok (.getfield 42, 3)) (kk : W p l e R s m args below meth c H locs cells slots Q (F0 m (pc + 3) ls (.ref (ad 17) :: rest))) : W p l e R s m args below meth c H locs cells slots Q (F0 m pc ls (.ref (ad 0) :: rest)) :=
  x_get F hI 17 (by decide) q56 rfl rfl hdg kk
theorem xl17 (F : CallFix p m c cc nL s args lw_all RX0) (hI : xI g ad d A s u H locs) {i x : Nat} (hi : i < 640) (hv : u.2.1 17 i = x) (hdg : decode cc pc = .ok (.baload, 1)) (kk : W p l e R s m args below meth c H locs cells slots Q (F0 m (pc + 1) ls (.int (nI x) :: rest))) : W p l e R s m args below meth c H locs cells slots Q (F0 m pc ls (.int (nI i) :: .ref (ad 17) :: rest)) := by
  subst hv
  refine va_bald F.1 F.2.1 hI.1 hI.2.1 11 10 rfl rfl (vp_in_nI hi (by decide)) hdg ?_
  rw [nI_clamp (by omega)]
  exact kk
theorem xt17 (F : CallFix p m c cc nL s args lw_all RX0) (hI : xI g ad d A s u H locs) {i x : Nat} (hi : i < 640) (hx : x < 128) (hdg : decode cc pc = .ok (.bastore, 1)) (kk : ∀ (H : Heap) (locs : List Loc), xI g ad d A s (xn u 17 i x) H locs → W p l e R s m args below meth c H locs cells slots Q (F0 m (pc + 1) ls rest)) : W p l e R s m args below meth c H locs cells slots Q (F0 m pc ls (.int (nI x) :: .int (nI i) :: .ref (ad 17) :: rest)) := by
  refine va_bast F.1 F.2.1 hI.1 hI.2.1 hI.2.2.1 hI.2.2.2 11 10 rfl rfl (vp_in_nI hi (by decide)) hdg (fun H locs hP hD hS => ?_)
  rw [nI_clamp (by omega), vp_nar_byte, n_byte x hx, n_upd] at hP hD
  exact kk H locs ⟨hI.1, hP, hD, hS⟩
theorem xg18 (F : CallFix p m c cc nL s args lw_all RX0) (hI : xI g ad d A s u H locs) (hdg : decode cc pc = .ok (.getfield 45, 3)) (kk : W p l e R s m args below meth c H locs cells slots Q (F0 m (pc + 3) ls (.ref (ad 18) :: rest))) : W p l e R s m args below meth c H locs cells slots Q (F0 m pc ls (.ref (ad 0) :: rest)) :=
  x_get F hI 18 (by decide) q57 rfl rfl hdg kk
theorem xl18 (F : CallFix p m c cc nL s args lw_all RX0) (hI : xI g ad d A s u H locs) {i : Nat} {x : Int32} (hi : i < 640) (hv : u.2.2 18 i = x) (hdg : decode cc pc = .ok (.iaload, 1)) (kk : W p l e R s m args below meth c H locs cells slots Q (F0 m (pc + 1) ls (.int x :: rest))) : W p l e R s m args below meth c H locs cells slots Q (F0 m pc ls (.int (nI i) :: .ref (ad 18) :: rest)) := by
  subst hv
  refine va_iald F.1 F.2.1 hI.1 hI.2.1 12 11 rfl rfl (vp_in_nI hi (by decide)) hdg ?_
  rw [nI_clamp (by omega)]
  exact kk
theorem xt18 (F : CallFix p m c cc nL s args lw_all RX0) (hI : xI g ad d A s u H locs) {i : Nat} {x : Int32} (hi : i < 640) (hdg : decode cc pc = .ok (.iastore, 1)) (kk : ∀ (H : Heap) (locs : List Loc), xI g ad d A s (xz u 18 i x) H locs → W p l e R s m args below meth c H locs cells slots Q (F0 m (pc + 1) ls rest)) : W p l e R s m args below meth c H locs cells slots Q (F0 m pc ls (.int x :: .int (nI i) :: .ref (ad 18) :: rest)) := by
  refine va_iast F.1 F.2.1 hI.1 hI.2.1 hI.2.2.1 hI.2.2.2 12 11 rfl rfl (vp_in_nI hi (by decide)) hdg (fun H locs hP hD hS => ?_)
  rw [nI_clamp (by omega)] at hP hD
  exact kk H locs ⟨hI.1, hP, hD, hS⟩
theorem xg19 (F : CallFix p m c cc nL s args lw_all RX0) (hI : xI g ad d A s u H locs) {v : Nat} (hv : u.1 19 = v) (hdg : decode cc pc = .ok (.getfield 109, 3)) (kk : W p l e R s m args below meth c H locs cells slots Q (F0 m (pc + 3) ls (.int (nI v) :: rest))) : W p l e R s m args below meth c H locs cells slots Q (F0 m pc ls (.ref (ad 0) :: rest)) := by
  subst hv
  exact x_get F hI 19 (by decide) q58 rfl rfl hdg kk
theorem xp19 (F : CallFix p m c cc nL s args lw_all RX0) (hI : xI g ad d A s u H locs) {v : Nat} (hdg : decode cc pc = .ok (.putfield 109, 3)) (kk : ∀ (H : Heap) (locs : List Loc), xI g ad d A s (xs u 19 v) H locs → W p l e R s m args below meth c H locs cells slots Q (F0 m (pc + 3) ls rest)) : W p l e R s m args below meth c H locs cells slots Q (F0 m pc ls (.int (nI v) :: .ref (ad 0) :: rest)) :=
  va_put (D := g) (ci := 0) (v := .int (nI v)) (ty := .int) (C := RX0) (T := TX0) (N := 21) (ref := RX0) F.1 F.2.1 F.2.2.2.2 in_X0 tyX0 tyX0_ok nmX0 F.2.2.2.1 hI.1 hI.2.1 hI.2.2.1 hI.2.2.2 0 rfl rfl 19 (by decide) (F.2.2.2.2 _ q58) (fun _ h9 => h9) rfl (by decide +kernel) rfl rfl (Nat.le_of_ble_eq_true rfl) hdg (fun H locs hP hD hS => kk H locs ⟨hI.1, hP, hD, hS⟩)
theorem xg20 (F : CallFix p m c cc nL s args lw_all RX0) (hI : xI g ad d A s u H locs) (hdg : decode cc pc = .ok (.getfield 48, 3)) (kk : W p l e R s m args below meth c H locs cells slots Q (F0 m (pc + 3) ls (.ref (ad 20) :: rest))) : W p l e R s m args below meth c H locs cells slots Q (F0 m pc ls (.ref (ad 0) :: rest)) :=
  x_get F hI 20 (by decide) q59 rfl rfl hdg kk
theorem xl20 (F : CallFix p m c cc nL s args lw_all RX0) (hI : xI g ad d A s u H locs) {i x : Nat} (hi : i < 8) (hv : u.2.1 20 i = x) (hdg : decode cc pc = .ok (.baload, 1)) (kk : W p l e R s m args below meth c H locs cells slots Q (F0 m (pc + 1) ls (.int (nI x) :: rest))) : W p l e R s m args below meth c H locs cells slots Q (F0 m pc ls (.int (nI i) :: .ref (ad 20) :: rest)) := by
  subst hv
  refine va_bald F.1 F.2.1 hI.1 hI.2.1 13 12 rfl rfl (vp_in_nI hi (by decide)) hdg ?_
  rw [nI_clamp (by omega)]
  exact kk
theorem xt20 (F : CallFix p m c cc nL s args lw_all RX0) (hI : xI g ad d A s u H locs) {i x : Nat} (hi : i < 8) (hx : x < 128) (hdg : decode cc pc = .ok (.bastore, 1)) (kk : ∀ (H : Heap) (locs : List Loc), xI g ad d A s (xn u 20 i x) H locs → W p l e R s m args below meth c H locs cells slots Q (F0 m (pc + 1) ls rest)) : W p l e R s m args below meth c H locs cells slots Q (F0 m pc ls (.int (nI x) :: .int (nI i) :: .ref (ad 20) :: rest)) := by
  refine va_bast F.1 F.2.1 hI.1 hI.2.1 hI.2.2.1 hI.2.2.2 13 12 rfl rfl (vp_in_nI hi (by decide)) hdg (fun H locs hP hD hS => ?_)
  rw [nI_clamp (by omega), vp_nar_byte, n_byte x hx, n_upd] at hP hD
  exact kk H locs ⟨hI.1, hP, hD, hS⟩
theorem x_met {y : MethodName} {maxL : Nat} {ret : Option FieldType} {rm : Room} {av : List Value} {Qc : Array Value → State → Outcome → State → Prop} {mc ms : Nat} (hy : plainName y.cls = true) (hyc : y.cls = RX0) (hlen : (lg_sl (.ref (ad 0) :: av)).length ≤ maxL)
    (body : ∀ (p : Program) (e : Env) (s : State) (m : MethodId) (below : List Frame) (meth : Method) (c : Code) (ls : Array Slot), CallFix p m c cc maxL s (.ref (ad 0) :: av : List Value).toArray lw_all RX0 → meth.sig.returnType = ret → meth.locks = false → xI g ad d A s u s.heap [] → lv_has ls maxL (lv_args 0 (.ref (ad 0) :: av)) →
      W p l e rm s m (.ref (ad 0) :: av : List Value).toArray below meth c s.heap [] 0 0 (MQ below Qc (.ref (ad 0) :: av : List Value).toArray s mc ms A) (F0 m 0 ls [])) : Met l y (ws_ y cc maxL ret) rm (xPc g ad d A u av) Qc mc ms A := by
  refine Met.ofW (cc := cc) (maxL := maxL) (ret := ret) hy rfl ?_
  intro p e s m args below meth c s₁ B hml hv
  obtain ⟨rfl, hK, hP, hD⟩ := hv
  have hts := atoms_spec (ws := ws_ y cc maxL ret) B.pre
  have hts : ∀ w ∈ lw_all, w.before _ s = true := fun w h => hts w (List.mem_cons_of_mem _ h)
  have hown : s.vm.findClass RX0 = some m.cls := hyc ▸ findClass_of_methodNamed B.named
  have hl := lv_entry (.ref (ad 0) :: av) (n := maxL) hlen
  rw [lg_entry_eq]
  exact body p e s m below meth c _ ⟨B.exec, B.bytes, hml, hown, hts⟩ B.returns B.notSynchronized ⟨hK, hP, hD, va_S.rf⟩ hl
theorem x_end {t : State} (hI : xI g ad d A s u H locs) (ht : t.heap = H) (hW : s.WarmedH t.vm) : xB g ad d A u t := ⟨va_K.moved hW.alike hI.1, by rw [ht]; exact hI.2.1, hI.2.2.1⟩
theorem x_reti (F : CallFix p m c cc nL s args lw_all own) (hr : meth.sig.returnType = some .int) (hlk : meth.locks = false) (hI : xI g ad d A s u H locs) {post : Int32 → XS → Prop} {v : Int32} (hp : post v u) (hdg : decode cc pc = .ok (.ireturn, 1)) : W p l e R s m args below meth c H locs cells slots (MQ below (xQi g ad d A post) args s cells slots A) (F0 m pc ls [.int v]) :=
  W.iret F.1 F.2.1 hr (fun t ht hW => ⟨⟨v, u, rfl, hp, x_end hI ht hW⟩, hI.2.2.2.F ht⟩) hI.2.2.2.2.2 hdg hlk
theorem x_retz (F : CallFix p m c cc nL s args lw_all own) (hr : meth.sig.returnType = some .boolean) (hlk : meth.locks = false) (hI : xI g ad d A s u H locs) {post : Int32 → XS → Prop} {v : Int32} (hn : narrow .boolean (.int v) = .int v) (hp : post v u) (hdg : decode cc pc = .ok (.ireturn, 1)) : W p l e R s m args below meth c H locs cells slots (MQ below (xQi g ad d A post) args s cells slots A) (F0 m pc ls [.int v]) :=
  W.zret F.1 F.2.1 hr hn (fun t ht hW => ⟨⟨v, u, rfl, hp, x_end hI ht hW⟩, hI.2.2.2.F ht⟩) hI.2.2.2.2.2 hdg hlk
theorem x_retv (F : CallFix p m c cc nL s args lw_all own) (hr : meth.sig.returnType = none) (hlk : meth.locks = false) (hI : xI g ad d A s u H locs) {post : XS → Prop} (hp : post u) (hdg : decode cc pc = .ok (.return_, 1)) : W p l e R s m args below meth c H locs cells slots (MQ below (xQv g ad d A post) args s cells slots A) (F0 m pc ls []) :=
  W.vret F.1 F.2.1 hr (fun t ht hW => ⟨⟨u, rfl, hp, x_end hI ht hW⟩, hI.2.2.2.F ht⟩) hI.2.2.2.2.2 hdg hlk
theorem x_pre (hI : xI g ad d A s u H locs) (av : List Value) : PreV s H RX0 (ad 0) (xPc g ad d A u av) av :=
  ⟨fun a U g mk q => ⟨q.1, va_K.moved (u := U) (U := U.calling g mk a) (Vm.Alike.refl U.vm) q.2.1, q.2.2.1, q.2.2.2⟩, va_recv hI.1 hI.2.1 (ci := 0) (q0 := 0) (q := (RX0, TX0, 21)) rfl rfl, fun U hU hW => ⟨rfl, va_K.moved hW.alike hI.1, by rw [hU]; exact hI.2.1, hI.2.2.1⟩⟩
theorem x_callv (F : CallFix p m c cc nL s args lw_all own) (hI : xI g ad d A s u H locs) {y : MethodName} {b : ByteArray} {L idx n : Nat} {rm : Room} {av : List Value} {post : XS → Prop} (hM : Met l y (ws_ y b L none) rm (xPc g ad d A u av) (xQv g ad d A post) 0 0 A)
    (hw : GoodIn lw_all (wsV own idx RX0 y (ws_ y b L none))) (hd : y.cls = RX0 ∧ y.cls ≠ "java/lang/invoke/MethodHandle" ∧ y.cls ≠ "java/lang/invoke/VarHandle" ∧ (parseMethodDescriptor y.desc).map (fun d => d.parameters.length) = some n) (hR : rm.frames + 1 ≤ R.frames ∧ 8 + (L + 11) + rm.locals ≤ R.locals) (hz : rm.cells = 0 ∧ rm.slots = 0) (hc : cells ≤ R.cells ∧ slots ≤ R.slots) {st : List Value} (hn : av.length = n) (hls : ls.size = nL) (hst : st = av.reverse ++ .ref (ad 0) :: rest) (hrest : (rest.map fun v => v.category).sum ≤ 8) (hdg : decode cc pc = .ok (.invokevirtual idx, 3))
    (kk : ∀ (u2 : XS) (H : Heap) (locs : List Loc), post u2 → xI g ad d A s u2 H locs → W p l e R s m args below meth c H locs cells slots Q (F0 m (pc + 3) ls rest)) : W p l e R s m args below meth c H locs cells slots Q (F0 m pc ls st) :=
  va_callv (va_runV F hM (cwV n F.2.2.2.2 hw rfl hz.1 hz.2 hd hR) (x_pre hI av) rfl hn hls hst (lv_room hrest) hdg hc) hI.2.2.2 (fun _ _ h => h) (fun _ h => h) (fun u2 t H1 locs1 ht hvm hp hB hz1 hk1 hS => kk u2 H1 locs1 hp ⟨va_K.moved hvm.symm hB.1, by rw [← ht]; exact hB.2.1, hB.2.2, hS⟩)
theorem x_calli (F : CallFix p m c cc nL s args lw_all own) (hI : xI g ad d A s u H locs) {y : MethodName} {b : ByteArray} {L idx n : Nat} {ret : Option FieldType} {rm : Room} {av : List Value} {post : Int32 → XS → Prop} (hM : Met l y (ws_ y b L ret) rm (xPc g ad d A u av) (xQi g ad d A post) 0 0 A)
    (hw : GoodIn lw_all (wsV own idx RX0 y (ws_ y b L ret))) (hd : y.cls = RX0 ∧ y.cls ≠ "java/lang/invoke/MethodHandle" ∧ y.cls ≠ "java/lang/invoke/VarHandle" ∧ (parseMethodDescriptor y.desc).map (fun d => d.parameters.length) = some n) (hR : rm.frames + 1 ≤ R.frames ∧ 8 + (L + 11) + rm.locals ≤ R.locals) (hz : rm.cells = 0 ∧ rm.slots = 0) (hc : cells ≤ R.cells ∧ slots ≤ R.slots) {st : List Value} (hn : av.length = n) (hls : ls.size = nL) (hst : st = av.reverse ++ .ref (ad 0) :: rest) (hrest : (rest.map fun v => v.category).sum ≤ 8) (hdg : decode cc pc = .ok (.invokevirtual idx, 3))
    (kk : ∀ (r : Int32) (u2 : XS) (H : Heap) (locs : List Loc), post r u2 → xI g ad d A s u2 H locs → W p l e R s m args below meth c H locs cells slots Q (F0 m (pc + 3) ls (.int r :: rest))) : W p l e R s m args below meth c H locs cells slots Q (F0 m pc ls st) :=
  va_calli (va_runV F hM (cwV n F.2.2.2.2 hw rfl hz.1 hz.2 hd hR) (x_pre hI av) rfl hn hls hst (lv_room hrest) hdg hc) hI.2.2.2 (fun _ _ h => h) (fun _ h => h) (fun r u2 t H1 locs1 ht hvm hp hB hz1 hk1 hS => kk r u2 H1 locs1 hp ⟨va_K.moved hvm.symm hB.1, by rw [← ht]; exact hB.2.1, hB.2.2, hS⟩)
end XR
end
section
set_option maxRecDepth 100000
def mF (ad : Nat → Nat) (u : XS) : List Value := [.int (nI (u.1 0)), .ref (ad 1), .ref (ad 2), .ref (ad 3), .int (nI (u.1 4)), .ref (ad 5), .int (nI (u.1 6)), .int (nI (u.1 7)), .int (nI (u.1 8))]
def mW (ad : Nat → Nat) (d : Nat → ClassId) (u : XS) : va_W := [(ad 0, .inr (1, mF ad u)), (ad 1, .inl (d 1, 32, .inl (fun i => nI (u.2.1 1 i)))), (ad 2, .inl (d 2, 32, .inl (u.2.2 2))), (ad 3, .inl (d 3, 8, .inl (u.2.2 3))), (ad 5, .inl (d 5, 8, .inl (u.2.2 5)))]
def mT (d : Nat → ClassId) : List (ClassId × FieldType) := [(d 1, .int), (d 2, .int), (d 3, .int), (d 5, .int)]
def mI (g : va_G) (ad : Nat → Nat) (d : Nat → ClassId) (A : Nat → Prop) (s : State) (u : XS) (H : Heap) (locs : List Loc) : Prop := va_K g vwCl (mT d) s ∧ va_P g vwCl (mW ad d u) H ∧ va_D A (mW ad d u) ∧ va_S A s.heap H locs
def mB (g : va_G) (ad : Nat → Nat) (d : Nat → ClassId) (A : Nat → Prop) (u : XS) (t : State) : Prop := va_K g vwCl (mT d) t ∧ va_P g vwCl (mW ad d u) t.heap ∧ va_D A (mW ad d u)
def mPc (g : va_G) (ad : Nat → Nat) (d : Nat → ClassId) (A : Nat → Prop) (u : XS) (av : List Value) : Array Value → State → Prop := va_Pc (.ref (ad 0) :: av) (mB g ad d A u)
def mQv (g : va_G) (ad : Nat → Nat) (d : Nat → ClassId) (A : Nat → Prop) (post : XS → Prop) : Array Value → State → Outcome → State → Prop := va_Qv post (mB g ad d A) A
def mQi (g : va_G) (ad : Nat → Nat) (d : Nat → ClassId) (A : Nat → Prop) (post : Int32 → XS → Prop) : Array Value → State → Outcome → State → Prop := va_Qi post (mB g ad d A) A
section MR
variable {p : Program} {l : Launch} {e : Env} {R : Room} {s : State} {m : MethodId} {args : Array Value} {below : List Frame} {meth : Method} {c : Code} {H : Heap} {locs : List Loc} {cells slots : Nat} {Q : State → Prop}
variable {cc : ByteArray} {nL pc : Nat} {ls : Array Slot} {rest : List Value} {own : String} {Ts : List Cond}
variable {g : va_G} {ad : Nat → Nat} {d : Nat → ClassId} {A : Nat → Prop} {u : XS}
theorem m_get (F : CallFix p m c cc nL s args lw_all RX1) (hI : mI g ad d A s u H locs) (k : Nat) (hk : k < 9) {idx : Nat} (hq : Cond.fieldLink RX1 idx RX1 (TX1 k).2.1 (TX1 k).2.2.1 ∈ lw_all) (hT : (TX1 k).1 = RX1) {v : Value} (hv : (mF ad u)[k]? = some v) (hdg : decode cc pc = .ok (.getfield idx, 3)) (kk : W p l e R s m args below meth c H locs cells slots Q (F0 m (pc + 3) ls (v :: rest))) : W p l e R s m args below meth c H locs cells slots Q (F0 m pc ls (.ref (ad 0) :: rest)) :=
  va_get (D := g) (ci := 1) (v := v) (C := RX1) (T := TX1) (N := 9) (ref := RX1) F.1 F.2.1 F.2.2.2.2 in_X1 F.2.2.2.1 hI.1 hI.2.1 0 rfl rfl k hk (F.2.2.2.2 _ hq) (fun _ h9 => by rw [hT] at h9; exact h9) hv hdg kk
theorem mg0 (F : CallFix p m c cc nL s args lw_all RX1) (hI : mI g ad d A s u H locs) {v : Nat} (hv : u.1 0 = v) (hdg : decode cc pc = .ok (.getfield 7, 3)) (kk : W p l e R s m args below meth c H locs cells slots Q (F0 m (pc + 3) ls (.int (nI v) :: rest))) : W p l e R s m args below meth c H locs cells slots Q (F0 m pc ls (.ref (ad 0) :: rest)) := by
  subst hv
  exact m_get F hI 0 (by decide) q216 rfl rfl hdg kk
theorem mp0 (F : CallFix p m c cc nL s args lw_all RX1) (hI : mI g ad d A s u H locs) {v : Nat} (hdg : decode cc pc = .ok (.putfield 7, 3)) (kk : ∀ (H : Heap) (locs : List Loc), mI g ad d A s (xs u 0 v) H locs → W p l e R s m args below meth c H locs cells slots Q (F0 m (pc + 3) ls rest)) : W p l e R s m args below meth c H locs cells slots Q (F0 m pc ls (.int (nI v) :: .ref (ad 0) :: rest)) :=
  va_put (D := g) (ci := 1) (v := .int (nI v)) (ty := .int) (C := RX1) (T := TX1) (N := 9) (ref := RX1) F.1 F.2.1 F.2.2.2.2 in_X1 tyX1 tyX1_ok nmX1 F.2.2.2.1 hI.1 hI.2.1 hI.2.2.1 hI.2.2.2 0 rfl rfl 0 (by decide) (F.2.2.2.2 _ q216) (fun _ h9 => h9) rfl (by decide +kernel) rfl rfl (Nat.le_of_ble_eq_true rfl) hdg (fun H locs hP hD hS => kk H locs ⟨hI.1, hP, hD, hS⟩)
theorem mg1 (F : CallFix p m c cc nL s args lw_all RX1) (hI : mI g ad d A s u H locs) (hdg : decode cc pc = .ok (.getfield 13, 3)) (kk : W p l e R s m args below meth c H locs cells slots Q (F0 m (pc + 3) ls (.ref (ad 1) :: rest))) : W p l e R s m args below meth c H locs cells slots Q (F0 m pc ls (.ref (ad 0) :: rest)) :=
  m_get F hI 1 (by decide) q217 rfl rfl hdg kk
theorem ml1 (F : CallFix p m c cc nL s args lw_all RX1) (hI : mI g ad d A s u H locs) {i x : Nat} (hi : i < 32) (hv : u.2.1 1 i = x) (hdg : decode cc pc = .ok (.iaload, 1)) (kk : W p l e R s m args below meth c H locs cells slots Q (F0 m (pc + 1) ls (.int (nI x) :: rest))) : W p l e R s m args below meth c H locs cells slots Q (F0 m pc ls (.int (nI i) :: .ref (ad 1) :: rest)) := by
  subst hv
  refine va_iald F.1 F.2.1 hI.1 hI.2.1 1 0 rfl rfl (vp_in_nI hi (by decide)) hdg ?_
  rw [nI_clamp (by omega)]
  exact kk
theorem mt1 (F : CallFix p m c cc nL s args lw_all RX1) (hI : mI g ad d A s u H locs) {i x : Nat} (hi : i < 32) (hdg : decode cc pc = .ok (.iastore, 1)) (kk : ∀ (H : Heap) (locs : List Loc), mI g ad d A s (xn u 1 i x) H locs → W p l e R s m args below meth c H locs cells slots Q (F0 m (pc + 1) ls rest)) : W p l e R s m args below meth c H locs cells slots Q (F0 m pc ls (.int (nI x) :: .int (nI i) :: .ref (ad 1) :: rest)) := by
  refine va_iast F.1 F.2.1 hI.1 hI.2.1 hI.2.2.1 hI.2.2.2 1 0 rfl rfl (vp_in_nI hi (by decide)) hdg (fun H locs hP hD hS => ?_)
  rw [nI_clamp (by omega), n_upd] at hP hD
  exact kk H locs ⟨hI.1, hP, hD, hS⟩
theorem mg2 (F : CallFix p m c cc nL s args lw_all RX1) (hI : mI g ad d A s u H locs) (hdg : decode cc pc = .ok (.getfield 17, 3)) (kk : W p l e R s m args below meth c H locs cells slots Q (F0 m (pc + 3) ls (.ref (ad 2) :: rest))) : W p l e R s m args below meth c H locs cells slots Q (F0 m pc ls (.ref (ad 0) :: rest)) :=
  m_get F hI 2 (by decide) q218 rfl rfl hdg kk
theorem ml2 (F : CallFix p m c cc nL s args lw_all RX1) (hI : mI g ad d A s u H locs) {i : Nat} {x : Int32} (hi : i < 32) (hv : u.2.2 2 i = x) (hdg : decode cc pc = .ok (.iaload, 1)) (kk : W p l e R s m args below meth c H locs cells slots Q (F0 m (pc + 1) ls (.int x :: rest))) : W p l e R s m args below meth c H locs cells slots Q (F0 m pc ls (.int (nI i) :: .ref (ad 2) :: rest)) := by
  subst hv
  refine va_iald F.1 F.2.1 hI.1 hI.2.1 2 1 rfl rfl (vp_in_nI hi (by decide)) hdg ?_
  rw [nI_clamp (by omega)]
  exact kk
theorem mt2 (F : CallFix p m c cc nL s args lw_all RX1) (hI : mI g ad d A s u H locs) {i : Nat} {x : Int32} (hi : i < 32) (hdg : decode cc pc = .ok (.iastore, 1)) (kk : ∀ (H : Heap) (locs : List Loc), mI g ad d A s (xz u 2 i x) H locs → W p l e R s m args below meth c H locs cells slots Q (F0 m (pc + 1) ls rest)) : W p l e R s m args below meth c H locs cells slots Q (F0 m pc ls (.int x :: .int (nI i) :: .ref (ad 2) :: rest)) := by
  refine va_iast F.1 F.2.1 hI.1 hI.2.1 hI.2.2.1 hI.2.2.2 2 1 rfl rfl (vp_in_nI hi (by decide)) hdg (fun H locs hP hD hS => ?_)
  rw [nI_clamp (by omega)] at hP hD
  exact kk H locs ⟨hI.1, hP, hD, hS⟩
theorem mg3 (F : CallFix p m c cc nL s args lw_all RX1) (hI : mI g ad d A s u H locs) (hdg : decode cc pc = .ok (.getfield 20, 3)) (kk : W p l e R s m args below meth c H locs cells slots Q (F0 m (pc + 3) ls (.ref (ad 3) :: rest))) : W p l e R s m args below meth c H locs cells slots Q (F0 m pc ls (.ref (ad 0) :: rest)) :=
  m_get F hI 3 (by decide) q219 rfl rfl hdg kk
theorem ml3 (F : CallFix p m c cc nL s args lw_all RX1) (hI : mI g ad d A s u H locs) {i : Nat} {x : Int32} (hi : i < 8) (hv : u.2.2 3 i = x) (hdg : decode cc pc = .ok (.iaload, 1)) (kk : W p l e R s m args below meth c H locs cells slots Q (F0 m (pc + 1) ls (.int x :: rest))) : W p l e R s m args below meth c H locs cells slots Q (F0 m pc ls (.int (nI i) :: .ref (ad 3) :: rest)) := by
  subst hv
  refine va_iald F.1 F.2.1 hI.1 hI.2.1 3 2 rfl rfl (vp_in_nI hi (by decide)) hdg ?_
  rw [nI_clamp (by omega)]
  exact kk
theorem mt3 (F : CallFix p m c cc nL s args lw_all RX1) (hI : mI g ad d A s u H locs) {i : Nat} {x : Int32} (hi : i < 8) (hdg : decode cc pc = .ok (.iastore, 1)) (kk : ∀ (H : Heap) (locs : List Loc), mI g ad d A s (xz u 3 i x) H locs → W p l e R s m args below meth c H locs cells slots Q (F0 m (pc + 1) ls rest)) : W p l e R s m args below meth c H locs cells slots Q (F0 m pc ls (.int x :: .int (nI i) :: .ref (ad 3) :: rest)) := by
  refine va_iast F.1 F.2.1 hI.1 hI.2.1 hI.2.2.1 hI.2.2.2 3 2 rfl rfl (vp_in_nI hi (by decide)) hdg (fun H locs hP hD hS => ?_)
  rw [nI_clamp (by omega)] at hP hD
  exact kk H locs ⟨hI.1, hP, hD, hS⟩
theorem mg4 (F : CallFix p m c cc nL s args lw_all RX1) (hI : mI g ad d A s u H locs) {v : Nat} (hv : u.1 4 = v) (hdg : decode cc pc = .ok (.getfield 23, 3)) (kk : W p l e R s m args below meth c H locs cells slots Q (F0 m (pc + 3) ls (.int (nI v) :: rest))) : W p l e R s m args below meth c H locs cells slots Q (F0 m pc ls (.ref (ad 0) :: rest)) := by
  subst hv
  exact m_get F hI 4 (by decide) q220 rfl rfl hdg kk
theorem mp4 (F : CallFix p m c cc nL s args lw_all RX1) (hI : mI g ad d A s u H locs) {v : Nat} (hdg : decode cc pc = .ok (.putfield 23, 3)) (kk : ∀ (H : Heap) (locs : List Loc), mI g ad d A s (xs u 4 v) H locs → W p l e R s m args below meth c H locs cells slots Q (F0 m (pc + 3) ls rest)) : W p l e R s m args below meth c H locs cells slots Q (F0 m pc ls (.int (nI v) :: .ref (ad 0) :: rest)) :=
  va_put (D := g) (ci := 1) (v := .int (nI v)) (ty := .int) (C := RX1) (T := TX1) (N := 9) (ref := RX1) F.1 F.2.1 F.2.2.2.2 in_X1 tyX1 tyX1_ok nmX1 F.2.2.2.1 hI.1 hI.2.1 hI.2.2.1 hI.2.2.2 0 rfl rfl 4 (by decide) (F.2.2.2.2 _ q220) (fun _ h9 => h9) rfl (by decide +kernel) rfl rfl (Nat.le_of_ble_eq_true rfl) hdg (fun H locs hP hD hS => kk H locs ⟨hI.1, hP, hD, hS⟩)
theorem mg5 (F : CallFix p m c cc nL s args lw_all RX1) (hI : mI g ad d A s u H locs) (hdg : decode cc pc = .ok (.getfield 26, 3)) (kk : W p l e R s m args below meth c H locs cells slots Q (F0 m (pc + 3) ls (.ref (ad 5) :: rest))) : W p l e R s m args below meth c H locs cells slots Q (F0 m pc ls (.ref (ad 0) :: rest)) :=
  m_get F hI 5 (by decide) q221 rfl rfl hdg kk
theorem ml5 (F : CallFix p m c cc nL s args lw_all RX1) (hI : mI g ad d A s u H locs) {i : Nat} {x : Int32} (hi : i < 8) (hv : u.2.2 5 i = x) (hdg : decode cc pc = .ok (.iaload, 1)) (kk : W p l e R s m args below meth c H locs cells slots Q (F0 m (pc + 1) ls (.int x :: rest))) : W p l e R s m args below meth c H locs cells slots Q (F0 m pc ls (.int (nI i) :: .ref (ad 5) :: rest)) := by
  subst hv
  refine va_iald F.1 F.2.1 hI.1 hI.2.1 4 3 rfl rfl (vp_in_nI hi (by decide)) hdg ?_
  rw [nI_clamp (by omega)]
  exact kk
theorem mt5 (F : CallFix p m c cc nL s args lw_all RX1) (hI : mI g ad d A s u H locs) {i : Nat} {x : Int32} (hi : i < 8) (hdg : decode cc pc = .ok (.iastore, 1)) (kk : ∀ (H : Heap) (locs : List Loc), mI g ad d A s (xz u 5 i x) H locs → W p l e R s m args below meth c H locs cells slots Q (F0 m (pc + 1) ls rest)) : W p l e R s m args below meth c H locs cells slots Q (F0 m pc ls (.int x :: .int (nI i) :: .ref (ad 5) :: rest)) := by
  refine va_iast F.1 F.2.1 hI.1 hI.2.1 hI.2.2.1 hI.2.2.2 4 3 rfl rfl (vp_in_nI hi (by decide)) hdg (fun H locs hP hD hS => ?_)
  rw [nI_clamp (by omega)] at hP hD
  exact kk H locs ⟨hI.1, hP, hD, hS⟩
theorem mg6 (F : CallFix p m c cc nL s args lw_all RX1) (hI : mI g ad d A s u H locs) {v : Nat} (hv : u.1 6 = v) (hdg : decode cc pc = .ok (.getfield 29, 3)) (kk : W p l e R s m args below meth c H locs cells slots Q (F0 m (pc + 3) ls (.int (nI v) :: rest))) : W p l e R s m args below meth c H locs cells slots Q (F0 m pc ls (.ref (ad 0) :: rest)) := by
  subst hv
  exact m_get F hI 6 (by decide) q222 rfl rfl hdg kk
theorem mp6 (F : CallFix p m c cc nL s args lw_all RX1) (hI : mI g ad d A s u H locs) {v : Nat} (hdg : decode cc pc = .ok (.putfield 29, 3)) (kk : ∀ (H : Heap) (locs : List Loc), mI g ad d A s (xs u 6 v) H locs → W p l e R s m args below meth c H locs cells slots Q (F0 m (pc + 3) ls rest)) : W p l e R s m args below meth c H locs cells slots Q (F0 m pc ls (.int (nI v) :: .ref (ad 0) :: rest)) :=
  va_put (D := g) (ci := 1) (v := .int (nI v)) (ty := .int) (C := RX1) (T := TX1) (N := 9) (ref := RX1) F.1 F.2.1 F.2.2.2.2 in_X1 tyX1 tyX1_ok nmX1 F.2.2.2.1 hI.1 hI.2.1 hI.2.2.1 hI.2.2.2 0 rfl rfl 6 (by decide) (F.2.2.2.2 _ q222) (fun _ h9 => h9) rfl (by decide +kernel) rfl rfl (Nat.le_of_ble_eq_true rfl) hdg (fun H locs hP hD hS => kk H locs ⟨hI.1, hP, hD, hS⟩)
theorem mg7 (F : CallFix p m c cc nL s args lw_all RX1) (hI : mI g ad d A s u H locs) {v : Nat} (hv : u.1 7 = v) (hdg : decode cc pc = .ok (.getfield 32, 3)) (kk : W p l e R s m args below meth c H locs cells slots Q (F0 m (pc + 3) ls (.int (nI v) :: rest))) : W p l e R s m args below meth c H locs cells slots Q (F0 m pc ls (.ref (ad 0) :: rest)) := by
  subst hv
  exact m_get F hI 7 (by decide) q223 rfl rfl hdg kk
theorem mp7 (F : CallFix p m c cc nL s args lw_all RX1) (hI : mI g ad d A s u H locs) {v : Nat} (hdg : decode cc pc = .ok (.putfield 32, 3)) (kk : ∀ (H : Heap) (locs : List Loc), mI g ad d A s (xs u 7 v) H locs → W p l e R s m args below meth c H locs cells slots Q (F0 m (pc + 3) ls rest)) : W p l e R s m args below meth c H locs cells slots Q (F0 m pc ls (.int (nI v) :: .ref (ad 0) :: rest)) :=
  va_put (D := g) (ci := 1) (v := .int (nI v)) (ty := .int) (C := RX1) (T := TX1) (N := 9) (ref := RX1) F.1 F.2.1 F.2.2.2.2 in_X1 tyX1 tyX1_ok nmX1 F.2.2.2.1 hI.1 hI.2.1 hI.2.2.1 hI.2.2.2 0 rfl rfl 7 (by decide) (F.2.2.2.2 _ q223) (fun _ h9 => h9) rfl (by decide +kernel) rfl rfl (Nat.le_of_ble_eq_true rfl) hdg (fun H locs hP hD hS => kk H locs ⟨hI.1, hP, hD, hS⟩)
theorem mg8 (F : CallFix p m c cc nL s args lw_all RX1) (hI : mI g ad d A s u H locs) {v : Nat} (hv : u.1 8 = v) (hdg : decode cc pc = .ok (.getfield 35, 3)) (kk : W p l e R s m args below meth c H locs cells slots Q (F0 m (pc + 3) ls (.int (nI v) :: rest))) : W p l e R s m args below meth c H locs cells slots Q (F0 m pc ls (.ref (ad 0) :: rest)) := by
  subst hv
  exact m_get F hI 8 (by decide) q224 rfl rfl hdg kk
theorem mp8 (F : CallFix p m c cc nL s args lw_all RX1) (hI : mI g ad d A s u H locs) {v : Nat} (hdg : decode cc pc = .ok (.putfield 35, 3)) (kk : ∀ (H : Heap) (locs : List Loc), mI g ad d A s (xs u 8 v) H locs → W p l e R s m args below meth c H locs cells slots Q (F0 m (pc + 3) ls rest)) : W p l e R s m args below meth c H locs cells slots Q (F0 m pc ls (.int (nI v) :: .ref (ad 0) :: rest)) :=
  va_put (D := g) (ci := 1) (v := .int (nI v)) (ty := .int) (C := RX1) (T := TX1) (N := 9) (ref := RX1) F.1 F.2.1 F.2.2.2.2 in_X1 tyX1 tyX1_ok nmX1 F.2.2.2.1 hI.1 hI.2.1 hI.2.2.1 hI.2.2.2 0 rfl rfl 8 (by decide) (F.2.2.2.2 _ q224) (fun _ h9 => h9) rfl (by decide +kernel) rfl rfl (Nat.le_of_ble_eq_true rfl) hdg (fun H locs hP hD hS => kk H locs ⟨hI.1, hP, hD, hS⟩)
theorem m_met {y : MethodName} {maxL : Nat} {ret : Option FieldType} {rm : Room} {av : List Value} {Qc : Array Value → State → Outcome → State → Prop} {mc ms : Nat} (hy : plainName y.cls = true) (hyc : y.cls = RX1) (hlen : (lg_sl (.ref (ad 0) :: av)).length ≤ maxL)
    (body : ∀ (p : Program) (e : Env) (s : State) (m : MethodId) (below : List Frame) (meth : Method) (c : Code) (ls : Array Slot), CallFix p m c cc maxL s (.ref (ad 0) :: av : List Value).toArray lw_all RX1 → meth.sig.returnType = ret → meth.locks = false → mI g ad d A s u s.heap [] → lv_has ls maxL (lv_args 0 (.ref (ad 0) :: av)) →
      W p l e rm s m (.ref (ad 0) :: av : List Value).toArray below meth c s.heap [] 0 0 (MQ below Qc (.ref (ad 0) :: av : List Value).toArray s mc ms A) (F0 m 0 ls [])) : Met l y (ws_ y cc maxL ret) rm (mPc g ad d A u av) Qc mc ms A := by
  refine Met.ofW (cc := cc) (maxL := maxL) (ret := ret) hy rfl ?_
  intro p e s m args below meth c s₁ B hml hv
  obtain ⟨rfl, hK, hP, hD⟩ := hv
  have hts := atoms_spec (ws := ws_ y cc maxL ret) B.pre
  have hts : ∀ w ∈ lw_all, w.before _ s = true := fun w h => hts w (List.mem_cons_of_mem _ h)
  have hown : s.vm.findClass RX1 = some m.cls := hyc ▸ findClass_of_methodNamed B.named
  have hl := lv_entry (.ref (ad 0) :: av) (n := maxL) hlen
  rw [lg_entry_eq]
  exact body p e s m below meth c _ ⟨B.exec, B.bytes, hml, hown, hts⟩ B.returns B.notSynchronized ⟨hK, hP, hD, va_S.rf⟩ hl
theorem m_end {t : State} (hI : mI g ad d A s u H locs) (ht : t.heap = H) (hW : s.WarmedH t.vm) : mB g ad d A u t := ⟨va_K.moved hW.alike hI.1, by rw [ht]; exact hI.2.1, hI.2.2.1⟩
theorem m_reti (F : CallFix p m c cc nL s args lw_all own) (hr : meth.sig.returnType = some .int) (hlk : meth.locks = false) (hI : mI g ad d A s u H locs) {post : Int32 → XS → Prop} {v : Int32} (hp : post v u) (hdg : decode cc pc = .ok (.ireturn, 1)) : W p l e R s m args below meth c H locs cells slots (MQ below (mQi g ad d A post) args s cells slots A) (F0 m pc ls [.int v]) :=
  W.iret F.1 F.2.1 hr (fun t ht hW => ⟨⟨v, u, rfl, hp, m_end hI ht hW⟩, hI.2.2.2.F ht⟩) hI.2.2.2.2.2 hdg hlk
theorem m_retz (F : CallFix p m c cc nL s args lw_all own) (hr : meth.sig.returnType = some .boolean) (hlk : meth.locks = false) (hI : mI g ad d A s u H locs) {post : Int32 → XS → Prop} {v : Int32} (hn : narrow .boolean (.int v) = .int v) (hp : post v u) (hdg : decode cc pc = .ok (.ireturn, 1)) : W p l e R s m args below meth c H locs cells slots (MQ below (mQi g ad d A post) args s cells slots A) (F0 m pc ls [.int v]) :=
  W.zret F.1 F.2.1 hr hn (fun t ht hW => ⟨⟨v, u, rfl, hp, m_end hI ht hW⟩, hI.2.2.2.F ht⟩) hI.2.2.2.2.2 hdg hlk
theorem m_retv (F : CallFix p m c cc nL s args lw_all own) (hr : meth.sig.returnType = none) (hlk : meth.locks = false) (hI : mI g ad d A s u H locs) {post : XS → Prop} (hp : post u) (hdg : decode cc pc = .ok (.return_, 1)) : W p l e R s m args below meth c H locs cells slots (MQ below (mQv g ad d A post) args s cells slots A) (F0 m pc ls []) :=
  W.vret F.1 F.2.1 hr (fun t ht hW => ⟨⟨u, rfl, hp, m_end hI ht hW⟩, hI.2.2.2.F ht⟩) hI.2.2.2.2.2 hdg hlk
theorem m_pre (hI : mI g ad d A s u H locs) (av : List Value) : PreV s H RX1 (ad 0) (mPc g ad d A u av) av :=
  ⟨fun a U g mk q => ⟨q.1, va_K.moved (u := U) (U := U.calling g mk a) (Vm.Alike.refl U.vm) q.2.1, q.2.2.1, q.2.2.2⟩, va_recv hI.1 hI.2.1 (ci := 1) (q0 := 0) (q := (RX1, TX1, 9)) rfl rfl, fun U hU hW => ⟨rfl, va_K.moved hW.alike hI.1, by rw [hU]; exact hI.2.1, hI.2.2.1⟩⟩
theorem m_callv (F : CallFix p m c cc nL s args lw_all own) (hI : mI g ad d A s u H locs) {y : MethodName} {b : ByteArray} {L idx n : Nat} {rm : Room} {av : List Value} {post : XS → Prop} (hM : Met l y (ws_ y b L none) rm (mPc g ad d A u av) (mQv g ad d A post) 0 0 A)
    (hw : GoodIn lw_all (wsV own idx RX1 y (ws_ y b L none))) (hd : y.cls = RX1 ∧ y.cls ≠ "java/lang/invoke/MethodHandle" ∧ y.cls ≠ "java/lang/invoke/VarHandle" ∧ (parseMethodDescriptor y.desc).map (fun d => d.parameters.length) = some n) (hR : rm.frames + 1 ≤ R.frames ∧ 8 + (L + 11) + rm.locals ≤ R.locals) (hz : rm.cells = 0 ∧ rm.slots = 0) (hc : cells ≤ R.cells ∧ slots ≤ R.slots) {st : List Value} (hn : av.length = n) (hls : ls.size = nL) (hst : st = av.reverse ++ .ref (ad 0) :: rest) (hrest : (rest.map fun v => v.category).sum ≤ 8) (hdg : decode cc pc = .ok (.invokevirtual idx, 3))
    (kk : ∀ (u2 : XS) (H : Heap) (locs : List Loc), post u2 → mI g ad d A s u2 H locs → W p l e R s m args below meth c H locs cells slots Q (F0 m (pc + 3) ls rest)) : W p l e R s m args below meth c H locs cells slots Q (F0 m pc ls st) :=
  va_callv (va_runV F hM (cwV n F.2.2.2.2 hw rfl hz.1 hz.2 hd hR) (m_pre hI av) rfl hn hls hst (lv_room hrest) hdg hc) hI.2.2.2 (fun _ _ h => h) (fun _ h => h) (fun u2 t H1 locs1 ht hvm hp hB hz1 hk1 hS => kk u2 H1 locs1 hp ⟨va_K.moved hvm.symm hB.1, by rw [← ht]; exact hB.2.1, hB.2.2, hS⟩)
theorem m_calli (F : CallFix p m c cc nL s args lw_all own) (hI : mI g ad d A s u H locs) {y : MethodName} {b : ByteArray} {L idx n : Nat} {ret : Option FieldType} {rm : Room} {av : List Value} {post : Int32 → XS → Prop} (hM : Met l y (ws_ y b L ret) rm (mPc g ad d A u av) (mQi g ad d A post) 0 0 A)
    (hw : GoodIn lw_all (wsV own idx RX1 y (ws_ y b L ret))) (hd : y.cls = RX1 ∧ y.cls ≠ "java/lang/invoke/MethodHandle" ∧ y.cls ≠ "java/lang/invoke/VarHandle" ∧ (parseMethodDescriptor y.desc).map (fun d => d.parameters.length) = some n) (hR : rm.frames + 1 ≤ R.frames ∧ 8 + (L + 11) + rm.locals ≤ R.locals) (hz : rm.cells = 0 ∧ rm.slots = 0) (hc : cells ≤ R.cells ∧ slots ≤ R.slots) {st : List Value} (hn : av.length = n) (hls : ls.size = nL) (hst : st = av.reverse ++ .ref (ad 0) :: rest) (hrest : (rest.map fun v => v.category).sum ≤ 8) (hdg : decode cc pc = .ok (.invokevirtual idx, 3))
    (kk : ∀ (r : Int32) (u2 : XS) (H : Heap) (locs : List Loc), post r u2 → mI g ad d A s u2 H locs → W p l e R s m args below meth c H locs cells slots Q (F0 m (pc + 3) ls (.int r :: rest))) : W p l e R s m args below meth c H locs cells slots Q (F0 m pc ls st) :=
  va_calli (va_runV F hM (cwV n F.2.2.2.2 hw rfl hz.1 hz.2 hd hR) (m_pre hI av) rfl hn hls hst (lv_room hrest) hdg hc) hI.2.2.2 (fun _ _ h => h) (fun _ h => h) (fun r u2 t H1 locs1 ht hvm hp hB hz1 hk1 hS => kk r u2 H1 locs1 hp ⟨va_K.moved hvm.symm hB.1, by rw [← ht]; exact hB.2.1, hB.2.2, hS⟩)
end MR
end
section
/-! PURE WORDS of the contracts: what an instruction needs, what it does; the flat code -/
set_option maxRecDepth 100000
/-- the instruction o with number a faults at height h -/
abbrev fl (o : Nat) (a : Int32) (h : Nat) : Prop := (o = 0 ∨ o = 2) ∧ 8 ≤ h ∨ o = 1 ∧ (8 ≤ h ∨ (h : Int) ≤ a.toInt) ∨ (o = 3 ∨ o = 10 ∨ o = 11) ∧ h < 1 ∨ (4 ≤ o ∧ o ≤ 9) ∧ (h : Int) ≤ a.toInt
/-- (o, a) is an instruction: of two ints of the script -/
def vI (o a : Int32) : Prop := 0 ≤ o.toInt ∧ o.toInt ≤ 13 ∧ (o.toInt = 0 ∨ o.toInt = 13 ∨ 10 ≤ o.toInt ∧ 0 ≤ a.toInt ∧ a.toInt ≤ 31 ∨ 8 ≤ o.toInt ∧ o.toInt ≤ 9 ∧ 1 ≤ a.toInt ∧ a.toInt ≤ 7 ∨ o.toInt ≤ 7 ∧ 0 ≤ a.toInt ∧ a.toInt ≤ 7)
/-- the same, of a number and an int that are held -/
def vOK (o : Nat) (a : Int32) : Prop := o ≤ 13 ∧ (o = 0 ∨ o = 13 ∨ ∃ k : Nat, a = nI k ∧ k ≤ 31 ∧ (o ≤ 9 → k ≤ 7) ∧ (8 ≤ o → o ≤ 9 → 1 ≤ k))
def pOK (L : Nat) (O : Nat → Nat) (N : Nat → Int32) : Prop := L ≤ 32 ∧ ∀ i, i < L → vOK (O i) (N i)
/-- the branch is taken -/
abbrev brT (o : Nat) (v : Int32) : Prop := o = 10 ∧ v.toInt = 0 ∨ o ≠ 10 ∧ v.toInt < 0
def exM (o k : Nat) (a : Int32) (u : XS) : XS :=
  if o = 3 then xz (xs u 5 (u.1 5 - 1)) 3 k (u.2.2 4 (u.1 5 - 1))
  else if o = 0 then xs (xz u 4 (u.1 5) a) 5 (u.1 5 + 1)
  else if o = 1 then xs (xz u 4 (u.1 5) (u.2.2 4 (u.1 5 - 1 - k))) 5 (u.1 5 + 1)
  else xs (xz u 4 (u.1 5) (u.2.2 3 k)) 5 (u.1 5 + 1)
def exC (o k : Nat) (u : XS) : XS :=
  if o = 4 then xz (xz u 4 (u.1 5 - 1) (u.2.2 4 (u.1 5 - 1 - k))) 4 (u.1 5 - 1 - k) (u.2.2 4 (u.1 5 - 1))
  else if o = 5 then xz u 4 (u.1 5 - 1) (u.2.2 4 (u.1 5 - 1) + u.2.2 4 (u.1 5 - 1 - k))
  else if o = 6 then xz u 4 (u.1 5 - 1) (u.2.2 4 (u.1 5 - 1) - u.2.2 4 (u.1 5 - 1 - k))
  else if o = 7 then xz u 4 (u.1 5 - 1) (u.2.2 4 (u.1 5 - 1) * u.2.2 4 (u.1 5 - 1 - k))
  else if o = 8 then xs (xz u 4 (u.1 5 - 1 - k) (u.2.2 4 (u.1 5 - 1 - k) + u.2.2 4 (u.1 5 - 1))) 5 (u.1 5 - 1)
  else xs (xz u 4 (u.1 5 - 1 - k) (u.2.2 4 (u.1 5 - 1 - k) - u.2.2 4 (u.1 5 - 1))) 5 (u.1 5 - 1)
/-- one flat instruction, on registers and cells -/
def fw (c x y : Nat) (z : Int32) (B : (Nat → Int32) × (Nat → Int32)) : (Nat → Int32) × (Nat → Int32) :=
  if c = 0 then (upd B.1 x z, B.2)
  else if c = 1 then (upd B.1 x (B.1 y), B.2)
  else if c = 2 then (upd B.1 x (B.1 y + B.1 z.toNatClampNeg), B.2)
  else if c = 3 then (upd B.1 x (B.1 y - B.1 z.toNatClampNeg), B.2)
  else if c = 4 then (upd B.1 x (B.1 y * B.1 z.toNatClampNeg), B.2)
  else if c = 5 then (upd B.1 x (B.2 y), B.2)
  else (B.1, upd B.2 x (B.1 y))
/-- a flat instruction that works, its registers in range -/
def wfI (c x y : Nat) (z : Int32) : Prop := c ≤ 6 ∧ x < 10 ∧ y < 10 ∧ (c = 6 → x < 8) ∧ (c = 5 → y < 8) ∧ (2 ≤ c → c ≤ 4 → ∃ k : Nat, z = nI k ∧ k < 10)
/-- the object with other registers and cells -/
def xFG (u : XS) (B : (Nat → Int32) × (Nat → Int32)) : XS := (u.1, u.2.1, va_up (va_up u.2.2 4 B.1) 3 B.2)
/-- a flat instruction written at the end -/
def xwr (u : XS) (c x y : Nat) (z : Int32) : XS := xs (xz (xn (xn (xn u 15 (u.1 14) c) 16 (u.1 14) x) 17 (u.1 14) y) 18 (u.1 14) z) 14 (u.1 14 + 1)
theorem xz4 (u : XS) (i : Nat) (v : Int32) : xz u 4 i v = xFG u (upd (u.2.2 4) i v, u.2.2 3) := by
  refine Prod.ext rfl (Prod.ext rfl ?_)
  funext j
  simp only [xz, xFG, va_up]
  by_cases h3 : j = 3
  · subst h3; rfl
  · rw [if_neg h3]
theorem xz3 (u : XS) (i : Nat) (v : Int32) : xz u 3 i v = xFG u (u.2.2 4, upd (u.2.2 3) i v) := by
  refine Prod.ext rfl (Prod.ext rfl ?_)
  funext j
  simp only [xz, xFG, va_up]
  by_cases h3 : j = 3
  · subst h3; rfl
  · rw [if_neg h3, if_neg h3]
    by_cases h4 : j = 4
    · subst h4; rfl
    · rw [if_neg h4]
theorem xFG_xFG (u : XS) (B B' : (Nat → Int32) × (Nat → Int32)) : xFG (xFG u B) B' = xFG u B' := by
  refine Prod.ext rfl (Prod.ext rfl ?_)
  funext j
  simp only [xFG, va_up]
  by_cases h3 : j = 3
  · rw [if_pos h3, if_pos h3]
  · rw [if_neg h3, if_neg h3, if_neg h3]
    by_cases h4 : j = 4
    · rw [if_pos h4, if_pos h4]
    · rw [if_neg h4, if_neg h4, if_neg h4]
theorem xFG_self (u : XS) : xFG u (u.2.2 4, u.2.2 3) = u := by
  refine Prod.ext rfl (Prod.ext rfl ?_)
  funext j
  simp only [xFG, va_up]
  by_cases h3 : j = 3
  · subst h3; rfl
  · rw [if_neg h3]
    by_cases h4 : j = 4
    · subst h4; rfl
    · rw [if_neg h4]
/-! the free register: a mask of eight bits -/
def pcn (U : Nat) : Nat := U / 1 % 2 + U / 2 % 2 + U / 4 % 2 + U / 8 % 2 + U / 16 % 2 + U / 32 % 2 + U / 64 % 2 + U / 128 % 2
def btN (U r : Nat) : Nat := U / 2 ^ r % 2
theorem k_or : ∀ U, U < 256 → ∀ x, x < 8 → nI U ||| nI (2 ^ x) = nI (U ||| 2 ^ x) ∧ (U ||| 2 ^ x) < 256 ∧ pcn (U ||| 2 ^ x) ≤ pcn U + 1 ∧ btN (U ||| 2 ^ x) x = 1 := by decide +kernel
theorem k_shl : ∀ x, x < 8 → nI 1 <<< (nI x &&& 31) = nI (2 ^ x) := by decide +kernel
theorem k_shr : ∀ U, U < 256 → ∀ x, x < 8 → (nI U >>> (nI x &&& 31)) &&& nI 1 = nI (btN U x) := by decide +kernel
theorem k_keep : ∀ U, U < 256 → ∀ x, x < 8 → ∀ y, y < 8 → btN U y = 1 → btN (U ||| 2 ^ x) y = 1 := by decide +kernel
theorem k_all : ∀ U, U < 256 → ¬ (pcn U ≤ 7 ∧ (btN U 0 = 1 ∧ btN U 1 = 1 ∧ btN U 2 = 1 ∧ btN U 3 = 1) ∧ (btN U 4 = 1 ∧ btN U 5 = 1 ∧ btN U 6 = 1 ∧ btN U 7 = 1)) := by decide +kernel
section KR
variable {p : Program} {l : Launch} {e : Env} {R : Room} {s : State} {m : MethodId} {args : Array Value} {below : List Frame} {meth : Method} {c : Code} {H : Heap} {locs : List Loc} {cells slots : Nat} {Q : State → Prop}
variable {cc : ByteArray} {nL pc : Nat} {ls : Array Slot} {rest : List Value} {own : String} {Ts : List Cond}
theorem k_ishl (F : CallFix p m c cc nL s args Ts own) {x : Nat} (hx : x < 8) (hdg : decode cc pc = .ok (.ishl, 1)) (kk : W p l e R s m args below meth c H locs cells slots Q (F0 m (pc + 1) ls (.int (nI (2 ^ x)) :: rest))) : W p l e R s m args below meth c H locs cells slots Q (F0 m pc ls (.int (nI x) :: .int (nI 1) :: rest)) :=
  lv_ishl F.1 F.2.1 hdg (by rw [k_shl x hx]; exact kk)
theorem k_ior (F : CallFix p m c cc nL s args Ts own) {U x : Nat} (hU : U < 256) (hx : x < 8) (hdg : decode cc pc = .ok (.ior, 1)) (kk : W p l e R s m args below meth c H locs cells slots Q (F0 m (pc + 1) ls (.int (nI (U ||| 2 ^ x)) :: rest))) : W p l e R s m args below meth c H locs cells slots Q (F0 m pc ls (.int (nI (2 ^ x)) :: .int (nI U) :: rest)) :=
  lv_ior F.1 F.2.1 hdg (by rw [(k_or U hU x hx).1]; exact kk)
theorem k_iand (F : CallFix p m c cc nL s args Ts own) {U x : Nat} (hU : U < 256) (hx : x < 8) (hdg : decode cc pc = .ok (.iand, 1)) (kk : W p l e R s m args below meth c H locs cells slots Q (F0 m (pc + 1) ls (.int (nI (btN U x)) :: rest))) : W p l e R s m args below meth c H locs cells slots Q (F0 m pc ls (.int (nI 1) :: .int (nI U >>> (nI x &&& 31)) :: rest)) :=
  lv_iand F.1 F.2.1 hdg (by rw [k_shr U hU x hx]; exact kk)
end KR
end
section
set_option maxRecDepth 100000
set_option maxHeartbeats 4000000 in
set_option maxRecDepth 100000 in
theorem metX0_isInstruction (l : Launch) (g : va_G) (ad : Nat → Nat) (d : Nat → ClassId) (A : Nat → Prop) (u : XS) (o a : Int32) : Met l yX0_isInstruction (ws_ yX0_isInstruction cX0_isInstruction 3 (some .boolean)) ({ frames := 0, cells := 0, slots := 0, locals := 0 }) (xPc g ad d A u [.int o, .int a]) (xQi g ad d A (fun r u2 => u2 = u ∧ (vI o a ∧ r = nI 1 ∨ ¬ vI o a ∧ r = nI 0))) 0 0 A := by
  refine x_met (by decide) rfl (Nat.le_of_ble_eq_true rfl) ?_
  intro p e s m below meth c ls F hr hlk hI hl
  have hl : lv_has ls 3 [(0, .ref (ad 0)), (1, .int o), (2, .int a)] := hl
  refine lv_iload_n F.1 F.2.1 dX0_isInstruction_0 rfl (lv_at hl 1 rfl) ?_
  refine t_if_lt (tgt := 10) F rfl dX0_isInstruction_1 (by decide) (fun b_1 => ?_) (fun b_1 => ?_)
  · refine lv_iconst (v := nI 0) F.1 F.2.1 dX0_isInstruction_10 (by decide) ?_
    exact x_retz F hr hlk hI rfl (⟨rfl, Or.inr ⟨by unfold vI; omega, rfl⟩⟩) dX0_isInstruction_11
  · refine lv_iload_n F.1 F.2.1 dX0_isInstruction_4 rfl (lv_at hl 1 rfl) ?_
    refine lv_bipush (v := nI 13) F.1 F.2.1 dX0_isInstruction_5 (by decide) ?_
    refine t_icmp_le (tgt := 12) F rfl (nI_toInt (by decide)) dX0_isInstruction_7 (by decide) (fun b_7 => ?_) (fun b_7 => ?_)
    · refine lv_iload_n F.1 F.2.1 dX0_isInstruction_12 rfl (lv_at hl 1 rfl) ?_
      refine t_if_eq (tgt := 22) F rfl dX0_isInstruction_13 (by decide) (fun b_13 => ?_) (fun b_13 => ?_)
      · refine lv_iconst (v := nI 1) F.1 F.2.1 dX0_isInstruction_22 (by decide) ?_
        exact x_retz F hr hlk hI rfl (⟨rfl, Or.inl ⟨by unfold vI; omega, rfl⟩⟩) dX0_isInstruction_23
      · refine lv_iload_n F.1 F.2.1 dX0_isInstruction_16 rfl (lv_at hl 1 rfl) ?_
        refine lv_bipush (v := nI 13) F.1 F.2.1 dX0_isInstruction_17 (by decide) ?_
        refine t_icmp_ne (tgt := 24) F rfl (nI_toInt (by decide)) dX0_isInstruction_19 (by decide) (fun b_19 => ?_) (fun b_19 => ?_)
        · refine lv_iload_n F.1 F.2.1 dX0_isInstruction_24 rfl (lv_at hl 1 rfl) ?_
          refine lv_bipush (v := nI 10) F.1 F.2.1 dX0_isInstruction_25 (by decide) ?_
          refine t_icmp_lt (tgt := 46) F rfl (nI_toInt (by decide)) dX0_isInstruction_27 (by decide) (fun b_27 => ?_) (fun b_27 => ?_)
          · refine lv_iload_n F.1 F.2.1 dX0_isInstruction_46 rfl (lv_at hl 1 rfl) ?_
            refine lv_bipush (v := nI 8) F.1 F.2.1 dX0_isInstruction_47 (by decide) ?_
            refine t_icmp_lt (tgt := 69) F rfl (nI_toInt (by decide)) dX0_isInstruction_49 (by decide) (fun b_49 => ?_) (fun b_49 => ?_)
            · refine lv_iload_n F.1 F.2.1 dX0_isInstruction_69 rfl (lv_at hl 2 rfl) ?_
              refine t_if_lt (tgt := 83) F rfl dX0_isInstruction_70 (by decide) (fun b_70 => ?_) (fun b_70 => ?_)
              · refine lv_iconst (v := nI 0) F.1 F.2.1 dX0_isInstruction_83 (by decide) ?_
                exact x_retz F hr hlk hI rfl (⟨rfl, Or.inr ⟨by unfold vI; omega, rfl⟩⟩) dX0_isInstruction_84
              · refine lv_iload_n F.1 F.2.1 dX0_isInstruction_73 rfl (lv_at hl 2 rfl) ?_
                refine lv_bipush (v := nI 7) F.1 F.2.1 dX0_isInstruction_74 (by decide) ?_
                refine t_icmp_gt (tgt := 83) F rfl (nI_toInt (by decide)) dX0_isInstruction_76 (by decide) (fun b_76 => ?_) (fun b_76 => ?_)
                · refine lv_iconst (v := nI 0) F.1 F.2.1 dX0_isInstruction_83 (by decide) ?_
                  exact x_retz F hr hlk hI rfl (⟨rfl, Or.inr ⟨by unfold vI; omega, rfl⟩⟩) dX0_isInstruction_84
                · refine lv_iconst (v := nI 1) F.1 F.2.1 dX0_isInstruction_79 (by decide) ?_
                  refine lv_goto (tgt := 84) F.1 F.2.1 dX0_isInstruction_80 (by decide) ?_
                  exact x_retz F hr hlk hI rfl (⟨rfl, Or.inl ⟨by unfold vI; omega, rfl⟩⟩) dX0_isInstruction_84
            · refine lv_iload_n F.1 F.2.1 dX0_isInstruction_52 rfl (lv_at hl 2 rfl) ?_
              refine lv_iconst (v := nI 1) F.1 F.2.1 dX0_isInstruction_53 (by decide) ?_
              refine t_icmp_lt (tgt := 67) F rfl (nI_toInt (by decide)) dX0_isInstruction_54 (by decide) (fun b_54 => ?_) (fun b_54 => ?_)
              · refine lv_iconst (v := nI 0) F.1 F.2.1 dX0_isInstruction_67 (by decide) ?_
                exact x_retz F hr hlk hI rfl (⟨rfl, Or.inr ⟨by unfold vI; omega, rfl⟩⟩) dX0_isInstruction_68
              · refine lv_iload_n F.1 F.2.1 dX0_isInstruction_57 rfl (lv_at hl 2 rfl) ?_
                refine lv_bipush (v := nI 7) F.1 F.2.1 dX0_isInstruction_58 (by decide) ?_
                refine t_icmp_gt (tgt := 67) F rfl (nI_toInt (by decide)) dX0_isInstruction_60 (by decide) (fun b_60 => ?_) (fun b_60 => ?_)
                · refine lv_iconst (v := nI 0) F.1 F.2.1 dX0_isInstruction_67 (by decide) ?_
                  exact x_retz F hr hlk hI rfl (⟨rfl, Or.inr ⟨by unfold vI; omega, rfl⟩⟩) dX0_isInstruction_68
                · refine lv_iconst (v := nI 1) F.1 F.2.1 dX0_isInstruction_63 (by decide) ?_
                  refine lv_goto (tgt := 68) F.1 F.2.1 dX0_isInstruction_64 (by decide) ?_
                  exact x_retz F hr hlk hI rfl (⟨rfl, Or.inl ⟨by unfold vI; omega, rfl⟩⟩) dX0_isInstruction_68
          · refine lv_iload_n F.1 F.2.1 dX0_isInstruction_30 rfl (lv_at hl 2 rfl) ?_
            refine t_if_lt (tgt := 44) F rfl dX0_isInstruction_31 (by decide) (fun b_31 => ?_) (fun b_31 => ?_)
            · refine lv_iconst (v := nI 0) F.1 F.2.1 dX0_isInstruction_44 (by decide) ?_
              exact x_retz F hr hlk hI rfl (⟨rfl, Or.inr ⟨by unfold vI; omega, rfl⟩⟩) dX0_isInstruction_45
            · refine lv_iload_n F.1 F.2.1 dX0_isInstruction_34 rfl (lv_at hl 2 rfl) ?_
              refine lv_bipush (v := nI 31) F.1 F.2.1 dX0_isInstruction_35 (by decide) ?_
              refine t_icmp_gt (tgt := 44) F rfl (nI_toInt (by decide)) dX0_isInstruction_37 (by decide) (fun b_37 => ?_) (fun b_37 => ?_)
              · refine lv_iconst (v := nI 0) F.1 F.2.1 dX0_isInstruction_44 (by decide) ?_
                exact x_retz F hr hlk hI rfl (⟨rfl, Or.inr ⟨by unfold vI; omega, rfl⟩⟩) dX0_isInstruction_45
              · refine lv_iconst (v := nI 1) F.1 F.2.1 dX0_isInstruction_40 (by decide) ?_
                refine lv_goto (tgt := 45) F.1 F.2.1 dX0_isInstruction_41 (by decide) ?_
                exact x_retz F hr hlk hI rfl (⟨rfl, Or.inl ⟨by unfold vI; omega, rfl⟩⟩) dX0_isInstruction_45
        · refine lv_iconst (v := nI 1) F.1 F.2.1 dX0_isInstruction_22 (by decide) ?_
          exact x_retz F hr hlk hI rfl (⟨rfl, Or.inl ⟨by unfold vI; omega, rfl⟩⟩) dX0_isInstruction_23
    · refine lv_iconst (v := nI 0) F.1 F.2.1 dX0_isInstruction_10 (by decide) ?_
      exact x_retz F hr hlk hI rfl (⟨rfl, Or.inr ⟨by unfold vI; omega, rfl⟩⟩) dX0_isInstruction_11
set_option maxHeartbeats 4000000 in
set_option maxRecDepth 100000 in
theorem metX1_fits (l : Launch) (g : va_G) (ad : Nat → Nat) (d : Nat → ClassId) (A : Nat → Prop) (u : XS) (o a : Int32) : Met l yX1_fits (ws_ yX1_fits cX1_fits 3 (some .boolean)) ({ frames := 0, cells := 0, slots := 0, locals := 0 }) (mPc g ad d A u [.int o, .int a]) (mQi g ad d A (fun r u2 => u2 = u ∧ (vI o a ∧ r = nI 1 ∨ ¬ vI o a ∧ r = nI 0))) 0 0 A := by
  refine m_met (by decide) rfl (Nat.le_of_ble_eq_true rfl) ?_
  intro p e s m below meth c ls F hr hlk hI hl
  have hl : lv_has ls 3 [(0, .ref (ad 0)), (1, .int o), (2, .int a)] := hl
  refine lv_iload_n F.1 F.2.1 dX1_fits_0 rfl (lv_at hl 1 rfl) ?_
  refine t_if_lt (tgt := 10) F rfl dX1_fits_1 (by decide) (fun b_1 => ?_) (fun b_1 => ?_)
  · refine lv_iconst (v := nI 0) F.1 F.2.1 dX1_fits_10 (by decide) ?_
    exact m_retz F hr hlk hI rfl (⟨rfl, Or.inr ⟨by unfold vI; omega, rfl⟩⟩) dX1_fits_11
  · refine lv_iload_n F.1 F.2.1 dX1_fits_4 rfl (lv_at hl 1 rfl) ?_
    refine lv_bipush (v := nI 13) F.1 F.2.1 dX1_fits_5 (by decide) ?_
    refine t_icmp_le (tgt := 12) F rfl (nI_toInt (by decide)) dX1_fits_7 (by decide) (fun b_7 => ?_) (fun b_7 => ?_)
    · refine lv_iload_n F.1 F.2.1 dX1_fits_12 rfl (lv_at hl 1 rfl) ?_
      refine lv_iconst (v := nI 1) F.1 F.2.1 dX1_fits_13 (by decide) ?_
      refine t_icmp_lt (tgt := 39) F rfl (nI_toInt (by decide)) dX1_fits_14 (by decide) (fun b_14 => ?_) (fun b_14 => ?_)
      · refine lv_iload_n F.1 F.2.1 dX1_fits_39 rfl (lv_at hl 1 rfl) ?_
        refine lv_bipush (v := nI 8) F.1 F.2.1 dX1_fits_40 (by decide) ?_
        refine t_icmp_eq (tgt := 51) F rfl (nI_toInt (by decide)) dX1_fits_42 (by decide) (fun b_42 => ?_) (fun b_42 => ?_)
        · refine lv_iload_n F.1 F.2.1 dX1_fits_51 rfl (lv_at hl 2 rfl) ?_
          refine lv_iconst (v := nI 1) F.1 F.2.1 dX1_fits_52 (by decide) ?_
          refine t_icmp_lt (tgt := 66) F rfl (nI_toInt (by decide)) dX1_fits_53 (by decide) (fun b_53 => ?_) (fun b_53 => ?_)
          · refine lv_iconst (v := nI 0) F.1 F.2.1 dX1_fits_66 (by decide) ?_
            exact m_retz F hr hlk hI rfl (⟨rfl, Or.inr ⟨by unfold vI; omega, rfl⟩⟩) dX1_fits_67
          · refine lv_iload_n F.1 F.2.1 dX1_fits_56 rfl (lv_at hl 2 rfl) ?_
            refine lv_bipush (v := nI 7) F.1 F.2.1 dX1_fits_57 (by decide) ?_
            refine t_icmp_gt (tgt := 66) F rfl (nI_toInt (by decide)) dX1_fits_59 (by decide) (fun b_59 => ?_) (fun b_59 => ?_)
            · refine lv_iconst (v := nI 0) F.1 F.2.1 dX1_fits_66 (by decide) ?_
              exact m_retz F hr hlk hI rfl (⟨rfl, Or.inr ⟨by unfold vI; omega, rfl⟩⟩) dX1_fits_67
            · refine lv_iconst (v := nI 1) F.1 F.2.1 dX1_fits_62 (by decide) ?_
              refine lv_goto (tgt := 67) F.1 F.2.1 dX1_fits_63 (by decide) ?_
              exact m_retz F hr hlk hI rfl (⟨rfl, Or.inl ⟨by unfold vI; omega, rfl⟩⟩) dX1_fits_67
        · refine lv_iload_n F.1 F.2.1 dX1_fits_45 rfl (lv_at hl 1 rfl) ?_
          refine lv_bipush (v := nI 9) F.1 F.2.1 dX1_fits_46 (by decide) ?_
          refine t_icmp_ne (tgt := 68) F rfl (nI_toInt (by decide)) dX1_fits_48 (by decide) (fun b_48 => ?_) (fun b_48 => ?_)
          · refine lv_iload_n F.1 F.2.1 dX1_fits_68 rfl (lv_at hl 1 rfl) ?_
            refine lv_bipush (v := nI 10) F.1 F.2.1 dX1_fits_69 (by decide) ?_
            refine t_icmp_lt (tgt := 90) F rfl (nI_toInt (by decide)) dX1_fits_71 (by decide) (fun b_71 => ?_) (fun b_71 => ?_)
            · refine lv_iconst (v := nI 1) F.1 F.2.1 dX1_fits_90 (by decide) ?_
              refine lv_goto (tgt := 95) F.1 F.2.1 dX1_fits_91 (by decide) ?_
              exact m_retz F hr hlk hI rfl (⟨rfl, Or.inl ⟨by unfold vI; omega, rfl⟩⟩) dX1_fits_95
            · refine lv_iload_n F.1 F.2.1 dX1_fits_74 rfl (lv_at hl 1 rfl) ?_
              refine lv_bipush (v := nI 12) F.1 F.2.1 dX1_fits_75 (by decide) ?_
              refine t_icmp_gt (tgt := 90) F rfl (nI_toInt (by decide)) dX1_fits_77 (by decide) (fun b_77 => ?_) (fun b_77 => ?_)
              · refine lv_iconst (v := nI 1) F.1 F.2.1 dX1_fits_90 (by decide) ?_
                refine lv_goto (tgt := 95) F.1 F.2.1 dX1_fits_91 (by decide) ?_
                exact m_retz F hr hlk hI rfl (⟨rfl, Or.inl ⟨by unfold vI; omega, rfl⟩⟩) dX1_fits_95
              · refine lv_iload_n F.1 F.2.1 dX1_fits_80 rfl (lv_at hl 2 rfl) ?_
                refine t_if_lt (tgt := 94) F rfl dX1_fits_81 (by decide) (fun b_81 => ?_) (fun b_81 => ?_)
                · refine lv_iconst (v := nI 0) F.1 F.2.1 dX1_fits_94 (by decide) ?_
                  exact m_retz F hr hlk hI rfl (⟨rfl, Or.inr ⟨by unfold vI; omega, rfl⟩⟩) dX1_fits_95
                · refine lv_iload_n F.1 F.2.1 dX1_fits_84 rfl (lv_at hl 2 rfl) ?_
                  refine lv_bipush (v := nI 31) F.1 F.2.1 dX1_fits_85 (by decide) ?_
                  refine t_icmp_gt (tgt := 94) F rfl (nI_toInt (by decide)) dX1_fits_87 (by decide) (fun b_87 => ?_) (fun b_87 => ?_)
                  · refine lv_iconst (v := nI 0) F.1 F.2.1 dX1_fits_94 (by decide) ?_
                    exact m_retz F hr hlk hI rfl (⟨rfl, Or.inr ⟨by unfold vI; omega, rfl⟩⟩) dX1_fits_95
                  · refine lv_iconst (v := nI 1) F.1 F.2.1 dX1_fits_90 (by decide) ?_
                    refine lv_goto (tgt := 95) F.1 F.2.1 dX1_fits_91 (by decide) ?_
                    exact m_retz F hr hlk hI rfl (⟨rfl, Or.inl ⟨by unfold vI; omega, rfl⟩⟩) dX1_fits_95
          · refine lv_iload_n F.1 F.2.1 dX1_fits_51 rfl (lv_at hl 2 rfl) ?_
            refine lv_iconst (v := nI 1) F.1 F.2.1 dX1_fits_52 (by decide) ?_
            refine t_icmp_lt (tgt := 66) F rfl (nI_toInt (by decide)) dX1_fits_53 (by decide) (fun b_53 => ?_) (fun b_53 => ?_)
            · refine lv_iconst (v := nI 0) F.1 F.2.1 dX1_fits_66 (by decide) ?_
              exact m_retz F hr hlk hI rfl (⟨rfl, Or.inr ⟨by unfold vI; omega, rfl⟩⟩) dX1_fits_67
            · refine lv_iload_n F.1 F.2.1 dX1_fits_56 rfl (lv_at hl 2 rfl) ?_
              refine lv_bipush (v := nI 7) F.1 F.2.1 dX1_fits_57 (by decide) ?_
              refine t_icmp_gt (tgt := 66) F rfl (nI_toInt (by decide)) dX1_fits_59 (by decide) (fun b_59 => ?_) (fun b_59 => ?_)
              · refine lv_iconst (v := nI 0) F.1 F.2.1 dX1_fits_66 (by decide) ?_
                exact m_retz F hr hlk hI rfl (⟨rfl, Or.inr ⟨by unfold vI; omega, rfl⟩⟩) dX1_fits_67
              · refine lv_iconst (v := nI 1) F.1 F.2.1 dX1_fits_62 (by decide) ?_
                refine lv_goto (tgt := 67) F.1 F.2.1 dX1_fits_63 (by decide) ?_
                exact m_retz F hr hlk hI rfl (⟨rfl, Or.inl ⟨by unfold vI; omega, rfl⟩⟩) dX1_fits_67
      · refine lv_iload_n F.1 F.2.1 dX1_fits_17 rfl (lv_at hl 1 rfl) ?_
        refine lv_bipush (v := nI 7) F.1 F.2.1 dX1_fits_18 (by decide) ?_
        refine t_icmp_gt (tgt := 39) F rfl (nI_toInt (by decide)) dX1_fits_20 (by decide) (fun b_20 => ?_) (fun b_20 => ?_)
        · refine lv_iload_n F.1 F.2.1 dX1_fits_39 rfl (lv_at hl 1 rfl) ?_
          refine lv_bipush (v := nI 8) F.1 F.2.1 dX1_fits_40 (by decide) ?_
          refine t_icmp_eq (tgt := 51) F rfl (nI_toInt (by decide)) dX1_fits_42 (by decide) (fun b_42 => ?_) (fun b_42 => ?_)
          · refine lv_iload_n F.1 F.2.1 dX1_fits_51 rfl (lv_at hl 2 rfl) ?_
            refine lv_iconst (v := nI 1) F.1 F.2.1 dX1_fits_52 (by decide) ?_
            refine t_icmp_lt (tgt := 66) F rfl (nI_toInt (by decide)) dX1_fits_53 (by decide) (fun b_53 => ?_) (fun b_53 => ?_)
            · refine lv_iconst (v := nI 0) F.1 F.2.1 dX1_fits_66 (by decide) ?_
              exact m_retz F hr hlk hI rfl (⟨rfl, Or.inr ⟨by unfold vI; omega, rfl⟩⟩) dX1_fits_67
            · refine lv_iload_n F.1 F.2.1 dX1_fits_56 rfl (lv_at hl 2 rfl) ?_
              refine lv_bipush (v := nI 7) F.1 F.2.1 dX1_fits_57 (by decide) ?_
              refine t_icmp_gt (tgt := 66) F rfl (nI_toInt (by decide)) dX1_fits_59 (by decide) (fun b_59 => ?_) (fun b_59 => ?_)
              · refine lv_iconst (v := nI 0) F.1 F.2.1 dX1_fits_66 (by decide) ?_
                exact m_retz F hr hlk hI rfl (⟨rfl, Or.inr ⟨by unfold vI; omega, rfl⟩⟩) dX1_fits_67
              · refine lv_iconst (v := nI 1) F.1 F.2.1 dX1_fits_62 (by decide) ?_
                refine lv_goto (tgt := 67) F.1 F.2.1 dX1_fits_63 (by decide) ?_
                exact m_retz F hr hlk hI rfl (⟨rfl, Or.inl ⟨by unfold vI; omega, rfl⟩⟩) dX1_fits_67
          · refine lv_iload_n F.1 F.2.1 dX1_fits_45 rfl (lv_at hl 1 rfl) ?_
            refine lv_bipush (v := nI 9) F.1 F.2.1 dX1_fits_46 (by decide) ?_
            refine t_icmp_ne (tgt := 68) F rfl (nI_toInt (by decide)) dX1_fits_48 (by decide) (fun b_48 => ?_) (fun b_48 => ?_)
            · refine lv_iload_n F.1 F.2.1 dX1_fits_68 rfl (lv_at hl 1 rfl) ?_
              refine lv_bipush (v := nI 10) F.1 F.2.1 dX1_fits_69 (by decide) ?_
              refine t_icmp_lt (tgt := 90) F rfl (nI_toInt (by decide)) dX1_fits_71 (by decide) (fun b_71 => ?_) (fun b_71 => ?_)
              · refine lv_iconst (v := nI 1) F.1 F.2.1 dX1_fits_90 (by decide) ?_
                refine lv_goto (tgt := 95) F.1 F.2.1 dX1_fits_91 (by decide) ?_
                exact m_retz F hr hlk hI rfl (⟨rfl, Or.inl ⟨by unfold vI; omega, rfl⟩⟩) dX1_fits_95
              · refine lv_iload_n F.1 F.2.1 dX1_fits_74 rfl (lv_at hl 1 rfl) ?_
                refine lv_bipush (v := nI 12) F.1 F.2.1 dX1_fits_75 (by decide) ?_
                refine t_icmp_gt (tgt := 90) F rfl (nI_toInt (by decide)) dX1_fits_77 (by decide) (fun b_77 => ?_) (fun b_77 => ?_)
                · refine lv_iconst (v := nI 1) F.1 F.2.1 dX1_fits_90 (by decide) ?_
                  refine lv_goto (tgt := 95) F.1 F.2.1 dX1_fits_91 (by decide) ?_
                  exact m_retz F hr hlk hI rfl (⟨rfl, Or.inl ⟨by unfold vI; omega, rfl⟩⟩) dX1_fits_95
                · refine lv_iload_n F.1 F.2.1 dX1_fits_80 rfl (lv_at hl 2 rfl) ?_
                  refine t_if_lt (tgt := 94) F rfl dX1_fits_81 (by decide) (fun b_81 => ?_) (fun b_81 => ?_)
                  · refine lv_iconst (v := nI 0) F.1 F.2.1 dX1_fits_94 (by decide) ?_
                    exact m_retz F hr hlk hI rfl (⟨rfl, Or.inr ⟨by unfold vI; omega, rfl⟩⟩) dX1_fits_95
                  · refine lv_iload_n F.1 F.2.1 dX1_fits_84 rfl (lv_at hl 2 rfl) ?_
                    refine lv_bipush (v := nI 31) F.1 F.2.1 dX1_fits_85 (by decide) ?_
                    refine t_icmp_gt (tgt := 94) F rfl (nI_toInt (by decide)) dX1_fits_87 (by decide) (fun b_87 => ?_) (fun b_87 => ?_)
                    · refine lv_iconst (v := nI 0) F.1 F.2.1 dX1_fits_94 (by decide) ?_
                      exact m_retz F hr hlk hI rfl (⟨rfl, Or.inr ⟨by unfold vI; omega, rfl⟩⟩) dX1_fits_95
                    · refine lv_iconst (v := nI 1) F.1 F.2.1 dX1_fits_90 (by decide) ?_
                      refine lv_goto (tgt := 95) F.1 F.2.1 dX1_fits_91 (by decide) ?_
                      exact m_retz F hr hlk hI rfl (⟨rfl, Or.inl ⟨by unfold vI; omega, rfl⟩⟩) dX1_fits_95
            · refine lv_iload_n F.1 F.2.1 dX1_fits_51 rfl (lv_at hl 2 rfl) ?_
              refine lv_iconst (v := nI 1) F.1 F.2.1 dX1_fits_52 (by decide) ?_
              refine t_icmp_lt (tgt := 66) F rfl (nI_toInt (by decide)) dX1_fits_53 (by decide) (fun b_53 => ?_) (fun b_53 => ?_)
              · refine lv_iconst (v := nI 0) F.1 F.2.1 dX1_fits_66 (by decide) ?_
                exact m_retz F hr hlk hI rfl (⟨rfl, Or.inr ⟨by unfold vI; omega, rfl⟩⟩) dX1_fits_67
              · refine lv_iload_n F.1 F.2.1 dX1_fits_56 rfl (lv_at hl 2 rfl) ?_
                refine lv_bipush (v := nI 7) F.1 F.2.1 dX1_fits_57 (by decide) ?_
                refine t_icmp_gt (tgt := 66) F rfl (nI_toInt (by decide)) dX1_fits_59 (by decide) (fun b_59 => ?_) (fun b_59 => ?_)
                · refine lv_iconst (v := nI 0) F.1 F.2.1 dX1_fits_66 (by decide) ?_
                  exact m_retz F hr hlk hI rfl (⟨rfl, Or.inr ⟨by unfold vI; omega, rfl⟩⟩) dX1_fits_67
                · refine lv_iconst (v := nI 1) F.1 F.2.1 dX1_fits_62 (by decide) ?_
                  refine lv_goto (tgt := 67) F.1 F.2.1 dX1_fits_63 (by decide) ?_
                  exact m_retz F hr hlk hI rfl (⟨rfl, Or.inl ⟨by unfold vI; omega, rfl⟩⟩) dX1_fits_67
        · refine lv_iload_n F.1 F.2.1 dX1_fits_23 rfl (lv_at hl 2 rfl) ?_
          refine t_if_lt (tgt := 37) F rfl dX1_fits_24 (by decide) (fun b_24 => ?_) (fun b_24 => ?_)
          · refine lv_iconst (v := nI 0) F.1 F.2.1 dX1_fits_37 (by decide) ?_
            exact m_retz F hr hlk hI rfl (⟨rfl, Or.inr ⟨by unfold vI; omega, rfl⟩⟩) dX1_fits_38
          · refine lv_iload_n F.1 F.2.1 dX1_fits_27 rfl (lv_at hl 2 rfl) ?_
            refine lv_bipush (v := nI 7) F.1 F.2.1 dX1_fits_28 (by decide) ?_
            refine t_icmp_gt (tgt := 37) F rfl (nI_toInt (by decide)) dX1_fits_30 (by decide) (fun b_30 => ?_) (fun b_30 => ?_)
            · refine lv_iconst (v := nI 0) F.1 F.2.1 dX1_fits_37 (by decide) ?_
              exact m_retz F hr hlk hI rfl (⟨rfl, Or.inr ⟨by unfold vI; omega, rfl⟩⟩) dX1_fits_38
            · refine lv_iconst (v := nI 1) F.1 F.2.1 dX1_fits_33 (by decide) ?_
              refine lv_goto (tgt := 38) F.1 F.2.1 dX1_fits_34 (by decide) ?_
              exact m_retz F hr hlk hI rfl (⟨rfl, Or.inl ⟨by unfold vI; omega, rfl⟩⟩) dX1_fits_38
    · refine lv_iconst (v := nI 0) F.1 F.2.1 dX1_fits_10 (by decide) ?_
      exact m_retz F hr hlk hI rfl (⟨rfl, Or.inr ⟨by unfold vI; omega, rfl⟩⟩) dX1_fits_11
set_option maxHeartbeats 4000000 in
set_option maxRecDepth 100000 in
theorem metX0_faults (l : Launch) (g : va_G) (ad : Nat → Nat) (d : Nat → ClassId) (A : Nat → Prop) (u : XS) (o h : Nat) (a : Int32) (ho : o ≤ 13) (hh : h ≤ 8) : Met l yX0_faults (ws_ yX0_faults cX0_faults 4 (some .boolean)) ({ frames := 0, cells := 0, slots := 0, locals := 0 }) (xPc g ad d A u [.int (nI o), .int a, .int (nI h)]) (xQi g ad d A (fun r u2 => u2 = u ∧ (fl o a h ∧ r = nI 1 ∨ ¬ fl o a h ∧ r = nI 0))) 0 0 A := by
  refine x_met (by decide) rfl (Nat.le_of_ble_eq_true rfl) ?_
  intro p e s m below meth c ls F hr hlk hI hl
  have hl : lv_has ls 4 [(0, .ref (ad 0)), (1, .int (nI o)), (2, .int a), (3, .int (nI h))] := hl
  refine lv_iload_n F.1 F.2.1 dX0_faults_0 rfl (lv_at hl 1 rfl) ?_
  refine t_if_eq (tgt := 9) F (nI_toInt (by omega)) dX0_faults_1 (by decide) (fun b_1 => ?_) (fun b_1 => ?_)
  · refine lv_iload_n F.1 F.2.1 dX0_faults_9 rfl (lv_at hl 3 rfl) ?_
    refine lv_bipush (v := nI 8) F.1 F.2.1 dX0_faults_10 (by decide) ?_
    refine t_icmp_lt (tgt := 19) F (nI_toInt (by omega)) (nI_toInt (by decide)) dX0_faults_12 (by decide) (fun b_12 => ?_) (fun b_12 => ?_)
    · refine lv_iconst (v := nI 0) F.1 F.2.1 dX0_faults_19 (by decide) ?_
      exact x_retz F hr hlk hI rfl (⟨rfl, Or.inr ⟨by unfold fl; omega, rfl⟩⟩) dX0_faults_20
    · refine lv_iconst (v := nI 1) F.1 F.2.1 dX0_faults_15 (by decide) ?_
      refine lv_goto (tgt := 20) F.1 F.2.1 dX0_faults_16 (by decide) ?_
      exact x_retz F hr hlk hI rfl (⟨rfl, Or.inl ⟨by unfold fl; omega, rfl⟩⟩) dX0_faults_20
  · refine lv_iload_n F.1 F.2.1 dX0_faults_4 rfl (lv_at hl 1 rfl) ?_
    refine lv_iconst (v := nI 2) F.1 F.2.1 dX0_faults_5 (by decide) ?_
    refine t_icmp_ne (tgt := 21) F (nI_toInt (by omega)) (nI_toInt (by decide)) dX0_faults_6 (by decide) (fun b_6 => ?_) (fun b_6 => ?_)
    · refine lv_iload_n F.1 F.2.1 dX0_faults_21 rfl (lv_at hl 1 rfl) ?_
      refine lv_iconst (v := nI 1) F.1 F.2.1 dX0_faults_22 (by decide) ?_
      refine t_icmp_ne (tgt := 43) F (nI_toInt (by omega)) (nI_toInt (by decide)) dX0_faults_23 (by decide) (fun b_23 => ?_) (fun b_23 => ?_)
      · refine lv_iload_n F.1 F.2.1 dX0_faults_43 rfl (lv_at hl 1 rfl) ?_
        refine lv_iconst (v := nI 3) F.1 F.2.1 dX0_faults_44 (by decide) ?_
        refine t_icmp_eq (tgt := 60) F (nI_toInt (by omega)) (nI_toInt (by decide)) dX0_faults_45 (by decide) (fun b_45 => ?_) (fun b_45 => ?_)
        · refine lv_iload_n F.1 F.2.1 dX0_faults_60 rfl (lv_at hl 3 rfl) ?_
          refine lv_iconst (v := nI 1) F.1 F.2.1 dX0_faults_61 (by decide) ?_
          refine t_icmp_ge (tgt := 69) F (nI_toInt (by omega)) (nI_toInt (by decide)) dX0_faults_62 (by decide) (fun b_62 => ?_) (fun b_62 => ?_)
          · refine lv_iconst (v := nI 0) F.1 F.2.1 dX0_faults_69 (by decide) ?_
            exact x_retz F hr hlk hI rfl (⟨rfl, Or.inr ⟨by unfold fl; omega, rfl⟩⟩) dX0_faults_70
          · refine lv_iconst (v := nI 1) F.1 F.2.1 dX0_faults_65 (by decide) ?_
            refine lv_goto (tgt := 70) F.1 F.2.1 dX0_faults_66 (by decide) ?_
            exact x_retz F hr hlk hI rfl (⟨rfl, Or.inl ⟨by unfold fl; omega, rfl⟩⟩) dX0_faults_70
        · refine lv_iload_n F.1 F.2.1 dX0_faults_48 rfl (lv_at hl 1 rfl) ?_
          refine lv_bipush (v := nI 10) F.1 F.2.1 dX0_faults_49 (by decide) ?_
          refine t_icmp_eq (tgt := 60) F (nI_toInt (by omega)) (nI_toInt (by decide)) dX0_faults_51 (by decide) (fun b_51 => ?_) (fun b_51 => ?_)
          · refine lv_iload_n F.1 F.2.1 dX0_faults_60 rfl (lv_at hl 3 rfl) ?_
            refine lv_iconst (v := nI 1) F.1 F.2.1 dX0_faults_61 (by decide) ?_
            refine t_icmp_ge (tgt := 69) F (nI_toInt (by omega)) (nI_toInt (by decide)) dX0_faults_62 (by decide) (fun b_62 => ?_) (fun b_62 => ?_)
            · refine lv_iconst (v := nI 0) F.1 F.2.1 dX0_faults_69 (by decide) ?_
              exact x_retz F hr hlk hI rfl (⟨rfl, Or.inr ⟨by unfold fl; omega, rfl⟩⟩) dX0_faults_70
            · refine lv_iconst (v := nI 1) F.1 F.2.1 dX0_faults_65 (by decide) ?_
              refine lv_goto (tgt := 70) F.1 F.2.1 dX0_faults_66 (by decide) ?_
              exact x_retz F hr hlk hI rfl (⟨rfl, Or.inl ⟨by unfold fl; omega, rfl⟩⟩) dX0_faults_70
          · refine lv_iload_n F.1 F.2.1 dX0_faults_54 rfl (lv_at hl 1 rfl) ?_
            refine lv_bipush (v := nI 11) F.1 F.2.1 dX0_faults_55 (by decide) ?_
            refine t_icmp_ne (tgt := 71) F (nI_toInt (by omega)) (nI_toInt (by decide)) dX0_faults_57 (by decide) (fun b_57 => ?_) (fun b_57 => ?_)
            · refine lv_iload_n F.1 F.2.1 dX0_faults_71 rfl (lv_at hl 1 rfl) ?_
              refine lv_bipush (v := nI 12) F.1 F.2.1 dX0_faults_72 (by decide) ?_
              refine t_icmp_eq (tgt := 83) F (nI_toInt (by omega)) (nI_toInt (by decide)) dX0_faults_74 (by decide) (fun b_74 => ?_) (fun b_74 => ?_)
              · refine lv_iconst (v := nI 0) F.1 F.2.1 dX0_faults_83 (by decide) ?_
                exact x_retz F hr hlk hI rfl (⟨rfl, Or.inr ⟨by unfold fl; omega, rfl⟩⟩) dX0_faults_84
              · refine lv_iload_n F.1 F.2.1 dX0_faults_77 rfl (lv_at hl 1 rfl) ?_
                refine lv_bipush (v := nI 13) F.1 F.2.1 dX0_faults_78 (by decide) ?_
                refine t_icmp_ne (tgt := 85) F (nI_toInt (by omega)) (nI_toInt (by decide)) dX0_faults_80 (by decide) (fun b_80 => ?_) (fun b_80 => ?_)
                · refine lv_iload_n F.1 F.2.1 dX0_faults_85 rfl (lv_at hl 2 rfl) ?_
                  refine lv_iload_n F.1 F.2.1 dX0_faults_86 rfl (lv_at hl 3 rfl) ?_
                  refine t_icmp_lt (tgt := 94) F rfl (nI_toInt (by omega)) dX0_faults_87 (by decide) (fun b_87 => ?_) (fun b_87 => ?_)
                  · refine lv_iconst (v := nI 0) F.1 F.2.1 dX0_faults_94 (by decide) ?_
                    exact x_retz F hr hlk hI rfl (⟨rfl, Or.inr ⟨by unfold fl; omega, rfl⟩⟩) dX0_faults_95
                  · refine lv_iconst (v := nI 1) F.1 F.2.1 dX0_faults_90 (by decide) ?_
                    refine lv_goto (tgt := 95) F.1 F.2.1 dX0_faults_91 (by decide) ?_
                    exact x_retz F hr hlk hI rfl (⟨rfl, Or.inl ⟨by unfold fl; omega, rfl⟩⟩) dX0_faults_95
                · refine lv_iconst (v := nI 0) F.1 F.2.1 dX0_faults_83 (by decide) ?_
                  exact x_retz F hr hlk hI rfl (⟨rfl, Or.inr ⟨by unfold fl; omega, rfl⟩⟩) dX0_faults_84
            · refine lv_iload_n F.1 F.2.1 dX0_faults_60 rfl (lv_at hl 3 rfl) ?_
              refine lv_iconst (v := nI 1) F.1 F.2.1 dX0_faults_61 (by decide) ?_
              refine t_icmp_ge (tgt := 69) F (nI_toInt (by omega)) (nI_toInt (by decide)) dX0_faults_62 (by decide) (fun b_62 => ?_) (fun b_62 => ?_)
              · refine lv_iconst (v := nI 0) F.1 F.2.1 dX0_faults_69 (by decide) ?_
                exact x_retz F hr hlk hI rfl (⟨rfl, Or.inr ⟨by unfold fl; omega, rfl⟩⟩) dX0_faults_70
              · refine lv_iconst (v := nI 1) F.1 F.2.1 dX0_faults_65 (by decide) ?_
                refine lv_goto (tgt := 70) F.1 F.2.1 dX0_faults_66 (by decide) ?_
                exact x_retz F hr hlk hI rfl (⟨rfl, Or.inl ⟨by unfold fl; omega, rfl⟩⟩) dX0_faults_70
      · refine lv_iload_n F.1 F.2.1 dX0_faults_26 rfl (lv_at hl 3 rfl) ?_
        refine lv_bipush (v := nI 8) F.1 F.2.1 dX0_faults_27 (by decide) ?_
        refine t_icmp_ge (tgt := 37) F (nI_toInt (by omega)) (nI_toInt (by decide)) dX0_faults_29 (by decide) (fun b_29 => ?_) (fun b_29 => ?_)
        · refine lv_iconst (v := nI 1) F.1 F.2.1 dX0_faults_37 (by decide) ?_
          refine lv_goto (tgt := 42) F.1 F.2.1 dX0_faults_38 (by decide) ?_
          exact x_retz F hr hlk hI rfl (⟨rfl, Or.inl ⟨by unfold fl; omega, rfl⟩⟩) dX0_faults_42
        · refine lv_iload_n F.1 F.2.1 dX0_faults_32 rfl (lv_at hl 2 rfl) ?_
          refine lv_iload_n F.1 F.2.1 dX0_faults_33 rfl (lv_at hl 3 rfl) ?_
          refine t_icmp_lt (tgt := 41) F rfl (nI_toInt (by omega)) dX0_faults_34 (by decide) (fun b_34 => ?_) (fun b_34 => ?_)
          · refine lv_iconst (v := nI 0) F.1 F.2.1 dX0_faults_41 (by decide) ?_
            exact x_retz F hr hlk hI rfl (⟨rfl, Or.inr ⟨by unfold fl; omega, rfl⟩⟩) dX0_faults_42
          · refine lv_iconst (v := nI 1) F.1 F.2.1 dX0_faults_37 (by decide) ?_
            refine lv_goto (tgt := 42) F.1 F.2.1 dX0_faults_38 (by decide) ?_
            exact x_retz F hr hlk hI rfl (⟨rfl, Or.inl ⟨by unfold fl; omega, rfl⟩⟩) dX0_faults_42
    · refine lv_iload_n F.1 F.2.1 dX0_faults_9 rfl (lv_at hl 3 rfl) ?_
      refine lv_bipush (v := nI 8) F.1 F.2.1 dX0_faults_10 (by decide) ?_
      refine t_icmp_lt (tgt := 19) F (nI_toInt (by omega)) (nI_toInt (by decide)) dX0_faults_12 (by decide) (fun b_12 => ?_) (fun b_12 => ?_)
      · refine lv_iconst (v := nI 0) F.1 F.2.1 dX0_faults_19 (by decide) ?_
        exact x_retz F hr hlk hI rfl (⟨rfl, Or.inr ⟨by unfold fl; omega, rfl⟩⟩) dX0_faults_20
      · refine lv_iconst (v := nI 1) F.1 F.2.1 dX0_faults_15 (by decide) ?_
        refine lv_goto (tgt := 20) F.1 F.2.1 dX0_faults_16 (by decide) ?_
        exact x_retz F hr hlk hI rfl (⟨rfl, Or.inl ⟨by unfold fl; omega, rfl⟩⟩) dX0_faults_20
set_option maxHeartbeats 4000000 in
set_option maxRecDepth 100000 in
theorem metX0_poke (l : Launch) (g : va_G) (ad : Nat → Nat) (d : Nat → ClassId) (A : Nat → Prop) (u : XS) (a v : Int32) : Met l yX0_poke (ws_ yX0_poke cX0_poke 3 (some .boolean)) ({ frames := 0, cells := 0, slots := 0, locals := 0 }) (xPc g ad d A u [.int a, .int v]) (xQi g ad d A (fun r u2 => (∃ k : Nat, k < 8 ∧ a = nI k ∧ u2 = xz u 3 k v ∧ r = nI 1) ∨ ((a.toInt < 0 ∨ 7 < a.toInt) ∧ u2 = u ∧ r = nI 0))) 0 0 A := by
  refine x_met (by decide) rfl (Nat.le_of_ble_eq_true rfl) ?_
  intro p e s m below meth c ls F hr hlk hI hl
  have hl : lv_has ls 3 [(0, .ref (ad 0)), (1, .int a), (2, .int v)] := hl
  refine lv_iload_n F.1 F.2.1 dX0_poke_0 rfl (lv_at hl 1 rfl) ?_
  refine t_if_lt (tgt := 10) F rfl dX0_poke_1 (by decide) (fun b_1 => ?_) (fun b_1 => ?_)
  · refine lv_iconst (v := nI 0) F.1 F.2.1 dX0_poke_10 (by decide) ?_
    exact x_retz F hr hlk hI rfl (Or.inr ⟨by omega, rfl, rfl⟩) dX0_poke_11
  · refine lv_iload_n F.1 F.2.1 dX0_poke_4 rfl (lv_at hl 1 rfl) ?_
    refine lv_bipush (v := nI 7) F.1 F.2.1 dX0_poke_5 (by decide) ?_
    refine t_icmp_le (tgt := 12) F rfl (nI_toInt (by decide)) dX0_poke_7 (by decide) (fun b_7 => ?_) (fun b_7 => ?_)
    · obtain ⟨k, rfl, hk, hk31⟩ := n_of a (by omega)
      refine lv_aload_n F.1 F.2.1 dX0_poke_12 rfl (lv_at hl 0 rfl) ?_
      refine xg3 F hI dX0_poke_13 ?_
      refine lv_iload_n F.1 F.2.1 dX0_poke_16 rfl (lv_at hl 1 rfl) ?_
      refine lv_iload_n F.1 F.2.1 dX0_poke_17 rfl (lv_at hl 2 rfl) ?_
      refine xt3 (x := v) F hI (by omega) dX0_poke_18 (fun H locs hI => ?_)
      refine lv_iconst (v := nI 1) F.1 F.2.1 dX0_poke_19 (by decide) ?_
      exact x_retz F hr hlk hI rfl (Or.inl ⟨k, by omega, rfl, rfl, rfl⟩) dX0_poke_20
    · refine lv_iconst (v := nI 0) F.1 F.2.1 dX0_poke_10 (by decide) ?_
      exact x_retz F hr hlk hI rfl (Or.inr ⟨by omega, rfl, rfl⟩) dX0_poke_11
set_option maxHeartbeats 4000000 in
set_option maxRecDepth 100000 in
theorem metX1_poke (l : Launch) (g : va_G) (ad : Nat → Nat) (d : Nat → ClassId) (A : Nat → Prop) (u : XS) (a v : Int32) : Met l yX1_poke (ws_ yX1_poke cX1_poke 3 (some .boolean)) ({ frames := 0, cells := 0, slots := 0, locals := 0 }) (mPc g ad d A u [.int a, .int v]) (mQi g ad d A (fun r u2 => (∃ k : Nat, k < 8 ∧ a = nI k ∧ u2 = xz u 5 k v ∧ r = nI 1) ∨ ((a.toInt < 0 ∨ 7 < a.toInt) ∧ u2 = u ∧ r = nI 0))) 0 0 A := by
  refine m_met (by decide) rfl (Nat.le_of_ble_eq_true rfl) ?_
  intro p e s m below meth c ls F hr hlk hI hl
  have hl : lv_has ls 3 [(0, .ref (ad 0)), (1, .int a), (2, .int v)] := hl
  refine lv_iload_n F.1 F.2.1 dX1_poke_0 rfl (lv_at hl 1 rfl) ?_
  refine t_if_lt (tgt := 10) F rfl dX1_poke_1 (by decide) (fun b_1 => ?_) (fun b_1 => ?_)
  · refine lv_iconst (v := nI 0) F.1 F.2.1 dX1_poke_10 (by decide) ?_
    exact m_retz F hr hlk hI rfl (Or.inr ⟨by omega, rfl, rfl⟩) dX1_poke_11
  · refine lv_iload_n F.1 F.2.1 dX1_poke_4 rfl (lv_at hl 1 rfl) ?_
    refine lv_bipush (v := nI 7) F.1 F.2.1 dX1_poke_5 (by decide) ?_
    refine t_icmp_le (tgt := 12) F rfl (nI_toInt (by decide)) dX1_poke_7 (by decide) (fun b_7 => ?_) (fun b_7 => ?_)
    · obtain ⟨k, rfl, hk, hk31⟩ := n_of a (by omega)
      refine lv_aload_n F.1 F.2.1 dX1_poke_12 rfl (lv_at hl 0 rfl) ?_
      refine mg5 F hI dX1_poke_13 ?_
      refine lv_iload_n F.1 F.2.1 dX1_poke_16 rfl (lv_at hl 1 rfl) ?_
      refine lv_iload_n F.1 F.2.1 dX1_poke_17 rfl (lv_at hl 2 rfl) ?_
      refine mt5 (x := v) F hI (by omega) dX1_poke_18 (fun H locs hI => ?_)
      refine lv_iconst (v := nI 1) F.1 F.2.1 dX1_poke_19 (by decide) ?_
      exact m_retz F hr hlk hI rfl (Or.inl ⟨k, by omega, rfl, rfl, rfl⟩) dX1_poke_20
    · refine lv_iconst (v := nI 0) F.1 F.2.1 dX1_poke_10 (by decide) ?_
      exact m_retz F hr hlk hI rfl (Or.inr ⟨by omega, rfl, rfl⟩) dX1_poke_11
set_option maxHeartbeats 4000000 in
set_option maxRecDepth 100000 in
theorem metX0_memory (l : Launch) (g : va_G) (ad : Nat → Nat) (d : Nat → ClassId) (A : Nat → Prop) (u : XS) (a : Int32) : Met l yX0_memory (ws_ yX0_memory cX0_memory 2 (some .int)) ({ frames := 0, cells := 0, slots := 0, locals := 0 }) (xPc g ad d A u [.int a]) (xQi g ad d A (fun r u2 => u2 = u ∧ ((∃ k : Nat, k < 8 ∧ a = nI k ∧ r = u.2.2 3 k) ∨ ((a.toInt < 0 ∨ 7 < a.toInt) ∧ r = nI 0)))) 0 0 A := by
  refine x_met (by decide) rfl (Nat.le_of_ble_eq_true rfl) ?_
  intro p e s m below meth c ls F hr hlk hI hl
  have hl : lv_has ls 2 [(0, .ref (ad 0)), (1, .int a)] := hl
  refine lv_iload_n F.1 F.2.1 dX0_memory_0 rfl (lv_at hl 1 rfl) ?_
  refine t_if_lt (tgt := 10) F rfl dX0_memory_1 (by decide) (fun b_1 => ?_) (fun b_1 => ?_)
  · refine lv_iconst (v := nI 0) F.1 F.2.1 dX0_memory_10 (by decide) ?_
    refine lv_goto (tgt := 20) F.1 F.2.1 dX0_memory_11 (by decide) ?_
    exact x_reti F hr hlk hI (⟨rfl, Or.inr ⟨by omega, rfl⟩⟩) dX0_memory_20
  · refine lv_iload_n F.1 F.2.1 dX0_memory_4 rfl (lv_at hl 1 rfl) ?_
    refine lv_bipush (v := nI 7) F.1 F.2.1 dX0_memory_5 (by decide) ?_
    refine t_icmp_le (tgt := 14) F rfl (nI_toInt (by decide)) dX0_memory_7 (by decide) (fun b_7 => ?_) (fun b_7 => ?_)
    · obtain ⟨k, rfl, hk, hk31⟩ := n_of a (by omega)
      refine lv_aload_n F.1 F.2.1 dX0_memory_14 rfl (lv_at hl 0 rfl) ?_
      refine xg3 F hI dX0_memory_15 ?_
      refine lv_iload_n F.1 F.2.1 dX0_memory_18 rfl (lv_at hl 1 rfl) ?_
      refine xl3 (x := u.2.2 3 k) F hI (by omega) rfl dX0_memory_19 ?_
      exact x_reti F hr hlk hI (⟨rfl, Or.inl ⟨k, by omega, rfl, rfl⟩⟩) dX0_memory_20
    · refine lv_iconst (v := nI 0) F.1 F.2.1 dX0_memory_10 (by decide) ?_
      refine lv_goto (tgt := 20) F.1 F.2.1 dX0_memory_11 (by decide) ?_
      exact x_reti F hr hlk hI (⟨rfl, Or.inr ⟨by omega, rfl⟩⟩) dX0_memory_20
set_option maxHeartbeats 4000000 in
set_option maxRecDepth 100000 in
theorem metX1_memory (l : Launch) (g : va_G) (ad : Nat → Nat) (d : Nat → ClassId) (A : Nat → Prop) (u : XS) (a : Int32) : Met l yX1_memory (ws_ yX1_memory cX1_memory 2 (some .int)) ({ frames := 0, cells := 0, slots := 0, locals := 0 }) (mPc g ad d A u [.int a]) (mQi g ad d A (fun r u2 => u2 = u ∧ ((∃ k : Nat, k < 8 ∧ a = nI k ∧ r = u.2.2 5 k) ∨ ((a.toInt < 0 ∨ 7 < a.toInt) ∧ r = nI 0)))) 0 0 A := by
  refine m_met (by decide) rfl (Nat.le_of_ble_eq_true rfl) ?_
  intro p e s m below meth c ls F hr hlk hI hl
  have hl : lv_has ls 2 [(0, .ref (ad 0)), (1, .int a)] := hl
  refine lv_iload_n F.1 F.2.1 dX1_memory_0 rfl (lv_at hl 1 rfl) ?_
  refine t_if_lt (tgt := 19) F rfl dX1_memory_1 (by decide) (fun b_1 => ?_) (fun b_1 => ?_)
  · refine lv_iconst (v := nI 0) F.1 F.2.1 dX1_memory_19 (by decide) ?_
    exact m_reti F hr hlk hI (⟨rfl, Or.inr ⟨by omega, rfl⟩⟩) dX1_memory_20
  · refine lv_iload_n F.1 F.2.1 dX1_memory_4 rfl (lv_at hl 1 rfl) ?_
    refine lv_bipush (v := nI 7) F.1 F.2.1 dX1_memory_5 (by decide) ?_
    refine t_icmp_gt (tgt := 19) F rfl (nI_toInt (by decide)) dX1_memory_7 (by decide) (fun b_7 => ?_) (fun b_7 => ?_)
    · refine lv_iconst (v := nI 0) F.1 F.2.1 dX1_memory_19 (by decide) ?_
      exact m_reti F hr hlk hI (⟨rfl, Or.inr ⟨by omega, rfl⟩⟩) dX1_memory_20
    · obtain ⟨k, rfl, hk, hk31⟩ := n_of a (by omega)
      refine lv_aload_n F.1 F.2.1 dX1_memory_10 rfl (lv_at hl 0 rfl) ?_
      refine mg5 F hI dX1_memory_11 ?_
      refine lv_iload_n F.1 F.2.1 dX1_memory_14 rfl (lv_at hl 1 rfl) ?_
      refine ml5 (x := u.2.2 5 k) F hI (by omega) rfl dX1_memory_15 ?_
      refine lv_goto (tgt := 20) F.1 F.2.1 dX1_memory_16 (by decide) ?_
      exact m_reti F hr hlk hI (⟨rfl, Or.inl ⟨k, by omega, rfl, rfl⟩⟩) dX1_memory_20
set_option maxHeartbeats 4000000 in
set_option maxRecDepth 100000 in
theorem metX0_st (l : Launch) (g : va_G) (ad : Nat → Nat) (d : Nat → ClassId) (A : Nat → Prop) (u : XS) (a : Int32) (hh : u.1 5 ≤ 8) : Met l yX0_st (ws_ yX0_st cX0_st 2 (some .int)) ({ frames := 0, cells := 0, slots := 0, locals := 0 }) (xPc g ad d A u [.int a]) (xQi g ad d A (fun r u2 => u2 = u ∧ ((∃ k : Nat, k < u.1 5 ∧ a = nI k ∧ r = u.2.2 4 (u.1 5 - 1 - k)) ∨ ((a.toInt < 0 ∨ (u.1 5 : Int) ≤ a.toInt) ∧ r = nI 0)))) 0 0 A := by
  refine x_met (by decide) rfl (Nat.le_of_ble_eq_true rfl) ?_
  intro p e s m below meth c ls F hr hlk hI hl
  have hl : lv_has ls 2 [(0, .ref (ad 0)), (1, .int a)] := hl
  refine lv_iload_n F.1 F.2.1 dX0_st_0 rfl (lv_at hl 1 rfl) ?_
  refine t_if_lt (tgt := 12) F rfl dX0_st_1 (by decide) (fun b_1 => ?_) (fun b_1 => ?_)
  · refine lv_iconst (v := nI 0) F.1 F.2.1 dX0_st_12 (by decide) ?_
    exact x_reti F hr hlk hI (⟨rfl, Or.inr ⟨by omega, rfl⟩⟩) dX0_st_13
  · refine lv_iload_n F.1 F.2.1 dX0_st_4 rfl (lv_at hl 1 rfl) ?_
    refine lv_aload_n F.1 F.2.1 dX0_st_5 rfl (lv_at hl 0 rfl) ?_
    refine xg5 (v := u.1 5) F hI rfl dX0_st_6 ?_
    refine t_icmp_lt (tgt := 14) F rfl (nI_toInt (by omega)) dX0_st_9 (by decide) (fun b_9 => ?_) (fun b_9 => ?_)
    · obtain ⟨k, rfl, hk, hk31⟩ := n_of a (by omega)
      refine lv_aload_n F.1 F.2.1 dX0_st_14 rfl (lv_at hl 0 rfl) ?_
      refine xg4 F hI dX0_st_15 ?_
      refine lv_aload_n F.1 F.2.1 dX0_st_18 rfl (lv_at hl 0 rfl) ?_
      refine xg5 (v := u.1 5) F hI rfl dX0_st_19 ?_
      refine lv_iconst (v := nI 1) F.1 F.2.1 dX0_st_22 (by decide) ?_
      refine n_isub F (by omega) dX0_st_23 ?_
      refine lv_iload_n F.1 F.2.1 dX0_st_24 rfl (lv_at hl 1 rfl) ?_
      refine n_isub F (by omega) dX0_st_25 ?_
      refine xl4 (x := u.2.2 4 (((u.1 5) - 1) - k)) F hI (by omega) rfl dX0_st_26 ?_
      exact x_reti F hr hlk hI (⟨rfl, Or.inl ⟨k, by omega, rfl, rfl⟩⟩) dX0_st_27
    · refine lv_iconst (v := nI 0) F.1 F.2.1 dX0_st_12 (by decide) ?_
      exact x_reti F hr hlk hI (⟨rfl, Or.inr ⟨by omega, rfl⟩⟩) dX0_st_13
set_option maxHeartbeats 4000000 in
set_option maxRecDepth 100000 in
theorem metX1_st (l : Launch) (g : va_G) (ad : Nat → Nat) (d : Nat → ClassId) (A : Nat → Prop) (u : XS) (a : Int32) (hh : u.1 4 ≤ 8) : Met l yX1_st (ws_ yX1_st cX1_st 2 (some .int)) ({ frames := 0, cells := 0, slots := 0, locals := 0 }) (mPc g ad d A u [.int a]) (mQi g ad d A (fun r u2 => u2 = u ∧ ((∃ k : Nat, k < u.1 4 ∧ a = nI k ∧ r = u.2.2 3 k) ∨ ((a.toInt < 0 ∨ (u.1 4 : Int) ≤ a.toInt) ∧ r = nI 0)))) 0 0 A := by
  refine m_met (by decide) rfl (Nat.le_of_ble_eq_true rfl) ?_
  intro p e s m below meth c ls F hr hlk hI hl
  have hl : lv_has ls 2 [(0, .ref (ad 0)), (1, .int a)] := hl
  refine lv_iload_n F.1 F.2.1 dX1_st_0 rfl (lv_at hl 1 rfl) ?_
  refine t_if_lt (tgt := 21) F rfl dX1_st_1 (by decide) (fun b_1 => ?_) (fun b_1 => ?_)
  · refine lv_iconst (v := nI 0) F.1 F.2.1 dX1_st_21 (by decide) ?_
    exact m_reti F hr hlk hI (⟨rfl, Or.inr ⟨by omega, rfl⟩⟩) dX1_st_22
  · refine lv_iload_n F.1 F.2.1 dX1_st_4 rfl (lv_at hl 1 rfl) ?_
    refine lv_aload_n F.1 F.2.1 dX1_st_5 rfl (lv_at hl 0 rfl) ?_
    refine mg4 (v := u.1 4) F hI rfl dX1_st_6 ?_
    refine t_icmp_ge (tgt := 21) F rfl (nI_toInt (by omega)) dX1_st_9 (by decide) (fun b_9 => ?_) (fun b_9 => ?_)
    · refine lv_iconst (v := nI 0) F.1 F.2.1 dX1_st_21 (by decide) ?_
      exact m_reti F hr hlk hI (⟨rfl, Or.inr ⟨by omega, rfl⟩⟩) dX1_st_22
    · obtain ⟨k, rfl, hk, hk31⟩ := n_of a (by omega)
      refine lv_aload_n F.1 F.2.1 dX1_st_12 rfl (lv_at hl 0 rfl) ?_
      refine mg3 F hI dX1_st_13 ?_
      refine lv_iload_n F.1 F.2.1 dX1_st_16 rfl (lv_at hl 1 rfl) ?_
      refine ml3 (x := u.2.2 3 k) F hI (by omega) rfl dX1_st_17 ?_
      refine lv_goto (tgt := 22) F.1 F.2.1 dX1_st_18 (by decide) ?_
      exact m_reti F hr hlk hI (⟨rfl, Or.inl ⟨k, by omega, rfl, rfl⟩⟩) dX1_st_22
set_option maxHeartbeats 4000000 in
set_option maxRecDepth 100000 in
theorem metX0_depth (l : Launch) (g : va_G) (ad : Nat → Nat) (d : Nat → ClassId) (A : Nat → Prop) (u : XS) : Met l yX0_depth (ws_ yX0_depth cX0_depth 1 (some .int)) ({ frames := 0, cells := 0, slots := 0, locals := 0 }) (xPc g ad d A u []) (xQi g ad d A (fun r u2 => u2 = u ∧ r = nI (u.1 5))) 0 0 A := by
  refine x_met (by decide) rfl (Nat.le_of_ble_eq_true rfl) ?_
  intro p e s m below meth c ls F hr hlk hI hl
  have hl : lv_has ls 1 [(0, .ref (ad 0))] := hl
  refine lv_aload_n F.1 F.2.1 dX0_depth_0 rfl (lv_at hl 0 rfl) ?_
  refine xg5 (v := u.1 5) F hI rfl dX0_depth_1 ?_
  exact x_reti F hr hlk hI (⟨rfl, rfl⟩) dX0_depth_4
set_option maxHeartbeats 4000000 in
set_option maxRecDepth 100000 in
theorem metX0_place (l : Launch) (g : va_G) (ad : Nat → Nat) (d : Nat → ClassId) (A : Nat → Prop) (u : XS) : Met l yX0_place (ws_ yX0_place cX0_place 1 (some .int)) ({ frames := 0, cells := 0, slots := 0, locals := 0 }) (xPc g ad d A u []) (xQi g ad d A (fun r u2 => u2 = u ∧ r = nI (u.1 6))) 0 0 A := by
  refine x_met (by decide) rfl (Nat.le_of_ble_eq_true rfl) ?_
  intro p e s m below meth c ls F hr hlk hI hl
  have hl : lv_has ls 1 [(0, .ref (ad 0))] := hl
  refine lv_aload_n F.1 F.2.1 dX0_place_0 rfl (lv_at hl 0 rfl) ?_
  refine xg6 (v := u.1 6) F hI rfl dX0_place_1 ?_
  exact x_reti F hr hlk hI (⟨rfl, rfl⟩) dX0_place_4
set_option maxHeartbeats 4000000 in
set_option maxRecDepth 100000 in
theorem metX0_executed (l : Launch) (g : va_G) (ad : Nat → Nat) (d : Nat → ClassId) (A : Nat → Prop) (u : XS) : Met l yX0_executed (ws_ yX0_executed cX0_executed 1 (some .int)) ({ frames := 0, cells := 0, slots := 0, locals := 0 }) (xPc g ad d A u []) (xQi g ad d A (fun r u2 => u2 = u ∧ r = nI (u.1 8))) 0 0 A := by
  refine x_met (by decide) rfl (Nat.le_of_ble_eq_true rfl) ?_
  intro p e s m below meth c ls F hr hlk hI hl
  have hl : lv_has ls 1 [(0, .ref (ad 0))] := hl
  refine lv_aload_n F.1 F.2.1 dX0_executed_0 rfl (lv_at hl 0 rfl) ?_
  refine xg8 (v := u.1 8) F hI rfl dX0_executed_1 ?_
  exact x_reti F hr hlk hI (⟨rfl, rfl⟩) dX0_executed_4
set_option maxHeartbeats 4000000 in
set_option maxRecDepth 100000 in
theorem metX1_depth (l : Launch) (g : va_G) (ad : Nat → Nat) (d : Nat → ClassId) (A : Nat → Prop) (u : XS) : Met l yX1_depth (ws_ yX1_depth cX1_depth 1 (some .int)) ({ frames := 0, cells := 0, slots := 0, locals := 0 }) (mPc g ad d A u []) (mQi g ad d A (fun r u2 => u2 = u ∧ r = nI (u.1 4))) 0 0 A := by
  refine m_met (by decide) rfl (Nat.le_of_ble_eq_true rfl) ?_
  intro p e s m below meth c ls F hr hlk hI hl
  have hl : lv_has ls 1 [(0, .ref (ad 0))] := hl
  refine lv_aload_n F.1 F.2.1 dX1_depth_0 rfl (lv_at hl 0 rfl) ?_
  refine mg4 (v := u.1 4) F hI rfl dX1_depth_1 ?_
  exact m_reti F hr hlk hI (⟨rfl, rfl⟩) dX1_depth_4
set_option maxHeartbeats 4000000 in
set_option maxRecDepth 100000 in
theorem metX1_place (l : Launch) (g : va_G) (ad : Nat → Nat) (d : Nat → ClassId) (A : Nat → Prop) (u : XS) : Met l yX1_place (ws_ yX1_place cX1_place 1 (some .int)) ({ frames := 0, cells := 0, slots := 0, locals := 0 }) (mPc g ad d A u []) (mQi g ad d A (fun r u2 => u2 = u ∧ r = nI (u.1 6))) 0 0 A := by
  refine m_met (by decide) rfl (Nat.le_of_ble_eq_true rfl) ?_
  intro p e s m below meth c ls F hr hlk hI hl
  have hl : lv_has ls 1 [(0, .ref (ad 0))] := hl
  refine lv_aload_n F.1 F.2.1 dX1_place_0 rfl (lv_at hl 0 rfl) ?_
  refine mg6 (v := u.1 6) F hI rfl dX1_place_1 ?_
  exact m_reti F hr hlk hI (⟨rfl, rfl⟩) dX1_place_4
set_option maxHeartbeats 4000000 in
set_option maxRecDepth 100000 in
theorem metX1_executed (l : Launch) (g : va_G) (ad : Nat → Nat) (d : Nat → ClassId) (A : Nat → Prop) (u : XS) : Met l yX1_executed (ws_ yX1_executed cX1_executed 1 (some .int)) ({ frames := 0, cells := 0, slots := 0, locals := 0 }) (mPc g ad d A u []) (mQi g ad d A (fun r u2 => u2 = u ∧ r = nI (u.1 7))) 0 0 A := by
  refine m_met (by decide) rfl (Nat.le_of_ble_eq_true rfl) ?_
  intro p e s m below meth c ls F hr hlk hI hl
  have hl : lv_has ls 1 [(0, .ref (ad 0))] := hl
  refine lv_aload_n F.1 F.2.1 dX1_executed_0 rfl (lv_at hl 0 rfl) ?_
  refine mg7 (v := u.1 7) F hI rfl dX1_executed_1 ?_
  exact m_reti F hr hlk hI (⟨rfl, rfl⟩) dX1_executed_4
set_option maxHeartbeats 4000000 in
set_option maxRecDepth 100000 in
theorem metX0_start (l : Launch) (g : va_G) (ad : Nat → Nat) (d : Nat → ClassId) (A : Nat → Prop) (u : XS) : Met l yX0_start (ws_ yX0_start cX0_start 1 none) ({ frames := 0, cells := 0, slots := 0, locals := 0 }) (xPc g ad d A u []) (xQv g ad d A (fun u2 => u2 = xs (xs (xs (xs u 5 0) 6 0) 8 0) 7 0)) 0 0 A := by
  refine x_met (by decide) rfl (Nat.le_of_ble_eq_true rfl) ?_
  intro p e s m below meth c ls F hr hlk hI hl
  have hl : lv_has ls 1 [(0, .ref (ad 0))] := hl
  refine lv_aload_n F.1 F.2.1 dX0_start_0 rfl (lv_at hl 0 rfl) ?_
  refine lv_iconst (v := nI 0) F.1 F.2.1 dX0_start_1 (by decide) ?_
  refine xp5 (v := 0) F hI dX0_start_2 (fun H locs hI => ?_)
  refine lv_aload_n F.1 F.2.1 dX0_start_5 rfl (lv_at hl 0 rfl) ?_
  refine lv_iconst (v := nI 0) F.1 F.2.1 dX0_start_6 (by decide) ?_
  refine xp6 (v := 0) F hI dX0_start_7 (fun H locs hI => ?_)
  refine lv_aload_n F.1 F.2.1 dX0_start_10 rfl (lv_at hl 0 rfl) ?_
  refine lv_iconst (v := nI 0) F.1 F.2.1 dX0_start_11 (by decide) ?_
  refine xp8 (v := 0) F hI dX0_start_12 (fun H locs hI => ?_)
  refine lv_aload_n F.1 F.2.1 dX0_start_15 rfl (lv_at hl 0 rfl) ?_
  refine lv_iconst (v := nI 0) F.1 F.2.1 dX0_start_16 (by decide) ?_
  refine xp7 (v := 0) F hI dX0_start_17 (fun H locs hI => ?_)
  exact x_retv F hr hlk hI (rfl) dX0_start_20
set_option maxHeartbeats 4000000 in
set_option maxRecDepth 100000 in
theorem metX1_start (l : Launch) (g : va_G) (ad : Nat → Nat) (d : Nat → ClassId) (A : Nat → Prop) (u : XS) : Met l yX1_start (ws_ yX1_start cX1_start 1 none) ({ frames := 0, cells := 0, slots := 0, locals := 0 }) (mPc g ad d A u []) (mQv g ad d A (fun u2 => u2 = xs (xs (xs (xs u 4 0) 6 0) 7 0) 8 0)) 0 0 A := by
  refine m_met (by decide) rfl (Nat.le_of_ble_eq_true rfl) ?_
  intro p e s m below meth c ls F hr hlk hI hl
  have hl : lv_has ls 1 [(0, .ref (ad 0))] := hl
  refine lv_aload_n F.1 F.2.1 dX1_start_0 rfl (lv_at hl 0 rfl) ?_
  refine lv_iconst (v := nI 0) F.1 F.2.1 dX1_start_1 (by decide) ?_
  refine mp4 (v := 0) F hI dX1_start_2 (fun H locs hI => ?_)
  refine lv_aload_n F.1 F.2.1 dX1_start_5 rfl (lv_at hl 0 rfl) ?_
  refine lv_iconst (v := nI 0) F.1 F.2.1 dX1_start_6 (by decide) ?_
  refine mp6 (v := 0) F hI dX1_start_7 (fun H locs hI => ?_)
  refine lv_aload_n F.1 F.2.1 dX1_start_10 rfl (lv_at hl 0 rfl) ?_
  refine lv_iconst (v := nI 0) F.1 F.2.1 dX1_start_11 (by decide) ?_
  refine mp7 (v := 0) F hI dX1_start_12 (fun H locs hI => ?_)
  refine lv_aload_n F.1 F.2.1 dX1_start_15 rfl (lv_at hl 0 rfl) ?_
  refine lv_iconst (v := nI 0) F.1 F.2.1 dX1_start_16 (by decide) ?_
  refine mp8 (v := 0) F hI dX1_start_17 (fun H locs hI => ?_)
  exact m_retv F hr hlk hI (rfl) dX1_start_20
end
section
set_option maxRecDepth 100000
set_option maxHeartbeats 4000000 in
set_option maxRecDepth 100000 in
theorem metX0_popAndBranch (l : Launch) (g : va_G) (ad : Nat → Nat) (d : Nat → ClassId) (A : Nat → Prop) (u : XS) (o : Nat) (a : Int32) (ho : o = 10 ∨ o = 11) (h1 : 1 ≤ u.1 5) (h8 : u.1 5 ≤ 8) : Met l yX0_popAndBranch (ws_ yX0_popAndBranch cX0_popAndBranch 5 (some .int)) ({ frames := 0, cells := 0, slots := 0, locals := 0 }) (xPc g ad d A u [.int (nI o), .int a]) (xQi g ad d A (fun r u2 => u2 = xs u 5 (u.1 5 - 1) ∧ (brT o (u.2.2 4 (u.1 5 - 1)) ∧ r = a ∨ ¬ brT o (u.2.2 4 (u.1 5 - 1)) ∧ r = nI (u.1 6 + 1)))) 0 0 A := by
  refine x_met (by decide) rfl (Nat.le_of_ble_eq_true rfl) ?_
  intro p e s m below meth c ls F hr hlk hI hl
  have hl : lv_has ls 5 [(0, .ref (ad 0)), (1, .int (nI o)), (2, .int a)] := hl
  refine lv_aload_n F.1 F.2.1 dX0_popAndBranch_0 rfl (lv_at hl 0 rfl) ?_
  refine lv_dup F.1 F.2.1 dX0_popAndBranch_1 rfl ?_
  refine xg5 (v := u.1 5) F hI rfl dX0_popAndBranch_2 ?_
  refine lv_iconst (v := nI 1) F.1 F.2.1 dX0_popAndBranch_5 (by decide) ?_
  refine n_isub F (by omega) dX0_popAndBranch_6 ?_
  refine xp5 (v := (u.1 5) - 1) F hI dX0_popAndBranch_7 (fun H locs hI => ?_)
  refine lv_aload_n F.1 F.2.1 dX0_popAndBranch_10 rfl (lv_at hl 0 rfl) ?_
  refine xg4 F hI dX0_popAndBranch_11 ?_
  refine lv_aload_n F.1 F.2.1 dX0_popAndBranch_14 rfl (lv_at hl 0 rfl) ?_
  refine xg5 (v := (u.1 5) - 1) F hI rfl dX0_popAndBranch_15 ?_
  refine xl4 (x := u.2.2 4 ((u.1 5) - 1)) F hI (by omega) rfl dX0_popAndBranch_18 ?_
  refine lv_istore_n (lv' := [(3, .int (u.2.2 4 ((u.1 5) - 1))), (0, .ref (ad 0)), (1, .int (nI o)), (2, .int a)]) F.1 F.2.1 dX0_popAndBranch_19 rfl hl (by decide) rfl (fun ls hl => ?_)
  refine lv_iload_n F.1 F.2.1 dX0_popAndBranch_20 rfl (lv_at hl 2 rfl) ?_
  refine lv_bipush (v := nI 10) F.1 F.2.1 dX0_popAndBranch_21 (by decide) ?_
  refine t_icmp_ne (tgt := 38) F (nI_toInt (by omega)) (nI_toInt (by decide)) dX0_popAndBranch_23 (by decide) (fun b_23 => ?_) (fun b_23 => ?_)
  · refine lv_iload_n F.1 F.2.1 dX0_popAndBranch_38 rfl (lv_at hl 0 rfl) ?_
    refine t_if_ge (tgt := 46) F rfl dX0_popAndBranch_39 (by decide) (fun b_39 => ?_) (fun b_39 => ?_)
    · refine lv_iconst (v := nI 0) F.1 F.2.1 dX0_popAndBranch_46 (by decide) ?_
      refine lv_istore (lv' := [(4, .int (nI 0)), (3, .int (u.2.2 4 ((u.1 5) - 1))), (0, .ref (ad 0)), (1, .int (nI o)), (2, .int a)]) F.1 F.2.1 dX0_popAndBranch_47 hl (by decide) rfl (fun ls hl => ?_)
      refine lv_iload F.1 F.2.1 dX0_popAndBranch_49 (lv_at hl 0 rfl) ?_
      refine t_if_eq (tgt := 58) F (nI_toInt (by decide)) dX0_popAndBranch_51 (by decide) (fun b_51 => ?_) (fun b_51 => absurd b_51 (by omega))
      refine lv_aload_n F.1 F.2.1 dX0_popAndBranch_58 rfl (lv_at hl 2 rfl) ?_
      refine xg6 (v := u.1 6) F hI rfl dX0_popAndBranch_59 ?_
      refine lv_iconst (v := nI 1) F.1 F.2.1 dX0_popAndBranch_62 (by decide) ?_
      refine n_iadd F dX0_popAndBranch_63 ?_
      exact x_reti F hr hlk hI (⟨rfl, Or.inr ⟨by unfold brT; omega, rfl⟩⟩) dX0_popAndBranch_64
    · refine lv_iconst (v := nI 1) F.1 F.2.1 dX0_popAndBranch_42 (by decide) ?_
      refine lv_goto (tgt := 47) F.1 F.2.1 dX0_popAndBranch_43 (by decide) ?_
      refine lv_istore (lv' := [(4, .int (nI 1)), (3, .int (u.2.2 4 ((u.1 5) - 1))), (0, .ref (ad 0)), (1, .int (nI o)), (2, .int a)]) F.1 F.2.1 dX0_popAndBranch_47 hl (by decide) rfl (fun ls hl => ?_)
      refine lv_iload F.1 F.2.1 dX0_popAndBranch_49 (lv_at hl 0 rfl) ?_
      refine t_if_eq (tgt := 58) F (nI_toInt (by decide)) dX0_popAndBranch_51 (by decide) (fun b_51 => absurd b_51 (by omega)) (fun b_51 => ?_)
      refine lv_iload_n F.1 F.2.1 dX0_popAndBranch_54 rfl (lv_at hl 4 rfl) ?_
      refine lv_goto (tgt := 64) F.1 F.2.1 dX0_popAndBranch_55 (by decide) ?_
      exact x_reti F hr hlk hI (⟨rfl, Or.inl ⟨by unfold brT; omega, rfl⟩⟩) dX0_popAndBranch_64
  · refine lv_iload_n F.1 F.2.1 dX0_popAndBranch_26 rfl (lv_at hl 0 rfl) ?_
    refine t_if_ne (tgt := 34) F rfl dX0_popAndBranch_27 (by decide) (fun b_27 => ?_) (fun b_27 => ?_)
    · refine lv_iconst (v := nI 0) F.1 F.2.1 dX0_popAndBranch_34 (by decide) ?_
      refine lv_goto (tgt := 47) F.1 F.2.1 dX0_popAndBranch_35 (by decide) ?_
      refine lv_istore (lv' := [(4, .int (nI 0)), (3, .int (u.2.2 4 ((u.1 5) - 1))), (0, .ref (ad 0)), (1, .int (nI o)), (2, .int a)]) F.1 F.2.1 dX0_popAndBranch_47 hl (by decide) rfl (fun ls hl => ?_)
      refine lv_iload F.1 F.2.1 dX0_popAndBranch_49 (lv_at hl 0 rfl) ?_
      refine t_if_eq (tgt := 58) F (nI_toInt (by decide)) dX0_popAndBranch_51 (by decide) (fun b_51 => ?_) (fun b_51 => absurd b_51 (by omega))
      refine lv_aload_n F.1 F.2.1 dX0_popAndBranch_58 rfl (lv_at hl 2 rfl) ?_
      refine xg6 (v := u.1 6) F hI rfl dX0_popAndBranch_59 ?_
      refine lv_iconst (v := nI 1) F.1 F.2.1 dX0_popAndBranch_62 (by decide) ?_
      refine n_iadd F dX0_popAndBranch_63 ?_
      exact x_reti F hr hlk hI (⟨rfl, Or.inr ⟨by unfold brT; omega, rfl⟩⟩) dX0_popAndBranch_64
    · refine lv_iconst (v := nI 1) F.1 F.2.1 dX0_popAndBranch_30 (by decide) ?_
      refine lv_goto (tgt := 47) F.1 F.2.1 dX0_popAndBranch_31 (by decide) ?_
      refine lv_istore (lv' := [(4, .int (nI 1)), (3, .int (u.2.2 4 ((u.1 5) - 1))), (0, .ref (ad 0)), (1, .int (nI o)), (2, .int a)]) F.1 F.2.1 dX0_popAndBranch_47 hl (by decide) rfl (fun ls hl => ?_)
      refine lv_iload F.1 F.2.1 dX0_popAndBranch_49 (lv_at hl 0 rfl) ?_
      refine t_if_eq (tgt := 58) F (nI_toInt (by decide)) dX0_popAndBranch_51 (by decide) (fun b_51 => absurd b_51 (by omega)) (fun b_51 => ?_)
      refine lv_iload_n F.1 F.2.1 dX0_popAndBranch_54 rfl (lv_at hl 4 rfl) ?_
      refine lv_goto (tgt := 64) F.1 F.2.1 dX0_popAndBranch_55 (by decide) ?_
      exact x_reti F hr hlk hI (⟨rfl, Or.inl ⟨by unfold brT; omega, rfl⟩⟩) dX0_popAndBranch_64
set_option maxHeartbeats 4000000 in
set_option maxRecDepth 100000 in
theorem metX0_moveOne (l : Launch) (g : va_G) (ad : Nat → Nat) (d : Nat → ClassId) (A : Nat → Prop) (u : XS) (o k : Nat) (a : Int32) (ho : o ≤ 3) (hk : o = 0 ∨ a = nI k ∧ k ≤ 7) (h8 : u.1 5 ≤ 8) (hd : o = 3 → 1 ≤ u.1 5) (hu : o ≤ 2 → u.1 5 ≤ 7) (hp : o = 1 → k < u.1 5) : Met l yX0_moveOne (ws_ yX0_moveOne cX0_moveOne 3 none) ({ frames := 0, cells := 0, slots := 0, locals := 0 }) (xPc g ad d A u [.int (nI o), .int a]) (xQv g ad d A (fun u2 => u2 = exM o k a u)) 0 0 A := by
  refine x_met (by decide) rfl (Nat.le_of_ble_eq_true rfl) ?_
  intro p e s m below meth c ls F hr hlk hI hl
  have hl : lv_has ls 3 [(0, .ref (ad 0)), (1, .int (nI o)), (2, .int a)] := hl
  refine lv_iload_n F.1 F.2.1 dX0_moveOne_0 rfl (lv_at hl 1 rfl) ?_
  refine lv_iconst (v := nI 3) F.1 F.2.1 dX0_moveOne_1 (by decide) ?_
  refine t_icmp_ne (tgt := 31) F (nI_toInt (by omega)) (nI_toInt (by decide)) dX0_moveOne_2 (by decide) (fun b_2 => ?_) (fun b_2 => ?_)
  · refine lv_iload_n F.1 F.2.1 dX0_moveOne_31 rfl (lv_at hl 1 rfl) ?_
    refine t_if_ne (tgt := 48) F (nI_toInt (by omega)) dX0_moveOne_32 (by decide) (fun b_32 => ?_) (fun b_32 => ?_)
    · refine lv_iload_n F.1 F.2.1 dX0_moveOne_48 rfl (lv_at hl 1 rfl) ?_
      refine lv_iconst (v := nI 1) F.1 F.2.1 dX0_moveOne_49 (by decide) ?_
      refine t_icmp_ne (tgt := 78) F (nI_toInt (by omega)) (nI_toInt (by decide)) dX0_moveOne_50 (by decide) (fun b_50 => ?_) (fun b_50 => ?_)
      · obtain ⟨rfl, hk7⟩ : a = nI k ∧ k ≤ 7 := hk.resolve_left (by omega)
        refine lv_aload_n F.1 F.2.1 dX0_moveOne_78 rfl (lv_at hl 0 rfl) ?_
        refine xg4 F hI dX0_moveOne_79 ?_
        refine lv_aload_n F.1 F.2.1 dX0_moveOne_82 rfl (lv_at hl 0 rfl) ?_
        refine xg5 (v := u.1 5) F hI rfl dX0_moveOne_83 ?_
        refine lv_aload_n F.1 F.2.1 dX0_moveOne_86 rfl (lv_at hl 0 rfl) ?_
        refine xg3 F hI dX0_moveOne_87 ?_
        refine lv_iload_n F.1 F.2.1 dX0_moveOne_90 rfl (lv_at hl 2 rfl) ?_
        refine xl3 (x := u.2.2 3 k) F hI (by omega) rfl dX0_moveOne_91 ?_
        refine xt4 (x := u.2.2 3 k) F hI (by omega) dX0_moveOne_92 (fun H locs hI => ?_)
        refine lv_aload_n F.1 F.2.1 dX0_moveOne_93 rfl (lv_at hl 0 rfl) ?_
        refine lv_dup F.1 F.2.1 dX0_moveOne_94 rfl ?_
        refine xg5 (v := u.1 5) F hI rfl dX0_moveOne_95 ?_
        refine lv_iconst (v := nI 1) F.1 F.2.1 dX0_moveOne_98 (by decide) ?_
        refine n_iadd F dX0_moveOne_99 ?_
        refine xp5 (v := (u.1 5) + 1) F hI dX0_moveOne_100 (fun H locs hI => ?_)
        exact x_retv F hr hlk hI (by unfold exM; rw [if_neg (show ¬ o = 3 by omega), if_neg (show ¬ o = 0 by omega), if_neg (show ¬ o = 1 by omega)]) dX0_moveOne_103
      · obtain ⟨rfl, hk7⟩ : a = nI k ∧ k ≤ 7 := hk.resolve_left (by omega)
        refine lv_aload_n F.1 F.2.1 dX0_moveOne_53 rfl (lv_at hl 0 rfl) ?_
        refine xg4 F hI dX0_moveOne_54 ?_
        refine lv_aload_n F.1 F.2.1 dX0_moveOne_57 rfl (lv_at hl 0 rfl) ?_
        refine xg5 (v := u.1 5) F hI rfl dX0_moveOne_58 ?_
        refine lv_aload_n F.1 F.2.1 dX0_moveOne_61 rfl (lv_at hl 0 rfl) ?_
        refine xg4 F hI dX0_moveOne_62 ?_
        refine lv_aload_n F.1 F.2.1 dX0_moveOne_65 rfl (lv_at hl 0 rfl) ?_
        refine xg5 (v := u.1 5) F hI rfl dX0_moveOne_66 ?_
        refine lv_iconst (v := nI 1) F.1 F.2.1 dX0_moveOne_69 (by decide) ?_
        refine n_isub F (by omega) dX0_moveOne_70 ?_
        refine lv_iload_n F.1 F.2.1 dX0_moveOne_71 rfl (lv_at hl 2 rfl) ?_
        refine n_isub F (by omega) dX0_moveOne_72 ?_
        refine xl4 (x := u.2.2 4 (((u.1 5) - 1) - k)) F hI (by omega) rfl dX0_moveOne_73 ?_
        refine xt4 (x := u.2.2 4 (((u.1 5) - 1) - k)) F hI (by omega) dX0_moveOne_74 (fun H locs hI => ?_)
        refine lv_goto (tgt := 93) F.1 F.2.1 dX0_moveOne_75 (by decide) ?_
        refine lv_aload_n F.1 F.2.1 dX0_moveOne_93 rfl (lv_at hl 0 rfl) ?_
        refine lv_dup F.1 F.2.1 dX0_moveOne_94 rfl ?_
        refine xg5 (v := u.1 5) F hI rfl dX0_moveOne_95 ?_
        refine lv_iconst (v := nI 1) F.1 F.2.1 dX0_moveOne_98 (by decide) ?_
        refine n_iadd F dX0_moveOne_99 ?_
        refine xp5 (v := (u.1 5) + 1) F hI dX0_moveOne_100 (fun H locs hI => ?_)
        exact x_retv F hr hlk hI (by unfold exM; rw [if_neg (show ¬ o = 3 by omega), if_neg (show ¬ o = 0 by omega), if_pos (show o = 1 by omega)]) dX0_moveOne_103
    · refine lv_aload_n F.1 F.2.1 dX0_moveOne_35 rfl (lv_at hl 0 rfl) ?_
      refine xg4 F hI dX0_moveOne_36 ?_
      refine lv_aload_n F.1 F.2.1 dX0_moveOne_39 rfl (lv_at hl 0 rfl) ?_
      refine xg5 (v := u.1 5) F hI rfl dX0_moveOne_40 ?_
      refine lv_iload_n F.1 F.2.1 dX0_moveOne_43 rfl (lv_at hl 2 rfl) ?_
      refine xt4 (x := a) F hI (by omega) dX0_moveOne_44 (fun H locs hI => ?_)
      refine lv_goto (tgt := 93) F.1 F.2.1 dX0_moveOne_45 (by decide) ?_
      refine lv_aload_n F.1 F.2.1 dX0_moveOne_93 rfl (lv_at hl 0 rfl) ?_
      refine lv_dup F.1 F.2.1 dX0_moveOne_94 rfl ?_
      refine xg5 (v := u.1 5) F hI rfl dX0_moveOne_95 ?_
      refine lv_iconst (v := nI 1) F.1 F.2.1 dX0_moveOne_98 (by decide) ?_
      refine n_iadd F dX0_moveOne_99 ?_
      refine xp5 (v := (u.1 5) + 1) F hI dX0_moveOne_100 (fun H locs hI => ?_)
      exact x_retv F hr hlk hI (by unfold exM; rw [if_neg (show ¬ o = 3 by omega), if_pos (show o = 0 by omega)]) dX0_moveOne_103
  · obtain ⟨rfl, hk7⟩ : a = nI k ∧ k ≤ 7 := hk.resolve_left (by omega)
    refine lv_aload_n F.1 F.2.1 dX0_moveOne_5 rfl (lv_at hl 0 rfl) ?_
    refine lv_dup F.1 F.2.1 dX0_moveOne_6 rfl ?_
    refine xg5 (v := u.1 5) F hI rfl dX0_moveOne_7 ?_
    refine lv_iconst (v := nI 1) F.1 F.2.1 dX0_moveOne_10 (by decide) ?_
    refine n_isub F (by omega) dX0_moveOne_11 ?_
    refine xp5 (v := (u.1 5) - 1) F hI dX0_moveOne_12 (fun H locs hI => ?_)
    refine lv_aload_n F.1 F.2.1 dX0_moveOne_15 rfl (lv_at hl 0 rfl) ?_
    refine xg3 F hI dX0_moveOne_16 ?_
    refine lv_iload_n F.1 F.2.1 dX0_moveOne_19 rfl (lv_at hl 2 rfl) ?_
    refine lv_aload_n F.1 F.2.1 dX0_moveOne_20 rfl (lv_at hl 0 rfl) ?_
    refine xg4 F hI dX0_moveOne_21 ?_
    refine lv_aload_n F.1 F.2.1 dX0_moveOne_24 rfl (lv_at hl 0 rfl) ?_
    refine xg5 (v := (u.1 5) - 1) F hI rfl dX0_moveOne_25 ?_
    refine xl4 (x := u.2.2 4 ((u.1 5) - 1)) F hI (by omega) rfl dX0_moveOne_28 ?_
    refine xt3 (x := u.2.2 4 ((u.1 5) - 1)) F hI (by omega) dX0_moveOne_29 (fun H locs hI => ?_)
    exact x_retv F hr hlk hI (by unfold exM; rw [if_pos (show o = 3 by omega)]) dX0_moveOne_30
set_option maxHeartbeats 4000000 in
set_option maxRecDepth 100000 in
theorem metX0_combineOne (l : Launch) (g : va_G) (ad : Nat → Nat) (d : Nat → ClassId) (A : Nat → Prop) (u : XS) (o k : Nat) (ho : 4 ≤ o) (ho9 : o ≤ 9) (hk : k < u.1 5) (h8 : u.1 5 ≤ 8) : Met l yX0_combineOne (ws_ yX0_combineOne cX0_combineOne 7 none) ({ frames := 0, cells := 0, slots := 0, locals := 0 }) (xPc g ad d A u [.int (nI o), .int (nI k)]) (xQv g ad d A (fun u2 => u2 = exC o k u)) 0 0 A := by
  refine x_met (by decide) rfl (Nat.le_of_ble_eq_true rfl) ?_
  intro p e s m below meth c ls F hr hlk hI hl
  have hl : lv_has ls 7 [(0, .ref (ad 0)), (1, .int (nI o)), (2, .int (nI k))] := hl
  refine lv_aload_n F.1 F.2.1 dX0_combineOne_0 rfl (lv_at hl 0 rfl) ?_
  refine xg5 (v := u.1 5) F hI rfl dX0_combineOne_1 ?_
  refine lv_iconst (v := nI 1) F.1 F.2.1 dX0_combineOne_4 (by decide) ?_
  refine n_isub F (by omega) dX0_combineOne_5 ?_
  refine lv_istore_n (lv' := [(3, .int (nI ((u.1 5) - 1))), (0, .ref (ad 0)), (1, .int (nI o)), (2, .int (nI k))]) F.1 F.2.1 dX0_combineOne_6 rfl hl (by decide) rfl (fun ls hl => ?_)
  refine lv_iload_n F.1 F.2.1 dX0_combineOne_7 rfl (lv_at hl 0 rfl) ?_
  refine lv_iload_n F.1 F.2.1 dX0_combineOne_8 rfl (lv_at hl 3 rfl) ?_
  refine n_isub F (by omega) dX0_combineOne_9 ?_
  refine lv_istore (lv' := [(4, .int (nI (((u.1 5) - 1) - k))), (3, .int (nI ((u.1 5) - 1))), (0, .ref (ad 0)), (1, .int (nI o)), (2, .int (nI k))]) F.1 F.2.1 dX0_combineOne_10 hl (by decide) rfl (fun ls hl => ?_)
  refine lv_aload_n F.1 F.2.1 dX0_combineOne_12 rfl (lv_at hl 2 rfl) ?_
  refine xg4 F hI dX0_combineOne_13 ?_
  refine lv_iload_n F.1 F.2.1 dX0_combineOne_16 rfl (lv_at hl 1 rfl) ?_
  refine xl4 (x := u.2.2 4 ((u.1 5) - 1)) F hI (by omega) rfl dX0_combineOne_17 ?_
  refine lv_istore (lv' := [(5, .int (u.2.2 4 ((u.1 5) - 1))), (4, .int (nI (((u.1 5) - 1) - k))), (3, .int (nI ((u.1 5) - 1))), (0, .ref (ad 0)), (1, .int (nI o)), (2, .int (nI k))]) F.1 F.2.1 dX0_combineOne_18 hl (by decide) rfl (fun ls hl => ?_)
  refine lv_aload_n F.1 F.2.1 dX0_combineOne_20 rfl (lv_at hl 3 rfl) ?_
  refine xg4 F hI dX0_combineOne_21 ?_
  refine lv_iload F.1 F.2.1 dX0_combineOne_24 (lv_at hl 1 rfl) ?_
  refine xl4 (x := u.2.2 4 (((u.1 5) - 1) - k)) F hI (by omega) rfl dX0_combineOne_26 ?_
  refine lv_istore (lv' := [(6, .int (u.2.2 4 (((u.1 5) - 1) - k))), (5, .int (u.2.2 4 ((u.1 5) - 1))), (4, .int (nI (((u.1 5) - 1) - k))), (3, .int (nI ((u.1 5) - 1))), (0, .ref (ad 0)), (1, .int (nI o)), (2, .int (nI k))]) F.1 F.2.1 dX0_combineOne_27 hl (by decide) rfl (fun ls hl => ?_)
  refine lv_iload_n F.1 F.2.1 dX0_combineOne_29 rfl (lv_at hl 5 rfl) ?_
  refine lv_iconst (v := nI 4) F.1 F.2.1 dX0_combineOne_30 (by decide) ?_
  refine t_icmp_ne (tgt := 54) F (nI_toInt (by omega)) (nI_toInt (by decide)) dX0_combineOne_31 (by decide) (fun b_31 => ?_) (fun b_31 => ?_)
  · refine lv_iload_n F.1 F.2.1 dX0_combineOne_54 rfl (lv_at hl 5 rfl) ?_
    refine lv_iconst (v := nI 5) F.1 F.2.1 dX0_combineOne_55 (by decide) ?_
    refine t_icmp_ne (tgt := 73) F (nI_toInt (by omega)) (nI_toInt (by decide)) dX0_combineOne_56 (by decide) (fun b_56 => ?_) (fun b_56 => ?_)
    · refine lv_iload_n F.1 F.2.1 dX0_combineOne_73 rfl (lv_at hl 5 rfl) ?_
      refine lv_bipush (v := nI 6) F.1 F.2.1 dX0_combineOne_74 (by decide) ?_
      refine t_icmp_ne (tgt := 93) F (nI_toInt (by omega)) (nI_toInt (by decide)) dX0_combineOne_76 (by decide) (fun b_76 => ?_) (fun b_76 => ?_)
      · refine lv_iload_n F.1 F.2.1 dX0_combineOne_93 rfl (lv_at hl 5 rfl) ?_
        refine lv_bipush (v := nI 7) F.1 F.2.1 dX0_combineOne_94 (by decide) ?_
        refine t_icmp_ne (tgt := 113) F (nI_toInt (by omega)) (nI_toInt (by decide)) dX0_combineOne_96 (by decide) (fun b_96 => ?_) (fun b_96 => ?_)
        · refine lv_aload_n F.1 F.2.1 dX0_combineOne_113 rfl (lv_at hl 4 rfl) ?_
          refine xg4 F hI dX0_combineOne_114 ?_
          refine lv_iload F.1 F.2.1 dX0_combineOne_117 (lv_at hl 2 rfl) ?_
          refine lv_iload_n F.1 F.2.1 dX0_combineOne_119 rfl (lv_at hl 5 rfl) ?_
          refine lv_bipush (v := nI 8) F.1 F.2.1 dX0_combineOne_120 (by decide) ?_
          refine t_icmp_ne (tgt := 133) F (nI_toInt (by omega)) (nI_toInt (by decide)) dX0_combineOne_122 (by decide) (fun b_122 => ?_) (fun b_122 => ?_)
          · refine lv_iload F.1 F.2.1 dX0_combineOne_133 (lv_at hl 0 rfl) ?_
            refine lv_iload F.1 F.2.1 dX0_combineOne_135 (lv_at hl 1 rfl) ?_
            refine lv_isub F.1 F.2.1 dX0_combineOne_137 ?_
            refine xt4 (x := (u.2.2 4 (((u.1 5) - 1) - k)) - (u.2.2 4 ((u.1 5) - 1))) F hI (by omega) dX0_combineOne_138 (fun H locs hI => ?_)
            refine lv_aload_n F.1 F.2.1 dX0_combineOne_139 rfl (lv_at hl 4 rfl) ?_
            refine lv_dup F.1 F.2.1 dX0_combineOne_140 rfl ?_
            refine xg5 (v := u.1 5) F hI rfl dX0_combineOne_141 ?_
            refine lv_iconst (v := nI 1) F.1 F.2.1 dX0_combineOne_144 (by decide) ?_
            refine n_isub F (by omega) dX0_combineOne_145 ?_
            refine xp5 (v := (u.1 5) - 1) F hI dX0_combineOne_146 (fun H locs hI => ?_)
            exact x_retv F hr hlk hI (by unfold exC; rw [if_neg (show ¬ o = 4 by omega), if_neg (show ¬ o = 5 by omega), if_neg (show ¬ o = 6 by omega), if_neg (show ¬ o = 7 by omega), if_neg (show ¬ o = 8 by omega)]) dX0_combineOne_149
          · refine lv_iload F.1 F.2.1 dX0_combineOne_125 (lv_at hl 0 rfl) ?_
            refine lv_iload F.1 F.2.1 dX0_combineOne_127 (lv_at hl 1 rfl) ?_
            refine lv_iadd F.1 F.2.1 dX0_combineOne_129 ?_
            refine lv_goto (tgt := 138) F.1 F.2.1 dX0_combineOne_130 (by decide) ?_
            refine xt4 (x := (u.2.2 4 (((u.1 5) - 1) - k)) + (u.2.2 4 ((u.1 5) - 1))) F hI (by omega) dX0_combineOne_138 (fun H locs hI => ?_)
            refine lv_aload_n F.1 F.2.1 dX0_combineOne_139 rfl (lv_at hl 4 rfl) ?_
            refine lv_dup F.1 F.2.1 dX0_combineOne_140 rfl ?_
            refine xg5 (v := u.1 5) F hI rfl dX0_combineOne_141 ?_
            refine lv_iconst (v := nI 1) F.1 F.2.1 dX0_combineOne_144 (by decide) ?_
            refine n_isub F (by omega) dX0_combineOne_145 ?_
            refine xp5 (v := (u.1 5) - 1) F hI dX0_combineOne_146 (fun H locs hI => ?_)
            exact x_retv F hr hlk hI (by unfold exC; rw [if_neg (show ¬ o = 4 by omega), if_neg (show ¬ o = 5 by omega), if_neg (show ¬ o = 6 by omega), if_neg (show ¬ o = 7 by omega), if_pos (show o = 8 by omega)]) dX0_combineOne_149
        · refine lv_aload_n F.1 F.2.1 dX0_combineOne_99 rfl (lv_at hl 4 rfl) ?_
          refine xg4 F hI dX0_combineOne_100 ?_
          refine lv_iload_n F.1 F.2.1 dX0_combineOne_103 rfl (lv_at hl 3 rfl) ?_
          refine lv_iload F.1 F.2.1 dX0_combineOne_104 (lv_at hl 1 rfl) ?_
          refine lv_iload F.1 F.2.1 dX0_combineOne_106 (lv_at hl 0 rfl) ?_
          refine lv_imul F.1 F.2.1 dX0_combineOne_108 ?_
          refine xt4 (x := (u.2.2 4 ((u.1 5) - 1)) * (u.2.2 4 (((u.1 5) - 1) - k))) F hI (by omega) dX0_combineOne_109 (fun H locs hI => ?_)
          refine lv_goto (tgt := 149) F.1 F.2.1 dX0_combineOne_110 (by decide) ?_
          exact x_retv F hr hlk hI (by unfold exC; rw [if_neg (show ¬ o = 4 by omega), if_neg (show ¬ o = 5 by omega), if_neg (show ¬ o = 6 by omega), if_pos (show o = 7 by omega)]) dX0_combineOne_149
      · refine lv_aload_n F.1 F.2.1 dX0_combineOne_79 rfl (lv_at hl 4 rfl) ?_
        refine xg4 F hI dX0_combineOne_80 ?_
        refine lv_iload_n F.1 F.2.1 dX0_combineOne_83 rfl (lv_at hl 3 rfl) ?_
        refine lv_iload F.1 F.2.1 dX0_combineOne_84 (lv_at hl 1 rfl) ?_
        refine lv_iload F.1 F.2.1 dX0_combineOne_86 (lv_at hl 0 rfl) ?_
        refine lv_isub F.1 F.2.1 dX0_combineOne_88 ?_
        refine xt4 (x := (u.2.2 4 ((u.1 5) - 1)) - (u.2.2 4 (((u.1 5) - 1) - k))) F hI (by omega) dX0_combineOne_89 (fun H locs hI => ?_)
        refine lv_goto (tgt := 149) F.1 F.2.1 dX0_combineOne_90 (by decide) ?_
        exact x_retv F hr hlk hI (by unfold exC; rw [if_neg (show ¬ o = 4 by omega), if_neg (show ¬ o = 5 by omega), if_pos (show o = 6 by omega)]) dX0_combineOne_149
    · refine lv_aload_n F.1 F.2.1 dX0_combineOne_59 rfl (lv_at hl 4 rfl) ?_
      refine xg4 F hI dX0_combineOne_60 ?_
      refine lv_iload_n F.1 F.2.1 dX0_combineOne_63 rfl (lv_at hl 3 rfl) ?_
      refine lv_iload F.1 F.2.1 dX0_combineOne_64 (lv_at hl 1 rfl) ?_
      refine lv_iload F.1 F.2.1 dX0_combineOne_66 (lv_at hl 0 rfl) ?_
      refine lv_iadd F.1 F.2.1 dX0_combineOne_68 ?_
      refine xt4 (x := (u.2.2 4 ((u.1 5) - 1)) + (u.2.2 4 (((u.1 5) - 1) - k))) F hI (by omega) dX0_combineOne_69 (fun H locs hI => ?_)
      refine lv_goto (tgt := 149) F.1 F.2.1 dX0_combineOne_70 (by decide) ?_
      exact x_retv F hr hlk hI (by unfold exC; rw [if_neg (show ¬ o = 4 by omega), if_pos (show o = 5 by omega)]) dX0_combineOne_149
  · refine lv_aload_n F.1 F.2.1 dX0_combineOne_34 rfl (lv_at hl 4 rfl) ?_
    refine xg4 F hI dX0_combineOne_35 ?_
    refine lv_iload_n F.1 F.2.1 dX0_combineOne_38 rfl (lv_at hl 3 rfl) ?_
    refine lv_iload F.1 F.2.1 dX0_combineOne_39 (lv_at hl 0 rfl) ?_
    refine xt4 (x := u.2.2 4 (((u.1 5) - 1) - k)) F hI (by omega) dX0_combineOne_41 (fun H locs hI => ?_)
    refine lv_aload_n F.1 F.2.1 dX0_combineOne_42 rfl (lv_at hl 4 rfl) ?_
    refine xg4 F hI dX0_combineOne_43 ?_
    refine lv_iload F.1 F.2.1 dX0_combineOne_46 (lv_at hl 2 rfl) ?_
    refine lv_iload F.1 F.2.1 dX0_combineOne_48 (lv_at hl 1 rfl) ?_
    refine xt4 (x := u.2.2 4 ((u.1 5) - 1)) F hI (by omega) dX0_combineOne_50 (fun H locs hI => ?_)
    refine lv_goto (tgt := 149) F.1 F.2.1 dX0_combineOne_51 (by decide) ?_
    exact x_retv F hr hlk hI (by unfold exC; rw [if_pos (show o = 4 by omega)]) dX0_combineOne_149
set_option maxHeartbeats 4000000 in
set_option maxRecDepth 100000 in
theorem metX0_write (l : Launch) (g : va_G) (ad : Nat → Nat) (d : Nat → ClassId) (A : Nat → Prop) (u : XS) (co x y : Nat) (z : Int32) (h1 : co < 128) (h2 : x < 128) (h3 : y < 128) (hc : u.1 14 < 640) : Met l yX0_write (ws_ yX0_write cX0_write 5 none) ({ frames := 0, cells := 0, slots := 0, locals := 0 }) (xPc g ad d A u [.int (nI co), .int (nI x), .int (nI y), .int z]) (xQv g ad d A (fun u2 => u2 = xwr u co x y z)) 0 0 A := by
  refine x_met (by decide) rfl (Nat.le_of_ble_eq_true rfl) ?_
  intro p e s m below meth c ls F hr hlk hI hl
  have hl : lv_has ls 5 [(0, .ref (ad 0)), (1, .int (nI co)), (2, .int (nI x)), (3, .int (nI y)), (4, .int z)] := hl
  refine lv_aload_n F.1 F.2.1 dX0_write_0 rfl (lv_at hl 0 rfl) ?_
  refine xg15 F hI dX0_write_1 ?_
  refine lv_aload_n F.1 F.2.1 dX0_write_4 rfl (lv_at hl 0 rfl) ?_
  refine xg14 (v := u.1 14) F hI rfl dX0_write_5 ?_
  refine lv_iload_n F.1 F.2.1 dX0_write_8 rfl (lv_at hl 1 rfl) ?_
  refine lv_i2b (v := nI co) F.1 F.2.1 dX0_write_9 (n_byte _ (by omega)) ?_
  refine xt15 F hI (by omega) (by omega) dX0_write_10 (fun H locs hI => ?_)
  refine lv_aload_n F.1 F.2.1 dX0_write_11 rfl (lv_at hl 0 rfl) ?_
  refine xg16 F hI dX0_write_12 ?_
  refine lv_aload_n F.1 F.2.1 dX0_write_15 rfl (lv_at hl 0 rfl) ?_
  refine xg14 (v := u.1 14) F hI rfl dX0_write_16 ?_
  refine lv_iload_n F.1 F.2.1 dX0_write_19 rfl (lv_at hl 2 rfl) ?_
  refine lv_i2b (v := nI x) F.1 F.2.1 dX0_write_20 (n_byte _ (by omega)) ?_
  refine xt16 F hI (by omega) (by omega) dX0_write_21 (fun H locs hI => ?_)
  refine lv_aload_n F.1 F.2.1 dX0_write_22 rfl (lv_at hl 0 rfl) ?_
  refine xg17 F hI dX0_write_23 ?_
  refine lv_aload_n F.1 F.2.1 dX0_write_26 rfl (lv_at hl 0 rfl) ?_
  refine xg14 (v := u.1 14) F hI rfl dX0_write_27 ?_
  refine lv_iload_n F.1 F.2.1 dX0_write_30 rfl (lv_at hl 3 rfl) ?_
  refine lv_i2b (v := nI y) F.1 F.2.1 dX0_write_31 (n_byte _ (by omega)) ?_
  refine xt17 F hI (by omega) (by omega) dX0_write_32 (fun H locs hI => ?_)
  refine lv_aload_n F.1 F.2.1 dX0_write_33 rfl (lv_at hl 0 rfl) ?_
  refine xg18 F hI dX0_write_34 ?_
  refine lv_aload_n F.1 F.2.1 dX0_write_37 rfl (lv_at hl 0 rfl) ?_
  refine xg14 (v := u.1 14) F hI rfl dX0_write_38 ?_
  refine lv_iload F.1 F.2.1 dX0_write_41 (lv_at hl 4 rfl) ?_
  refine xt18 (x := z) F hI (by omega) dX0_write_43 (fun H locs hI => ?_)
  refine lv_aload_n F.1 F.2.1 dX0_write_44 rfl (lv_at hl 0 rfl) ?_
  refine lv_dup F.1 F.2.1 dX0_write_45 rfl ?_
  refine xg14 (v := u.1 14) F hI rfl dX0_write_46 ?_
  refine lv_iconst (v := nI 1) F.1 F.2.1 dX0_write_49 (by decide) ?_
  refine n_iadd F dX0_write_50 ?_
  refine xp14 (v := (u.1 14) + 1) F hI dX0_write_51 (fun H locs hI => ?_)
  exact x_retv F hr hlk hI (rfl) dX0_write_54
set_option maxHeartbeats 4000000 in
set_option maxRecDepth 100000 in
theorem metX0_work (l : Launch) (g : va_G) (ad : Nat → Nat) (d : Nat → ClassId) (A : Nat → Prop) (u : XS) (j : Nat) (hj : j < 640) (hw : wfI (u.2.1 15 j) (u.2.1 16 j) (u.2.1 17 j) (u.2.2 18 j)) : Met l yX0_work (ws_ yX0_work cX0_work 6 none) ({ frames := 0, cells := 0, slots := 0, locals := 0 }) (xPc g ad d A u [.int (nI j)]) (xQv g ad d A (fun u2 => u2 = xFG u (fw (u.2.1 15 j) (u.2.1 16 j) (u.2.1 17 j) (u.2.2 18 j) (u.2.2 4, u.2.2 3)))) 0 0 A := by
  refine x_met (by decide) rfl (Nat.le_of_ble_eq_true rfl) ?_
  intro p e s m below meth c ls F hr hlk hI hl
  have hl : lv_has ls 6 [(0, .ref (ad 0)), (1, .int (nI j))] := hl
  obtain ⟨hc6, hx10, hy10, hx8, hy8, hzz⟩ := hw
  refine lv_aload_n F.1 F.2.1 dX0_work_0 rfl (lv_at hl 0 rfl) ?_
  refine xg15 F hI dX0_work_1 ?_
  refine lv_iload_n F.1 F.2.1 dX0_work_4 rfl (lv_at hl 1 rfl) ?_
  refine xl15 (x := u.2.1 15 j) F hI (by omega) rfl dX0_work_5 ?_
  refine lv_istore_n (lv' := [(2, .int (nI (u.2.1 15 j))), (0, .ref (ad 0)), (1, .int (nI j))]) F.1 F.2.1 dX0_work_6 rfl hl (by decide) rfl (fun ls hl => ?_)
  refine lv_aload_n F.1 F.2.1 dX0_work_7 rfl (lv_at hl 1 rfl) ?_
  refine xg16 F hI dX0_work_8 ?_
  refine lv_iload_n F.1 F.2.1 dX0_work_11 rfl (lv_at hl 2 rfl) ?_
  refine xl16 (x := u.2.1 16 j) F hI (by omega) rfl dX0_work_12 ?_
  refine lv_istore_n (lv' := [(3, .int (nI (u.2.1 16 j))), (2, .int (nI (u.2.1 15 j))), (0, .ref (ad 0)), (1, .int (nI j))]) F.1 F.2.1 dX0_work_13 rfl hl (by decide) rfl (fun ls hl => ?_)
  refine lv_aload_n F.1 F.2.1 dX0_work_14 rfl (lv_at hl 2 rfl) ?_
  refine xg17 F hI dX0_work_15 ?_
  refine lv_iload_n F.1 F.2.1 dX0_work_18 rfl (lv_at hl 3 rfl) ?_
  refine xl17 (x := u.2.1 17 j) F hI (by omega) rfl dX0_work_19 ?_
  refine lv_istore (lv' := [(4, .int (nI (u.2.1 17 j))), (3, .int (nI (u.2.1 16 j))), (2, .int (nI (u.2.1 15 j))), (0, .ref (ad 0)), (1, .int (nI j))]) F.1 F.2.1 dX0_work_20 hl (by decide) rfl (fun ls hl => ?_)
  refine lv_aload_n F.1 F.2.1 dX0_work_22 rfl (lv_at hl 3 rfl) ?_
  refine xg18 F hI dX0_work_23 ?_
  refine lv_iload_n F.1 F.2.1 dX0_work_26 rfl (lv_at hl 4 rfl) ?_
  refine xl18 (x := u.2.2 18 j) F hI (by omega) rfl dX0_work_27 ?_
  refine lv_istore (lv' := [(5, .int (u.2.2 18 j)), (4, .int (nI (u.2.1 17 j))), (3, .int (nI (u.2.1 16 j))), (2, .int (nI (u.2.1 15 j))), (0, .ref (ad 0)), (1, .int (nI j))]) F.1 F.2.1 dX0_work_28 hl (by decide) rfl (fun ls hl => ?_)
  refine lv_iload_n F.1 F.2.1 dX0_work_30 rfl (lv_at hl 3 rfl) ?_
  refine t_if_ne (tgt := 45) F (nI_toInt (by omega)) dX0_work_31 (by decide) (fun b_31 => ?_) (fun b_31 => ?_)
  · refine lv_iload_n F.1 F.2.1 dX0_work_45 rfl (lv_at hl 3 rfl) ?_
    refine lv_iconst (v := nI 1) F.1 F.2.1 dX0_work_46 (by decide) ?_
    refine t_icmp_ne (tgt := 66) F (nI_toInt (by omega)) (nI_toInt (by decide)) dX0_work_47 (by decide) (fun b_47 => ?_) (fun b_47 => ?_)
    · refine lv_iload_n F.1 F.2.1 dX0_work_66 rfl (lv_at hl 3 rfl) ?_
      refine lv_iconst (v := nI 2) F.1 F.2.1 dX0_work_67 (by decide) ?_
      refine t_icmp_ne (tgt := 95) F (nI_toInt (by omega)) (nI_toInt (by decide)) dX0_work_68 (by decide) (fun b_68 => ?_) (fun b_68 => ?_)
      · refine lv_iload_n F.1 F.2.1 dX0_work_95 rfl (lv_at hl 3 rfl) ?_
        refine lv_iconst (v := nI 3) F.1 F.2.1 dX0_work_96 (by decide) ?_
        refine t_icmp_ne (tgt := 124) F (nI_toInt (by omega)) (nI_toInt (by decide)) dX0_work_97 (by decide) (fun b_97 => ?_) (fun b_97 => ?_)
        · refine lv_iload_n F.1 F.2.1 dX0_work_124 rfl (lv_at hl 3 rfl) ?_
          refine lv_iconst (v := nI 4) F.1 F.2.1 dX0_work_125 (by decide) ?_
          refine t_icmp_ne (tgt := 153) F (nI_toInt (by omega)) (nI_toInt (by decide)) dX0_work_126 (by decide) (fun b_126 => ?_) (fun b_126 => ?_)
          · refine lv_iload_n F.1 F.2.1 dX0_work_153 rfl (lv_at hl 3 rfl) ?_
            refine lv_iconst (v := nI 5) F.1 F.2.1 dX0_work_154 (by decide) ?_
            refine t_icmp_ne (tgt := 174) F (nI_toInt (by omega)) (nI_toInt (by decide)) dX0_work_155 (by decide) (fun b_155 => ?_) (fun b_155 => ?_)
            · refine lv_aload_n F.1 F.2.1 dX0_work_174 rfl (lv_at hl 4 rfl) ?_
              refine xg3 F hI dX0_work_175 ?_
              refine lv_iload_n F.1 F.2.1 dX0_work_178 rfl (lv_at hl 2 rfl) ?_
              refine lv_aload_n F.1 F.2.1 dX0_work_179 rfl (lv_at hl 4 rfl) ?_
              refine xg4 F hI dX0_work_180 ?_
              refine lv_iload F.1 F.2.1 dX0_work_183 (lv_at hl 1 rfl) ?_
              refine xl4 (x := u.2.2 4 (u.2.1 17 j)) F hI (by omega) rfl dX0_work_185 ?_
              refine xt3 (x := u.2.2 4 (u.2.1 17 j)) F hI (by omega) dX0_work_186 (fun H locs hI => ?_)
              exact x_retv F hr hlk hI (by unfold fw; rw [if_neg (show ¬ u.2.1 15 j = 0 by omega), if_neg (show ¬ u.2.1 15 j = 1 by omega), if_neg (show ¬ u.2.1 15 j = 2 by omega), if_neg (show ¬ u.2.1 15 j = 3 by omega), if_neg (show ¬ u.2.1 15 j = 4 by omega), if_neg (show ¬ u.2.1 15 j = 5 by omega)]; exact xz3 _ _ _) dX0_work_187
            · refine lv_aload_n F.1 F.2.1 dX0_work_158 rfl (lv_at hl 4 rfl) ?_
              refine xg4 F hI dX0_work_159 ?_
              refine lv_iload_n F.1 F.2.1 dX0_work_162 rfl (lv_at hl 2 rfl) ?_
              refine lv_aload_n F.1 F.2.1 dX0_work_163 rfl (lv_at hl 4 rfl) ?_
              refine xg3 F hI dX0_work_164 ?_
              refine lv_iload F.1 F.2.1 dX0_work_167 (lv_at hl 1 rfl) ?_
              refine xl3 (x := u.2.2 3 (u.2.1 17 j)) F hI (by omega) rfl dX0_work_169 ?_
              refine xt4 (x := u.2.2 3 (u.2.1 17 j)) F hI (by omega) dX0_work_170 (fun H locs hI => ?_)
              refine lv_goto (tgt := 187) F.1 F.2.1 dX0_work_171 (by decide) ?_
              exact x_retv F hr hlk hI (by unfold fw; rw [if_neg (show ¬ u.2.1 15 j = 0 by omega), if_neg (show ¬ u.2.1 15 j = 1 by omega), if_neg (show ¬ u.2.1 15 j = 2 by omega), if_neg (show ¬ u.2.1 15 j = 3 by omega), if_neg (show ¬ u.2.1 15 j = 4 by omega), if_pos (show u.2.1 15 j = 5 by omega)]; exact xz4 _ _ _) dX0_work_187
          · obtain ⟨z, hz, hz10⟩ := hzz (by omega) (by omega)
            rw [hz] at hl
            refine lv_aload_n F.1 F.2.1 dX0_work_129 rfl (lv_at hl 4 rfl) ?_
            refine xg4 F hI dX0_work_130 ?_
            refine lv_iload_n F.1 F.2.1 dX0_work_133 rfl (lv_at hl 2 rfl) ?_
            refine lv_aload_n F.1 F.2.1 dX0_work_134 rfl (lv_at hl 4 rfl) ?_
            refine xg4 F hI dX0_work_135 ?_
            refine lv_iload F.1 F.2.1 dX0_work_138 (lv_at hl 1 rfl) ?_
            refine xl4 (x := u.2.2 4 (u.2.1 17 j)) F hI (by omega) rfl dX0_work_140 ?_
            refine lv_aload_n F.1 F.2.1 dX0_work_141 rfl (lv_at hl 4 rfl) ?_
            refine xg4 F hI dX0_work_142 ?_
            refine lv_iload F.1 F.2.1 dX0_work_145 (lv_at hl 0 rfl) ?_
            refine xl4 (x := u.2.2 4 z) F hI (by omega) rfl dX0_work_147 ?_
            refine lv_imul F.1 F.2.1 dX0_work_148 ?_
            refine xt4 (x := (u.2.2 4 (u.2.1 17 j)) * (u.2.2 4 z)) F hI (by omega) dX0_work_149 (fun H locs hI => ?_)
            refine lv_goto (tgt := 187) F.1 F.2.1 dX0_work_150 (by decide) ?_
            exact x_retv F hr hlk hI (by unfold fw; rw [if_neg (show ¬ u.2.1 15 j = 0 by omega), if_neg (show ¬ u.2.1 15 j = 1 by omega), if_neg (show ¬ u.2.1 15 j = 2 by omega), if_neg (show ¬ u.2.1 15 j = 3 by omega), if_pos (show u.2.1 15 j = 4 by omega), hz, nI_clamp (show z < 2 ^ 31 by omega)]; exact xz4 _ _ _) dX0_work_187
        · obtain ⟨z, hz, hz10⟩ := hzz (by omega) (by omega)
          rw [hz] at hl
          refine lv_aload_n F.1 F.2.1 dX0_work_100 rfl (lv_at hl 4 rfl) ?_
          refine xg4 F hI dX0_work_101 ?_
          refine lv_iload_n F.1 F.2.1 dX0_work_104 rfl (lv_at hl 2 rfl) ?_
          refine lv_aload_n F.1 F.2.1 dX0_work_105 rfl (lv_at hl 4 rfl) ?_
          refine xg4 F hI dX0_work_106 ?_
          refine lv_iload F.1 F.2.1 dX0_work_109 (lv_at hl 1 rfl) ?_
          refine xl4 (x := u.2.2 4 (u.2.1 17 j)) F hI (by omega) rfl dX0_work_111 ?_
          refine lv_aload_n F.1 F.2.1 dX0_work_112 rfl (lv_at hl 4 rfl) ?_
          refine xg4 F hI dX0_work_113 ?_
          refine lv_iload F.1 F.2.1 dX0_work_116 (lv_at hl 0 rfl) ?_
          refine xl4 (x := u.2.2 4 z) F hI (by omega) rfl dX0_work_118 ?_
          refine lv_isub F.1 F.2.1 dX0_work_119 ?_
          refine xt4 (x := (u.2.2 4 (u.2.1 17 j)) - (u.2.2 4 z)) F hI (by omega) dX0_work_120 (fun H locs hI => ?_)
          refine lv_goto (tgt := 187) F.1 F.2.1 dX0_work_121 (by decide) ?_
          exact x_retv F hr hlk hI (by unfold fw; rw [if_neg (show ¬ u.2.1 15 j = 0 by omega), if_neg (show ¬ u.2.1 15 j = 1 by omega), if_neg (show ¬ u.2.1 15 j = 2 by omega), if_pos (show u.2.1 15 j = 3 by omega), hz, nI_clamp (show z < 2 ^ 31 by omega)]; exact xz4 _ _ _) dX0_work_187
      · obtain ⟨z, hz, hz10⟩ := hzz (by omega) (by omega)
        rw [hz] at hl
        refine lv_aload_n F.1 F.2.1 dX0_work_71 rfl (lv_at hl 4 rfl) ?_
        refine xg4 F hI dX0_work_72 ?_
        refine lv_iload_n F.1 F.2.1 dX0_work_75 rfl (lv_at hl 2 rfl) ?_
        refine lv_aload_n F.1 F.2.1 dX0_work_76 rfl (lv_at hl 4 rfl) ?_
        refine xg4 F hI dX0_work_77 ?_
        refine lv_iload F.1 F.2.1 dX0_work_80 (lv_at hl 1 rfl) ?_
        refine xl4 (x := u.2.2 4 (u.2.1 17 j)) F hI (by omega) rfl dX0_work_82 ?_
        refine lv_aload_n F.1 F.2.1 dX0_work_83 rfl (lv_at hl 4 rfl) ?_
        refine xg4 F hI dX0_work_84 ?_
        refine lv_iload F.1 F.2.1 dX0_work_87 (lv_at hl 0 rfl) ?_
        refine xl4 (x := u.2.2 4 z) F hI (by omega) rfl dX0_work_89 ?_
        refine lv_iadd F.1 F.2.1 dX0_work_90 ?_
        refine xt4 (x := (u.2.2 4 (u.2.1 17 j)) + (u.2.2 4 z)) F hI (by omega) dX0_work_91 (fun H locs hI => ?_)
        refine lv_goto (tgt := 187) F.1 F.2.1 dX0_work_92 (by decide) ?_
        exact x_retv F hr hlk hI (by unfold fw; rw [if_neg (show ¬ u.2.1 15 j = 0 by omega), if_neg (show ¬ u.2.1 15 j = 1 by omega), if_pos (show u.2.1 15 j = 2 by omega), hz, nI_clamp (show z < 2 ^ 31 by omega)]; exact xz4 _ _ _) dX0_work_187
    · refine lv_aload_n F.1 F.2.1 dX0_work_50 rfl (lv_at hl 4 rfl) ?_
      refine xg4 F hI dX0_work_51 ?_
      refine lv_iload_n F.1 F.2.1 dX0_work_54 rfl (lv_at hl 2 rfl) ?_
      refine lv_aload_n F.1 F.2.1 dX0_work_55 rfl (lv_at hl 4 rfl) ?_
      refine xg4 F hI dX0_work_56 ?_
      refine lv_iload F.1 F.2.1 dX0_work_59 (lv_at hl 1 rfl) ?_
      refine xl4 (x := u.2.2 4 (u.2.1 17 j)) F hI (by omega) rfl dX0_work_61 ?_
      refine xt4 (x := u.2.2 4 (u.2.1 17 j)) F hI (by omega) dX0_work_62 (fun H locs hI => ?_)
      refine lv_goto (tgt := 187) F.1 F.2.1 dX0_work_63 (by decide) ?_
      exact x_retv F hr hlk hI (by unfold fw; rw [if_neg (show ¬ u.2.1 15 j = 0 by omega), if_pos (show u.2.1 15 j = 1 by omega)]; exact xz4 _ _ _) dX0_work_187
  · refine lv_aload_n F.1 F.2.1 dX0_work_34 rfl (lv_at hl 4 rfl) ?_
    refine xg4 F hI dX0_work_35 ?_
    refine lv_iload_n F.1 F.2.1 dX0_work_38 rfl (lv_at hl 2 rfl) ?_
    refine lv_iload F.1 F.2.1 dX0_work_39 (lv_at hl 0 rfl) ?_
    refine xt4 (x := u.2.2 18 j) F hI (by omega) dX0_work_41 (fun H locs hI => ?_)
    refine lv_goto (tgt := 187) F.1 F.2.1 dX0_work_42 (by decide) ?_
    exact x_retv F hr hlk hI (by unfold fw; rw [if_pos (show u.2.1 15 j = 0 by omega)]; exact xz4 _ _ _) dX0_work_187
end
section
set_option maxRecDepth 100000
set_option maxHeartbeats 4000000 in
theorem forget_loop {p : Program} {l : Launch} {e : Env} {R : Room} {s : State} {m : MethodId} {args : Array Value} {below : List Frame} {meth : Method} {c : Code} {cells slots : Nat} {Q : State → Prop} {g : va_G} {ad : Nat → Nat} {d : Nat → ClassId} {A : Nat → Prop} {u : XS} (F : CallFix p m c cX0_forgetBlocks 2 s args lw_all RX0) (kk : ∀ (v : XS) (H : Heap) (locs : List Loc) (ls : Array Slot), v.1 = u.1 → v.2.1 = u.2.1 → (∀ j, j ≠ 9 → v.2.2 j = u.2.2 j) → (∀ j, j < 297 → v.2.2 9 j = -1) → xI g ad d A s v H locs → lv_has ls 2 [(1, .int (nI 297)), (0, .ref (ad 0))] → W p l e R s m args below meth c H locs cells slots Q (F0 m 22 ls [])) : ∀ (n i : Nat) (v : XS) (H : Heap) (locs : List Loc) (ls : Array Slot), i + n = 297 → v.1 = u.1 → v.2.1 = u.2.1 → (∀ j, j ≠ 9 → v.2.2 j = u.2.2 j) → (∀ j, j < i → v.2.2 9 j = -1) → xI g ad d A s v H locs → lv_has ls 2 [(1, .int (nI i)), (0, .ref (ad 0))] → W p l e R s m args below meth c H locs cells slots Q (F0 m 2 ls []) := by
  intro n
  induction n with
  | zero =>
    intro i v H locs ls hin h1 h2 h3 h4 hI hl
    obtain rfl : i = 297 := by omega
    refine lv_iload_n F.1 F.2.1 dX0_forgetBlocks_2 rfl (lv_at hl 0 rfl) ?_
    refine lv_sipush (v := nI 297) F.1 F.2.1 dX0_forgetBlocks_3 (by decide) ?_
    refine t_icmp_ge (tgt := 22) F (nI_toInt (by decide)) (nI_toInt (by decide)) dX0_forgetBlocks_6 (by decide) (fun b_6 => ?_) (fun b_6 => absurd b_6 (by omega))
    exact kk v H locs ls h1 h2 h3 h4 hI hl
  | succ n ih =>
    intro i v H locs ls hin h1 h2 h3 h4 hI hl
    refine lv_iload_n F.1 F.2.1 dX0_forgetBlocks_2 rfl (lv_at hl 0 rfl) ?_
    refine lv_sipush (v := nI 297) F.1 F.2.1 dX0_forgetBlocks_3 (by decide) ?_
    refine t_icmp_ge (tgt := 22) F (nI_toInt (by omega)) (nI_toInt (by decide)) dX0_forgetBlocks_6 (by decide) (fun b_6 => absurd b_6 (by omega)) (fun b_6 => ?_)
    refine lv_aload_n F.1 F.2.1 dX0_forgetBlocks_9 rfl (lv_at hl 1 rfl) ?_
    refine xg9 F hI dX0_forgetBlocks_10 ?_
    refine lv_iload_n F.1 F.2.1 dX0_forgetBlocks_13 rfl (lv_at hl 0 rfl) ?_
    refine lv_iconst (v := (-1)) F.1 F.2.1 dX0_forgetBlocks_14 (by decide) ?_
    refine xt9 (x := (-1)) F hI (by omega) (by decide) dX0_forgetBlocks_15 (fun H locs hI => ?_)
    refine lv_iinc (v := nI (i + 1)) (lv' := [(1, .int (nI (i + 1))), (0, .ref (ad 0))]) F.1 F.2.1 dX0_forgetBlocks_16 hl (k := 0) rfl (n_inc _) (by decide) rfl (fun ls hl => ?_)
    refine lv_goto (tgt := 2) F.1 F.2.1 dX0_forgetBlocks_19 (by decide) ?_
    exact ih (i + 1) (xz v 9 i (-1)) H locs ls (by omega) h1 h2 (fun j hj => by rw [← h3 j hj]; simp [xz, va_up, hj]) (fun j hj => by
      by_cases hji : j = i
      · subst hji; simp [xz, va_up, upd]
      · rw [← h4 j (by omega)]; simp [xz, va_up, upd, hji]) hI hl
set_option maxHeartbeats 4000000 in
set_option maxRecDepth 100000 in
theorem metX0_forgetBlocks (l : Launch) (g : va_G) (ad : Nat → Nat) (d : Nat → ClassId) (A : Nat → Prop) (u : XS) : Met l yX0_forgetBlocks (ws_ yX0_forgetBlocks cX0_forgetBlocks 2 none) ({ frames := 0, cells := 0, slots := 0, locals := 0 }) (xPc g ad d A u []) (xQv g ad d A (fun u2 => (∀ k, u2.1 k = if k = 10 ∨ k = 14 then 0 else u.1 k) ∧ u2.2.1 = u.2.1 ∧ (∀ j, j ≠ 9 → u2.2.2 j = u.2.2 j) ∧ ∀ j, j < 297 → u2.2.2 9 j = -1)) 0 0 A := by
  refine x_met (by decide) rfl (Nat.le_of_ble_eq_true rfl) ?_
  intro p e s m below meth c ls F hr hlk hI hl
  have hl : lv_has ls 2 [(0, .ref (ad 0))] := hl
  refine lv_iconst (v := nI 0) F.1 F.2.1 dX0_forgetBlocks_0 (by decide) ?_
  refine lv_istore_n (lv' := [(1, .int (nI 0)), (0, .ref (ad 0))]) F.1 F.2.1 dX0_forgetBlocks_1 rfl hl (by decide) rfl (fun ls hl => ?_)
  refine forget_loop (u := u) F (fun v H locs ls h1 h2 h3 h4 hI hl => ?_) 297 0 u _ _ ls rfl rfl rfl (fun _ _ => rfl) (fun _ h => absurd h (by omega)) hI hl
  refine lv_aload_n F.1 F.2.1 dX0_forgetBlocks_22 rfl (lv_at hl 1 rfl) ?_
  refine lv_iconst (v := nI 0) F.1 F.2.1 dX0_forgetBlocks_23 (by decide) ?_
  refine xp10 (v := 0) F hI dX0_forgetBlocks_24 (fun H locs hI => ?_)
  refine lv_aload_n F.1 F.2.1 dX0_forgetBlocks_27 rfl (lv_at hl 1 rfl) ?_
  refine lv_iconst (v := nI 0) F.1 F.2.1 dX0_forgetBlocks_28 (by decide) ?_
  refine xp14 (v := 0) F hI dX0_forgetBlocks_29 (fun H locs hI => ?_)
  exact x_retv F hr hlk hI (⟨fun k => by
    simp only [xs, va_up, h1]
    by_cases a : k = 14
    · simp [a]
    · by_cases b : k = 10
      · simp [b]
      · simp [a, b], h2, h3, h4⟩) dX0_forgetBlocks_32
set_option maxHeartbeats 4000000 in
theorem push_loop {p : Program} {l : Launch} {e : Env} {R : Room} {s : State} {m : MethodId} {args : Array Value} {below : List Frame} {meth : Method} {c : Code} {cells slots : Nat} {Q : State → Prop} {g : va_G} {ad : Nat → Nat} {d : Nat → ClassId} {A : Nat → Prop} {u : XS} {a : Int32} (F : CallFix p m c cX1_push 3 s args lw_all RX1) (kk : ∀ (v : XS) (H : Heap) (locs : List Loc) (ls : Array Slot), v.1 = u.1 → v.2.1 = u.2.1 → (∀ j, j ≠ 3 → v.2.2 j = u.2.2 j) → (∀ j, 0 < j → j ≤ 7 → v.2.2 3 j = u.2.2 3 (j - 1)) → mI g ad d A s v H locs → lv_has ls 3 [(2, .int (nI 0)), (0, .ref (ad 0)), (1, .int a)] → W p l e R s m args below meth c H locs cells slots Q (F0 m 27 ls [])) : ∀ (i : Nat) (v : XS) (H : Heap) (locs : List Loc) (ls : Array Slot), i ≤ 7 → v.1 = u.1 → v.2.1 = u.2.1 → (∀ j, j ≠ 3 → v.2.2 j = u.2.2 j) → (∀ j, i < j → j ≤ 7 → v.2.2 3 j = u.2.2 3 (j - 1)) → (∀ j, j ≤ i → v.2.2 3 j = u.2.2 3 j) → mI g ad d A s v H locs → lv_has ls 3 [(2, .int (nI i)), (0, .ref (ad 0)), (1, .int a)] → W p l e R s m args below meth c H locs cells slots Q (F0 m 3 ls []) := by
  intro i
  induction i with
  | zero =>
    intro v H locs ls hin h1 h2 h3 h4 h5 hI hl
    refine lv_iload_n F.1 F.2.1 dX1_push_3 rfl (lv_at hl 0 rfl) ?_
    refine t_if_le (tgt := 27) F (nI_toInt (by decide)) dX1_push_4 (by decide) (fun b_4 => ?_) (fun b_4 => absurd b_4 (by omega))
    exact kk v H locs ls h1 h2 h3 h4 hI hl
  | succ i ih =>
    intro v H locs ls hin h1 h2 h3 h4 h5 hI hl
    refine lv_iload_n F.1 F.2.1 dX1_push_3 rfl (lv_at hl 0 rfl) ?_
    refine t_if_le (tgt := 27) F (nI_toInt (by omega)) dX1_push_4 (by decide) (fun b_4 => absurd b_4 (by omega)) (fun b_4 => ?_)
    refine lv_aload_n F.1 F.2.1 dX1_push_7 rfl (lv_at hl 1 rfl) ?_
    refine mg3 F hI dX1_push_8 ?_
    refine lv_iload_n F.1 F.2.1 dX1_push_11 rfl (lv_at hl 0 rfl) ?_
    refine lv_aload_n F.1 F.2.1 dX1_push_12 rfl (lv_at hl 1 rfl) ?_
    refine mg3 F hI dX1_push_13 ?_
    refine lv_iload_n F.1 F.2.1 dX1_push_16 rfl (lv_at hl 0 rfl) ?_
    refine lv_iconst (v := nI 1) F.1 F.2.1 dX1_push_17 (by decide) ?_
    refine n_isub F (by omega) dX1_push_18 ?_
    refine ml3 (x := v.2.2 3 ((i + 1) - 1)) F hI (by omega) rfl dX1_push_19 ?_
    refine mt3 (x := v.2.2 3 ((i + 1) - 1)) F hI (by omega) dX1_push_20 (fun H locs hI => ?_)
    refine lv_iinc (v := nI ((i + 1) - 1)) (lv' := [(2, .int (nI ((i + 1) - 1))), (0, .ref (ad 0)), (1, .int a)]) F.1 F.2.1 dX1_push_21 hl (k := 0) rfl (n_dec (by omega)) (by decide) rfl (fun ls hl => ?_)
    refine lv_goto (tgt := 3) F.1 F.2.1 dX1_push_24 (by decide) ?_
    exact ih (xz v 3 (i + 1) (v.2.2 3 ((i + 1) - 1))) H locs ls (by omega) h1 h2 (fun j hj => by rw [← h3 j hj]; simp [xz, va_up, hj]) (fun j hj hj7 => by
      by_cases hji : j = i + 1
      · subst hji; rw [show i + 1 - 1 = i by omega, ← h5 i (by omega)]; simp [xz, va_up, upd]
      · rw [← h4 j (by omega) hj7]; simp [xz, va_up, upd, hji]) (fun j hj => by rw [← h5 j (by omega)]; simp [xz, va_up, upd, show j ≠ i + 1 by omega]) hI hl
set_option maxHeartbeats 4000000 in
set_option maxRecDepth 100000 in
theorem metX1_push (l : Launch) (g : va_G) (ad : Nat → Nat) (d : Nat → ClassId) (A : Nat → Prop) (u : XS) (a : Int32) : Met l yX1_push (ws_ yX1_push cX1_push 3 none) ({ frames := 0, cells := 0, slots := 0, locals := 0 }) (mPc g ad d A u [.int a]) (mQv g ad d A (fun u2 => (∀ k, u2.1 k = if k = 4 then u.1 4 + 1 else u.1 k) ∧ u2.2.1 = u.2.1 ∧ (∀ j, j ≠ 3 → u2.2.2 j = u.2.2 j) ∧ u2.2.2 3 0 = a ∧ ∀ j, j < 7 → u2.2.2 3 (j + 1) = u.2.2 3 j)) 0 0 A := by
  refine m_met (by decide) rfl (Nat.le_of_ble_eq_true rfl) ?_
  intro p e s m below meth c ls F hr hlk hI hl
  have hl : lv_has ls 3 [(0, .ref (ad 0)), (1, .int a)] := hl
  refine lv_bipush (v := nI 7) F.1 F.2.1 dX1_push_0 (by decide) ?_
  refine lv_istore_n (lv' := [(2, .int (nI 7)), (0, .ref (ad 0)), (1, .int a)]) F.1 F.2.1 dX1_push_2 rfl hl (by decide) rfl (fun ls hl => ?_)
  refine push_loop (u := u) (a := a) F (fun v H locs ls h1 h2 h3 h4 hI hl => ?_) 7 u _ _ ls (by omega) rfl rfl (fun _ _ => rfl) (fun j h h2 => absurd h (by omega)) (fun _ _ => rfl) hI hl
  refine lv_aload_n F.1 F.2.1 dX1_push_27 rfl (lv_at hl 1 rfl) ?_
  refine mg3 F hI dX1_push_28 ?_
  refine lv_iconst (v := nI 0) F.1 F.2.1 dX1_push_31 (by decide) ?_
  refine lv_iload_n F.1 F.2.1 dX1_push_32 rfl (lv_at hl 2 rfl) ?_
  refine mt3 (x := a) F hI (by omega) dX1_push_33 (fun H locs hI => ?_)
  refine lv_aload_n F.1 F.2.1 dX1_push_34 rfl (lv_at hl 1 rfl) ?_
  refine lv_dup F.1 F.2.1 dX1_push_35 rfl ?_
  refine mg4 (v := v.1 4) F hI rfl dX1_push_36 ?_
  refine lv_iconst (v := nI 1) F.1 F.2.1 dX1_push_39 (by decide) ?_
  refine n_iadd F dX1_push_40 ?_
  refine mp4 (v := (v.1 4) + 1) F hI dX1_push_41 (fun H locs hI => ?_)
  exact m_retv F hr hlk hI (⟨fun k => by
    simp only [xs, xz, va_up, h1], h2, fun j hj => by rw [← h3 j hj]; simp [xs, xz, va_up, hj], by simp [xs, xz, va_up, upd], fun j hj => by
    have q := h4 (j + 1) (by omega) (by omega)
    rw [show j + 1 - 1 = j by omega] at q
    rw [← q]; simp [xs, xz, va_up, upd]⟩) dX1_push_44
set_option maxHeartbeats 4000000 in
theorem pop_loop {p : Program} {l : Launch} {e : Env} {R : Room} {s : State} {m : MethodId} {args : Array Value} {below : List Frame} {meth : Method} {c : Code} {cells slots : Nat} {Q : State → Prop} {g : va_G} {ad : Nat → Nat} {d : Nat → ClassId} {A : Nat → Prop} {u : XS} (F : CallFix p m c cX1_pop 3 s args lw_all RX1) (kk : ∀ (v : XS) (H : Heap) (locs : List Loc) (ls : Array Slot), v.1 = u.1 → v.2.1 = u.2.1 → (∀ j, j ≠ 3 → v.2.2 j = u.2.2 j) → (∀ j, j < 7 → v.2.2 3 j = u.2.2 3 (j + 1)) → mI g ad d A s v H locs → lv_has ls 3 [(2, .int (nI 7)), (1, .int (u.2.2 3 0)), (0, .ref (ad 0))] → W p l e R s m args below meth c H locs cells slots Q (F0 m 35 ls [])) : ∀ (n i : Nat) (v : XS) (H : Heap) (locs : List Loc) (ls : Array Slot), i + n = 7 → v.1 = u.1 → v.2.1 = u.2.1 → (∀ j, j ≠ 3 → v.2.2 j = u.2.2 j) → (∀ j, j < i → v.2.2 3 j = u.2.2 3 (j + 1)) → (∀ j, i ≤ j → v.2.2 3 j = u.2.2 3 j) → mI g ad d A s v H locs → lv_has ls 3 [(2, .int (nI i)), (1, .int (u.2.2 3 0)), (0, .ref (ad 0))] → W p l e R s m args below meth c H locs cells slots Q (F0 m 9 ls []) := by
  intro n
  induction n with
  | zero =>
    intro i v H locs ls hin h1 h2 h3 h4 h5 hI hl
    obtain rfl : i = 7 := by omega
    refine lv_iload_n F.1 F.2.1 dX1_pop_9 rfl (lv_at hl 0 rfl) ?_
    refine lv_bipush (v := nI 7) F.1 F.2.1 dX1_pop_10 (by decide) ?_
    refine t_icmp_ge (tgt := 35) F (nI_toInt (by decide)) (nI_toInt (by decide)) dX1_pop_12 (by decide) (fun b_12 => ?_) (fun b_12 => absurd b_12 (by omega))
    exact kk v H locs ls h1 h2 h3 h4 hI hl
  | succ n ih =>
    intro i v H locs ls hin h1 h2 h3 h4 h5 hI hl
    refine lv_iload_n F.1 F.2.1 dX1_pop_9 rfl (lv_at hl 0 rfl) ?_
    refine lv_bipush (v := nI 7) F.1 F.2.1 dX1_pop_10 (by decide) ?_
    refine t_icmp_ge (tgt := 35) F (nI_toInt (by omega)) (nI_toInt (by decide)) dX1_pop_12 (by decide) (fun b_12 => absurd b_12 (by omega)) (fun b_12 => ?_)
    refine lv_aload_n F.1 F.2.1 dX1_pop_15 rfl (lv_at hl 2 rfl) ?_
    refine mg3 F hI dX1_pop_16 ?_
    refine lv_iload_n F.1 F.2.1 dX1_pop_19 rfl (lv_at hl 0 rfl) ?_
    refine lv_aload_n F.1 F.2.1 dX1_pop_20 rfl (lv_at hl 2 rfl) ?_
    refine mg3 F hI dX1_pop_21 ?_
    refine lv_iload_n F.1 F.2.1 dX1_pop_24 rfl (lv_at hl 0 rfl) ?_
    refine lv_iconst (v := nI 1) F.1 F.2.1 dX1_pop_25 (by decide) ?_
    refine n_iadd F dX1_pop_26 ?_
    refine ml3 (x := v.2.2 3 (i + 1)) F hI (by omega) rfl dX1_pop_27 ?_
    refine mt3 (x := v.2.2 3 (i + 1)) F hI (by omega) dX1_pop_28 (fun H locs hI => ?_)
    refine lv_iinc (v := nI (i + 1)) (lv' := [(2, .int (nI (i + 1))), (1, .int (u.2.2 3 0)), (0, .ref (ad 0))]) F.1 F.2.1 dX1_pop_29 hl (k := 0) rfl (n_inc _) (by decide) rfl (fun ls hl => ?_)
    refine lv_goto (tgt := 9) F.1 F.2.1 dX1_pop_32 (by decide) ?_
    exact ih (i + 1) (xz v 3 i (v.2.2 3 (i + 1))) H locs ls (by omega) h1 h2 (fun j hj => by rw [← h3 j hj]; simp [xz, va_up, hj]) (fun j hj => by
      by_cases hji : j = i
      · subst hji; rw [← h5 (j + 1) (by omega)]; simp [xz, va_up, upd]
      · rw [← h4 j (by omega)]; simp [xz, va_up, upd, hji]) (fun j hj => by rw [← h5 j (by omega)]; simp [xz, va_up, upd, show j ≠ i by omega]) hI hl
set_option maxHeartbeats 4000000 in
set_option maxRecDepth 100000 in
theorem metX1_pop (l : Launch) (g : va_G) (ad : Nat → Nat) (d : Nat → ClassId) (A : Nat → Prop) (u : XS) (hd : 1 ≤ u.1 4) : Met l yX1_pop (ws_ yX1_pop cX1_pop 3 (some .int)) ({ frames := 0, cells := 0, slots := 0, locals := 0 }) (mPc g ad d A u []) (mQi g ad d A (fun r u2 => r = u.2.2 3 0 ∧ (∀ k, u2.1 k = if k = 4 then u.1 4 - 1 else u.1 k) ∧ u2.2.1 = u.2.1 ∧ (∀ j, j ≠ 3 → u2.2.2 j = u.2.2 j) ∧ ∀ j, j < 7 → u2.2.2 3 j = u.2.2 3 (j + 1))) 0 0 A := by
  refine m_met (by decide) rfl (Nat.le_of_ble_eq_true rfl) ?_
  intro p e s m below meth c ls F hr hlk hI hl
  have hl : lv_has ls 3 [(0, .ref (ad 0))] := hl
  refine lv_aload_n F.1 F.2.1 dX1_pop_0 rfl (lv_at hl 0 rfl) ?_
  refine mg3 F hI dX1_pop_1 ?_
  refine lv_iconst (v := nI 0) F.1 F.2.1 dX1_pop_4 (by decide) ?_
  refine ml3 (x := u.2.2 3 0) F hI (by omega) rfl dX1_pop_5 ?_
  refine lv_istore_n (lv' := [(1, .int (u.2.2 3 0)), (0, .ref (ad 0))]) F.1 F.2.1 dX1_pop_6 rfl hl (by decide) rfl (fun ls hl => ?_)
  refine lv_iconst (v := nI 0) F.1 F.2.1 dX1_pop_7 (by decide) ?_
  refine lv_istore_n (lv' := [(2, .int (nI 0)), (1, .int (u.2.2 3 0)), (0, .ref (ad 0))]) F.1 F.2.1 dX1_pop_8 rfl hl (by decide) rfl (fun ls hl => ?_)
  refine pop_loop (u := u) F (fun v H locs ls h1 h2 h3 h4 hI hl => ?_) 7 0 u _ _ ls rfl rfl rfl (fun _ _ => rfl) (fun j h => absurd h (by omega)) (fun _ _ => rfl) hI hl
  have hv4 : v.1 4 = u.1 4 := by rw [h1]
  refine lv_aload_n F.1 F.2.1 dX1_pop_35 rfl (lv_at hl 2 rfl) ?_
  refine lv_dup F.1 F.2.1 dX1_pop_36 rfl ?_
  refine mg4 (v := u.1 4) F hI hv4 dX1_pop_37 ?_
  refine lv_iconst (v := nI 1) F.1 F.2.1 dX1_pop_40 (by decide) ?_
  refine n_isub F (by omega) dX1_pop_41 ?_
  refine mp4 (v := (u.1 4) - 1) F hI dX1_pop_42 (fun H locs hI => ?_)
  refine lv_iload_n F.1 F.2.1 dX1_pop_45 rfl (lv_at hl 1 rfl) ?_
  exact m_reti F hr hlk hI (⟨rfl, fun k => by simp only [xs, va_up, h1], h2, h3, h4⟩) dX1_pop_46
end
section
/-! THE MACHINE, pure: one instruction, a run, states that are alike below the height -/
set_option maxRecDepth 100000
/-- height, registers, cells, pc, count, status -/
abbrev TS : Type := Nat × (Nat → Int32) × (Nat → Int32) × Nat × Nat × Nat
def act (o k : Nat) (a : Int32) (h : Nat) (f g : Nat → Int32) : Nat × (Nat → Int32) × (Nat → Int32) :=
  if o = 0 then (h + 1, upd f h a, g)
  else if o = 1 then (h + 1, upd f h (f (h - 1 - k)), g)
  else if o = 2 then (h + 1, upd f h (g k), g)
  else if o = 3 then (h - 1, f, upd g k (f (h - 1)))
  else if o = 4 then (h, upd (upd f (h - 1) (f (h - 1 - k))) (h - 1 - k) (f (h - 1)), g)
  else if o = 5 then (h, upd f (h - 1) (f (h - 1) + f (h - 1 - k)), g)
  else if o = 6 then (h, upd f (h - 1) (f (h - 1) - f (h - 1 - k)), g)
  else if o = 7 then (h, upd f (h - 1) (f (h - 1) * f (h - 1 - k)), g)
  else if o = 8 then (h - 1, upd f (h - 1 - k) (f (h - 1 - k) + f (h - 1)), g)
  else if o = 9 then (h - 1, upd f (h - 1 - k) (f (h - 1 - k) - f (h - 1)), g)
  else if o ≤ 11 then (h - 1, f, g)
  else (h, f, g)
def nxt (o k : Nat) (v : Int32) (pc : Nat) : Nat := if o = 12 then k else if (o = 10 ∨ o = 11) ∧ brT o v then k else pc + 1
def st1 (L : Nat) (O : Nat → Nat) (N : Nat → Int32) (t : TS) : TS :=
  if L ≤ t.2.2.2.1 ∨ fl (O t.2.2.2.1) (N t.2.2.2.1) t.1 then (t.1, t.2.1, t.2.2.1, t.2.2.2.1, t.2.2.2.2.1, 2)
  else if O t.2.2.2.1 = 13 then (t.1, t.2.1, t.2.2.1, t.2.2.2.1, t.2.2.2.2.1 + 1, 1)
  else ((act (O t.2.2.2.1) (N t.2.2.2.1).toNatClampNeg (N t.2.2.2.1) t.1 t.2.1 t.2.2.1).1, (act (O t.2.2.2.1) (N t.2.2.2.1).toNatClampNeg (N t.2.2.2.1) t.1 t.2.1 t.2.2.1).2.1, (act (O t.2.2.2.1) (N t.2.2.2.1).toNatClampNeg (N t.2.2.2.1) t.1 t.2.1 t.2.2.1).2.2, nxt (O t.2.2.2.1) (N t.2.2.2.1).toNatClampNeg (t.2.1 (t.1 - 1)) t.2.2.2.1, t.2.2.2.2.1 + 1, t.2.2.2.2.2)
def runT (L : Nat) (O : Nat → Nat) (N : Nat → Int32) : Nat → TS → TS
  | 0, t => t
  | n + 1, t => if t.2.2.2.2.2 = 0 then runT L O N n (st1 L O N t) else t
/-- alike: below the height, and in the cells -/
def eqT (a b : TS) : Prop := a.1 = b.1 ∧ (∀ i, i < a.1 → a.2.1 i = b.2.1 i) ∧ (∀ i, i < 8 → a.2.2.1 i = b.2.2.1 i) ∧ a.2.2.2 = b.2.2.2
theorem eqT.rf (a : TS) : eqT a a := ⟨rfl, fun _ _ => rfl, fun _ _ => rfl, rfl⟩
theorem eqT.tr {a b c : TS} (h1 : eqT a b) (h2 : eqT b c) : eqT a c := ⟨h1.1.trans h2.1, fun i hi => (h1.2.1 i hi).trans (h2.2.1 i (by rw [← h1.1]; exact hi)), fun i hi => (h1.2.2.1 i hi).trans (h2.2.2.1 i hi), h1.2.2.2.trans h2.2.2.2⟩
/-- bounds of a state -/
def tOK (t : TS) : Prop := t.1 ≤ 8 ∧ t.2.2.2.1 ≤ 32 ∧ t.2.2.2.2.2 ≤ 2
theorem vOK_k {o : Nat} {a : Int32} (h : vOK o a) (h0 : o ≠ 0) (h13 : o ≠ 13) : ∃ k : Nat, a = nI k ∧ k ≤ 31 ∧ (o ≤ 9 → k ≤ 7) ∧ (8 ≤ o → o ≤ 9 → 1 ≤ k) ∧ a.toNatClampNeg = k ∧ a.toInt = (k : Int) := by
  rcases h.2 with h | h | ⟨k, h1, h2, h3, h4⟩
  · exact absurd h h0
  · exact absurd h h13
  · exact ⟨k, h1, h2, h3, h4, by rw [h1, nI_clamp (by omega)], by rw [h1, nI_toInt (by omega)]⟩
theorem upd_eq (f : Nat → Int32) (k : Nat) (x : Int32) : upd f k x k = x := by simp [upd]
theorem upd_ne (f : Nat → Int32) {k j : Nat} (x : Int32) (h : j ≠ k) : upd f k x j = f j := by simp [upd, h]
theorem act_congr {o k : Nat} {a : Int32} {h : Nat} {f g f' g' : Nat → Int32} (ho : o ≤ 13) (hk : o = 2 ∨ o = 3 → k ≤ 7) (h1 : o = 1 ∨ (4 ≤ o ∧ o ≤ 9) → k < h) (h2 : o = 3 ∨ o = 10 ∨ o = 11 → 1 ≤ h) (hf : ∀ i, i < h → f i = f' i) (hg : ∀ i, i < 8 → g i = g' i) :
    (act o k a h f g).1 = (act o k a h f' g').1 ∧ (∀ i, i < (act o k a h f g).1 → (act o k a h f g).2.1 i = (act o k a h f' g').2.1 i) ∧ (∀ i, i < 8 → (act o k a h f g).2.2 i = (act o k a h f' g').2.2 i) := by
  have hu : ∀ (n : Nat) (x y : Int32) (i : Nat), x = y → (i < h ∨ i = n) → upd f n x i = upd f' n y i := by
    intro n x y i e hi
    subst e
    by_cases q : i = n
    · subst q; rw [upd_eq, upd_eq]
    · rw [upd_ne _ _ q, upd_ne _ _ q]; exact hf i (by omega)
  unfold act
  by_cases o0 : o = 0
  · rw [if_pos o0, if_pos o0]; exact ⟨rfl, fun i hi => hu _ _ _ i rfl (by simp only at hi; omega), hg⟩
  rw [if_neg o0, if_neg o0]
  by_cases o1 : o = 1
  · rw [if_pos o1, if_pos o1]; exact ⟨rfl, fun i hi => hu _ _ _ i (hf _ (by omega)) (by simp only at hi; omega), hg⟩
  rw [if_neg o1, if_neg o1]
  by_cases o2 : o = 2
  · rw [if_pos o2, if_pos o2]; exact ⟨rfl, fun i hi => hu _ _ _ i (hg _ (by omega)) (by simp only at hi; omega), hg⟩
  rw [if_neg o2, if_neg o2]
  by_cases o3 : o = 3
  · rw [if_pos o3, if_pos o3]
    refine ⟨rfl, fun i hi => hf i (by simp only at hi; omega), fun i hi => ?_⟩
    show upd g k (f (h - 1)) i = upd g' k (f' (h - 1)) i
    rw [hf (h - 1) (by omega)]
    by_cases q : i = k
    · subst q; rw [upd_eq, upd_eq]
    · rw [upd_ne _ _ q, upd_ne _ _ q]; exact hg i hi
  rw [if_neg o3, if_neg o3]
  by_cases o4 : o = 4
  · rw [if_pos o4, if_pos o4]
    refine ⟨rfl, fun i hi => ?_, hg⟩
    show upd (upd f (h - 1) (f (h - 1 - k))) (h - 1 - k) (f (h - 1)) i = upd (upd f' (h - 1) (f' (h - 1 - k))) (h - 1 - k) (f' (h - 1)) i
    rw [hf (h - 1) (by omega), hf (h - 1 - k) (by omega)]
    by_cases q : i = h - 1 - k
    · subst q; rw [upd_eq, upd_eq]
    · rw [upd_ne _ _ q, upd_ne _ _ q]; exact hu _ _ _ i rfl (by simp only at hi; omega)
  rw [if_neg o4, if_neg o4]
  by_cases o5 : o = 5
  · rw [if_pos o5, if_pos o5]; exact ⟨rfl, fun i hi => hu _ _ _ i (by rw [hf (h - 1) (by omega), hf (h - 1 - k) (by omega)]) (by simp only at hi; omega), hg⟩
  rw [if_neg o5, if_neg o5]
  by_cases o6 : o = 6
  · rw [if_pos o6, if_pos o6]; exact ⟨rfl, fun i hi => hu _ _ _ i (by rw [hf (h - 1) (by omega), hf (h - 1 - k) (by omega)]) (by simp only at hi; omega), hg⟩
  rw [if_neg o6, if_neg o6]
  by_cases o7 : o = 7
  · rw [if_pos o7, if_pos o7]; exact ⟨rfl, fun i hi => hu _ _ _ i (by rw [hf (h - 1) (by omega), hf (h - 1 - k) (by omega)]) (by simp only at hi; omega), hg⟩
  rw [if_neg o7, if_neg o7]
  by_cases o8 : o = 8
  · rw [if_pos o8, if_pos o8]; exact ⟨rfl, fun i hi => hu _ _ _ i (by rw [hf (h - 1) (by omega), hf (h - 1 - k) (by omega)]) (by simp only at hi; omega), hg⟩
  rw [if_neg o8, if_neg o8]
  by_cases o9 : o = 9
  · rw [if_pos o9, if_pos o9]; exact ⟨rfl, fun i hi => hu _ _ _ i (by rw [hf (h - 1) (by omega), hf (h - 1 - k) (by omega)]) (by simp only at hi; omega), hg⟩
  rw [if_neg o9, if_neg o9]
  by_cases o11 : o ≤ 11
  · rw [if_pos o11, if_pos o11]; exact ⟨rfl, fun i hi => hf i (by simp only at hi; omega), hg⟩
  rw [if_neg o11, if_neg o11]
  exact ⟨rfl, hf, hg⟩
theorem act_h {o k : Nat} {a : Int32} {h : Nat} {f g : Nat → Int32} (hn : o ≤ 2 → h ≤ 7) (h8 : h ≤ 8) : (act o k a h f g).1 ≤ 8 := by
  unfold act
  repeat' split
  all_goals (simp only; omega)
/-- what an instruction needs, out of its not faulting -/
theorem nofl {o : Nat} {a : Int32} {h : Nat} (hv : vOK o a) (hf : ¬ fl o a h) (h8 : h ≤ 8) : (o ≤ 2 → h ≤ 7) ∧ (o = 3 ∨ o = 10 ∨ o = 11 → 1 ≤ h) ∧ (o = 2 ∨ o = 3 → a.toNatClampNeg ≤ 7) ∧ (o = 1 ∨ (4 ≤ o ∧ o ≤ 9) → a.toNatClampNeg < h) := by
  have h13 := hv.1
  by_cases o0 : o = 0
  · subst o0
    exact ⟨fun _ => by unfold fl at hf; omega, fun _ => by omega, fun _ => by omega, fun _ => by omega⟩
  by_cases o13 : o = 13
  · subst o13
    exact ⟨fun _ => by omega, fun _ => by omega, fun _ => by omega, fun _ => by omega⟩
  obtain ⟨k, h1, h2, h3, h4, h5, h6⟩ := vOK_k hv o0 o13
  rw [h5]
  unfold fl at hf
  rw [h6] at hf
  exact ⟨fun _ => by omega, fun _ => by omega, fun _ => by omega, fun _ => by omega⟩
theorem st1_congr {L : Nat} {O : Nat → Nat} {N : Nat → Int32} (hp : pOK L O N) {a b : TS} (h8 : a.1 ≤ 8) (h : eqT a b) : eqT (st1 L O N a) (st1 L O N b) := by
  obtain ⟨ah, af, ag, ap, ac, as⟩ := a
  obtain ⟨bh, bf, bg, bp, bc, bs⟩ := b
  obtain ⟨e1, e2, e3, e4⟩ := h
  dsimp only at e1 e2 e3 e4 h8
  cases e4
  subst e1
  unfold st1
  dsimp only
  by_cases hc : L ≤ ap ∨ fl (O ap) (N ap) ah
  · rw [if_pos hc, if_pos hc]; exact ⟨rfl, e2, e3, rfl⟩
  rw [if_neg hc, if_neg hc]
  by_cases h13 : O ap = 13
  · rw [if_pos h13, if_pos h13]; exact ⟨rfl, e2, e3, rfl⟩
  rw [if_neg h13, if_neg h13]
  have hpL : ap < L := by omega
  have hv := hp.2 ap hpL
  obtain ⟨n1, n2, n3, n4⟩ := nofl hv (fun q => hc (Or.inr q)) h8
  obtain ⟨c1, c2, c3⟩ := act_congr (a := N ap) (f' := bf) (g' := bg) hv.1 n3 n4 n2 e2 e3
  refine ⟨c1, c2, c3, ?_⟩
  dsimp only
  congr 1
  unfold nxt
  by_cases hb : O ap = 10 ∨ O ap = 11
  · rw [e2 (ah - 1) (by have := n2 (Or.inr hb); omega)]
  · simp [hb]
theorem st1_ok {L : Nat} {O : Nat → Nat} {N : Nat → Int32} (hp : pOK L O N) {t : TS} (h : tOK t) : tOK (st1 L O N t) := by
  obtain ⟨th, f, g, p, ct, st⟩ := t
  obtain ⟨h1, h2, h3⟩ := h
  dsimp only at h1 h2 h3
  unfold st1
  dsimp only
  by_cases hc : L ≤ p ∨ fl (O p) (N p) th
  · rw [if_pos hc]; exact ⟨h1, h2, Nat.le_refl 2⟩
  rw [if_neg hc]
  by_cases h13 : O p = 13
  · rw [if_pos h13]; exact ⟨h1, h2, show (1 : Nat) ≤ 2 by omega⟩
  rw [if_neg h13]
  have hpL : p < L := by omega
  have hv := hp.2 p hpL
  obtain ⟨n1, n2, n3, n4⟩ := nofl hv (fun q => hc (Or.inr q)) h1
  refine ⟨act_h n1 h1, ?_, h3⟩
  show nxt _ _ _ _ ≤ 32
  have hL := hp.1
  unfold nxt
  by_cases o12 : O p = 12
  · rw [if_pos o12]
    obtain ⟨k, -, k2, -, -, k5, -⟩ := vOK_k hv (by omega) h13
    omega
  rw [if_neg o12]
  by_cases hb : (O p = 10 ∨ O p = 11) ∧ brT (O p) (f (th - 1))
  · rw [if_pos hb]
    obtain ⟨k, -, k2, -, -, k5, -⟩ := vOK_k hv (by omega) h13
    omega
  · rw [if_neg hb]; omega
theorem runT_add (L : Nat) (O : Nat → Nat) (N : Nat → Int32) : ∀ (a b : Nat) (t : TS), runT L O N (a + b) t = runT L O N b (runT L O N a t)
  | 0, b, t => by rw [Nat.zero_add]; rfl
  | a + 1, b, t => by
    rw [show a + 1 + b = (a + b) + 1 by omega]
    show (if t.2.2.2.2.2 = 0 then runT L O N (a + b) (st1 L O N t) else t) = runT L O N b (if t.2.2.2.2.2 = 0 then runT L O N a (st1 L O N t) else t)
    by_cases h : t.2.2.2.2.2 = 0
    · rw [if_pos h, if_pos h]; exact runT_add L O N a b _
    · rw [if_neg h, if_neg h]
      cases b with
      | zero => rfl
      | succ b => show t = if t.2.2.2.2.2 = 0 then runT L O N b (st1 L O N t) else t; rw [if_neg h]
theorem runT_stop {L : Nat} {O : Nat → Nat} {N : Nat → Int32} (n : Nat) {t : TS} (h : t.2.2.2.2.2 ≠ 0) : runT L O N n t = t := by
  cases n with
  | zero => rfl
  | succ n => show (if t.2.2.2.2.2 = 0 then runT L O N n (st1 L O N t) else t) = t; rw [if_neg h]
theorem runT_1 {L : Nat} {O : Nat → Nat} {N : Nat → Int32} {t : TS} (h : t.2.2.2.2.2 = 0) : runT L O N 1 t = st1 L O N t := by
  show (if t.2.2.2.2.2 = 0 then runT L O N 0 (st1 L O N t) else t) = _
  rw [if_pos h]; rfl
theorem runT_congr {L : Nat} {O : Nat → Nat} {N : Nat → Int32} (hp : pOK L O N) : ∀ (n : Nat) {a b : TS}, tOK a → eqT a b → eqT (runT L O N n a) (runT L O N n b)
  | 0, a, b, _, h => h
  | n + 1, a, b, hk, h => by
    show eqT (if a.2.2.2.2.2 = 0 then runT L O N n (st1 L O N a) else a) (if b.2.2.2.2.2 = 0 then runT L O N n (st1 L O N b) else b)
    have e : a.2.2.2.2.2 = b.2.2.2.2.2 := by rw [h.2.2.2]
    rw [← e]
    by_cases q : a.2.2.2.2.2 = 0
    · rw [if_pos q, if_pos q]; exact runT_congr hp n (st1_ok hp hk) (st1_congr hp hk.1 h)
    · rw [if_neg q, if_neg q]; exact h
theorem runT_ok {L : Nat} {O : Nat → Nat} {N : Nat → Int32} (hp : pOK L O N) : ∀ (n : Nat) {a : TS}, tOK a → tOK (runT L O N n a)
  | 0, a, h => h
  | n + 1, a, h => by
    show tOK (if a.2.2.2.2.2 = 0 then runT L O N n (st1 L O N a) else a)
    by_cases q : a.2.2.2.2.2 = 0
    · rw [if_pos q]; exact runT_ok hp n (st1_ok hp h)
    · rw [if_neg q]; exact h
theorem tOK_eq {a b : TS} (h : eqT a b) (k : tOK a) : tOK b := ⟨by rw [← h.1]; exact k.1, by rw [← h.2.2.2]; exact k.2.1, by rw [← h.2.2.2]; exact k.2.2⟩
theorem eqT.sy {a b : TS} (h : eqT a b) : eqT b a := ⟨h.1.symm, fun i hi => (h.2.1 i (by rw [h.1]; exact hi)).symm, fun i hi => (h.2.2.1 i hi).symm, h.2.2.2.symm⟩
/-- the machine in an X object, and what else an instruction leaves -/
def abX (u : XS) : TS := (u.1 5, u.2.2 4, u.2.2 3, u.1 6, u.1 8, u.1 7)
def mch (u v : XS) : Prop := (∀ k, k ≠ 5 → k ≠ 6 → k ≠ 7 → k ≠ 8 → v.1 k = u.1 k) ∧ v.2.1 = u.2.1 ∧ ∀ k, k ≠ 3 → k ≠ 4 → v.2.2 k = u.2.2 k
theorem mch.rf (u : XS) : mch u u := ⟨fun _ _ _ _ _ => rfl, rfl, fun _ _ _ => rfl⟩
theorem mch.tr {u v w : XS} (h1 : mch u v) (h2 : mch v w) : mch u w := ⟨fun k a b c d => (h2.1 k a b c d).trans (h1.1 k a b c d), h2.2.1.trans h1.2.1, fun k a b => (h2.2.2 k a b).trans (h1.2.2 k a b)⟩
theorem mch.fld {u v : XS} (h : mch u v) {k x : Nat} (hk : k = 5 ∨ k = 6 ∨ k = 7 ∨ k = 8) : mch u (xs v k x) := ⟨fun j a b c d => by rw [← h.1 j a b c d]; simp [xs, va_up, show j ≠ k by omega], h.2.1, h.2.2⟩
theorem abX_M {o k : Nat} {a : Int32} (u : XS) (ho : o ≤ 3) : abX (exM o k a u) = ((act o k a (u.1 5) (u.2.2 4) (u.2.2 3)).1, (act o k a (u.1 5) (u.2.2 4) (u.2.2 3)).2.1, (act o k a (u.1 5) (u.2.2 4) (u.2.2 3)).2.2, u.1 6, u.1 8, u.1 7) ∧ mch u (exM o k a u) := by
  have key : ∀ (w : XS) (j i x : Nat) (z : Int32), (j = 3 ∨ j = 4) → mch w (xs (xz w j i z) 5 x) ∧ mch w (xz (xs w 5 x) j i z) := by
    intro w j i x z hj
    refine ⟨⟨fun n a b c d => by simp [xs, xz, va_up, a], rfl, fun n a b => by simp [xs, xz, va_up, show n ≠ j by omega]⟩, ⟨fun n a b c d => by simp [xs, xz, va_up, a], rfl, fun n a b => by simp [xs, xz, va_up, show n ≠ j by omega]⟩⟩
  obtain rfl | rfl | rfl | rfl : o = 0 ∨ o = 1 ∨ o = 2 ∨ o = 3 := by omega
  · exact ⟨rfl, (key u 4 _ _ _ (Or.inr rfl)).1⟩
  · exact ⟨rfl, (key u 4 _ _ _ (Or.inr rfl)).1⟩
  · exact ⟨rfl, (key u 4 _ _ _ (Or.inr rfl)).1⟩
  · exact ⟨rfl, (key u 3 _ _ _ (Or.inl rfl)).2⟩
theorem abX_C {o k : Nat} {a : Int32} (u : XS) (ho : 4 ≤ o) (ho9 : o ≤ 9) : abX (exC o k u) = ((act o k a (u.1 5) (u.2.2 4) (u.2.2 3)).1, (act o k a (u.1 5) (u.2.2 4) (u.2.2 3)).2.1, (act o k a (u.1 5) (u.2.2 4) (u.2.2 3)).2.2, u.1 6, u.1 8, u.1 7) ∧ mch u (exC o k u) := by
  have key : ∀ (w : XS) (i : Nat) (z : Int32), mch w (xz w 4 i z) := by
    intro w i z
    exact ⟨fun n a b c d => rfl, rfl, fun n a b => by simp [xz, va_up, b]⟩
  obtain rfl | rfl | rfl | rfl | rfl | rfl : o = 4 ∨ o = 5 ∨ o = 6 ∨ o = 7 ∨ o = 8 ∨ o = 9 := by omega
  · exact ⟨rfl, (key u _ _).tr (key _ _ _)⟩
  · exact ⟨rfl, key u _ _⟩
  · exact ⟨rfl, key u _ _⟩
  · exact ⟨rfl, key u _ _⟩
  · exact ⟨rfl, (key u _ _).fld (Or.inl rfl)⟩
  · exact ⟨rfl, (key u _ _).fld (Or.inl rfl)⟩
end
section
/-! THE FLAT CODE, pure: running it, writing it -/
set_option maxRecDepth 100000
/-- n flat instructions from place q on -/
def ex (C X Y : Nat → Nat) (Z : Nat → Int32) (q : Nat) : Nat → (Nat → Int32) × (Nat → Int32) → (Nat → Int32) × (Nat → Int32)
  | 0, B => B
  | n + 1, B => fw (C (q + n)) (X (q + n)) (Y (q + n)) (Z (q + n)) (ex C X Y Z q n B)
abbrev exU (v : XS) (q n : Nat) (B : (Nat → Int32) × (Nat → Int32)) : (Nat → Int32) × (Nat → Int32) := ex (v.2.1 15) (v.2.1 16) (v.2.1 17) (v.2.2 18) q n B
abbrev wfU (v : XS) (j : Nat) : Prop := wfI (v.2.1 15 j) (v.2.1 16 j) (v.2.1 17 j) (v.2.2 18 j)
/-- the same code at place j -/
abbrev sameC (u v : XS) (j : Nat) : Prop := v.2.1 15 j = u.2.1 15 j ∧ v.2.1 16 j = u.2.1 16 j ∧ v.2.1 17 j = u.2.1 17 j ∧ v.2.2 18 j = u.2.2 18 j
theorem ex_congr {u v : XS} {q : Nat} : ∀ (n : Nat) (B : (Nat → Int32) × (Nat → Int32)), (∀ j, j < n → sameC u v (q + j)) → exU v q n B = exU u q n B
  | 0, B, _ => rfl
  | n + 1, B, h => by
    have ih := ex_congr n B (fun j hj => h j (by omega))
    obtain ⟨h1, h2, h3, h4⟩ := h n (by omega)
    show fw _ _ _ _ (exU v q n B) = fw _ _ _ _ (exU u q n B)
    rw [ih, h1, h2, h3, h4]
theorem ex_add (v : XS) (q a : Nat) : ∀ (b : Nat) (B : (Nat → Int32) × (Nat → Int32)), exU v q (a + b) B = exU v (q + a) b (exU v q a B)
  | 0, B => rfl
  | b + 1, B => by
    show fw (v.2.1 15 (q + (a + b))) (v.2.1 16 (q + (a + b))) (v.2.1 17 (q + (a + b))) (v.2.2 18 (q + (a + b))) (exU v q (a + b) B) = fw (v.2.1 15 (q + a + b)) (v.2.1 16 (q + a + b)) (v.2.1 17 (q + a + b)) (v.2.2 18 (q + a + b)) (exU v (q + a) b (exU v q a B))
    rw [ex_add v q a b B, show q + (a + b) = q + a + b by omega]
/-- v is u with n working instructions more, and perhaps another depthNow and home -/
def ext (u v : XS) (n : Nat) : Prop := v.1 14 = u.1 14 + n ∧ (∀ j, j < u.1 14 → sameC u v j) ∧ (∀ j, j < n → wfU v (u.1 14 + j)) ∧ (∀ k, k ≠ 14 → k ≠ 19 → v.1 k = u.1 k) ∧ (∀ k, k ≠ 15 → k ≠ 16 → k ≠ 17 → k ≠ 20 → v.2.1 k = u.2.1 k) ∧ ∀ k, k ≠ 18 → v.2.2 k = u.2.2 k
theorem ext.rf (u : XS) : ext u u 0 := ⟨rfl, fun _ _ => ⟨rfl, rfl, rfl, rfl⟩, fun _ h => absurd h (by omega), fun _ _ _ => rfl, fun _ _ _ _ _ => rfl, fun _ _ => rfl⟩
theorem ext.tr {u v w : XS} {n k : Nat} (h1 : ext u v n) (h2 : ext v w k) : ext u w (n + k) := by
  obtain ⟨a1, a2, a3, a4, a5, a6⟩ := h1
  obtain ⟨b1, b2, b3, b4, b5, b6⟩ := h2
  have hs : ∀ j, j < u.1 14 + n → sameC v w j := fun j hj => b2 j (by omega)
  refine ⟨by rw [b1, a1]; omega, fun j hj => ?_, fun j hj => ?_, fun i x y => (b4 i x y).trans (a4 i x y), fun i x y z t => (b5 i x y z t).trans (a5 i x y z t), fun i x => (b6 i x).trans (a6 i x)⟩
  · obtain ⟨c1, c2, c3, c4⟩ := hs j (by omega)
    obtain ⟨d1, d2, d3, d4⟩ := a2 j hj
    exact ⟨c1.trans d1, c2.trans d2, c3.trans d3, c4.trans d4⟩
  · by_cases q : j < n
    · obtain ⟨c1, c2, c3, c4⟩ := hs (u.1 14 + j) (by omega)
      have := a3 j q
      show wfI _ _ _ _
      rw [c1, c2, c3, c4]
      exact this
    · have := b3 (j - n) (by omega)
      rw [a1, show u.1 14 + n + (j - n) = u.1 14 + j by omega] at this
      exact this
theorem ext.exq {u v w : XS} {n k : Nat} (h1 : ext u v n) (h2 : ext v w k) (B : (Nat → Int32) × (Nat → Int32)) : exU w (u.1 14) (n + k) B = exU w (v.1 14) k (exU v (u.1 14) n B) := by
  rw [ex_add, h1.1, ex_congr (u := v) (v := w) n B (fun j hj => h2.2.1 _ (by rw [h1.1]; omega))]
theorem xwr_c (u : XS) (c x y : Nat) (z : Int32) (j : Nat) (h : j ≠ u.1 14) : sameC u (xwr u c x y z) j := by
  refine ⟨?_, ?_, ?_, ?_⟩ <;> simp [xwr, xs, xz, xn, va_up, upd, h]
theorem xwr_e (u : XS) (c x y : Nat) (z : Int32) : (xwr u c x y z).2.1 15 (u.1 14) = c ∧ (xwr u c x y z).2.1 16 (u.1 14) = x ∧ (xwr u c x y z).2.1 17 (u.1 14) = y ∧ (xwr u c x y z).2.2 18 (u.1 14) = z := by
  refine ⟨?_, ?_, ?_, ?_⟩ <;> simp [xwr, xs, xz, xn, va_up, upd]
theorem ext.wr (u : XS) {c x y : Nat} {z : Int32} (hw : wfI c x y z) : ext u (xwr u c x y z) 1 := by
  refine ⟨rfl, fun j hj => xwr_c u c x y z j (by omega), fun j hj => ?_, fun k a b => ?_, fun k a b c' d => ?_, fun k a => ?_⟩
  · obtain rfl : j = 0 := by omega
    obtain ⟨e1, e2, e3, e4⟩ := xwr_e u c x y z
    show wfI _ _ _ _
    rw [Nat.add_zero, e1, e2, e3, e4]
    exact hw
  · simp [xwr, xs, xz, xn, va_up, a]
  · simp [xwr, xs, xz, xn, va_up, a, b, c']
  · simp [xwr, xs, xz, xn, va_up, a]
theorem ex_wr (u : XS) (c x y : Nat) (z : Int32) (B : (Nat → Int32) × (Nat → Int32)) : exU (xwr u c x y z) (u.1 14) 1 B = fw c x y z B := by
  obtain ⟨e1, e2, e3, e4⟩ := xwr_e u c x y z
  show fw _ _ _ _ B = _
  rw [Nat.add_zero, e1, e2, e3, e4]
theorem ext.dn (u : XS) (x : Nat) : ext u (xs u 19 x) 0 := ⟨rfl, fun _ _ => ⟨rfl, rfl, rfl, rfl⟩, fun _ h => absurd h (by omega), fun k a b => by simp [xs, va_up, b], fun _ _ _ _ _ => rfl, fun _ _ => rfl⟩
theorem ext.hm (u : XS) (i x : Nat) : ext u (xn u 20 i x) 0 := ⟨rfl, fun _ _ => ⟨rfl, rfl, rfl, rfl⟩, fun _ h => absurd h (by omega), fun _ _ _ => rfl, fun k a b c d => by simp [xn, va_up, d], fun _ _ => rfl⟩
/-- registers that hold the stack by home -/
def Rl (h : Nat) (f g : Nat → Int32) (hm : Nat → Nat) (B : (Nat → Int32) × (Nat → Int32)) : Prop := (∀ i, i < h → f i = B.1 (hm i)) ∧ ∀ i, i < 8 → g i = B.2 i
def hOK (h : Nat) (hm : Nat → Nat) : Prop := (∀ i, i < h → hm i < 8) ∧ ∀ i j, i < h → j < h → hm i = hm j → i = j
theorem vu_eq {α : Type} (f : Nat → α) (k : Nat) (x : α) : va_up f k x k = x := by simp [va_up]
theorem vu_ne {α : Type} (f : Nat → α) {k j : Nat} (x : α) (h : j ≠ k) : va_up f k x j = f j := by simp [va_up, h]
theorem hOK.push {h r : Nat} {hm : Nat → Nat} (k : hOK h hm) (hr : r < 8) (hn : ∀ i, i < h → hm i ≠ r) : hOK (h + 1) (va_up hm h r) := by
  refine ⟨fun i hi => ?_, fun i j hi hj e => ?_⟩
  · by_cases q : i = h
    · subst q; rw [vu_eq]; exact hr
    · rw [vu_ne _ _ q]; exact k.1 i (by omega)
  · by_cases q : i = h
    · by_cases q2 : j = h
      · omega
      · subst q; rw [vu_eq, vu_ne _ _ q2] at e; exact absurd e.symm (hn j (by omega))
    · by_cases q2 : j = h
      · subst q2; rw [vu_eq, vu_ne _ _ q] at e; exact absurd e (hn i (by omega))
      · rw [vu_ne _ _ q, vu_ne _ _ q2] at e; exact k.2 i j (by omega) (by omega) e
theorem hOK.less {h h' : Nat} {hm : Nat → Nat} (k : hOK h hm) (hh : h' ≤ h) : hOK h' hm := ⟨fun i hi => k.1 i (by omega), fun i j hi hj e => k.2 i j (by omega) (by omega) e⟩
theorem Rl.less {h h' : Nat} {f g : Nat → Int32} {hm : Nat → Nat} {B : (Nat → Int32) × (Nat → Int32)} (k : Rl h f g hm B) (hh : h' ≤ h) : Rl h' f g hm B := ⟨fun i hi => k.1 i (by omega), k.2⟩
theorem Rl.push {h r : Nat} {f g : Nat → Int32} {hm : Nat → Nat} {B : (Nat → Int32) × (Nat → Int32)} {x : Int32} (k : Rl h f g hm B) (hn : ∀ i, i < h → hm i ≠ r) : Rl (h + 1) (upd f h x) g (va_up hm h r) (upd B.1 r x, B.2) := by
  refine ⟨fun i hi => ?_, k.2⟩
  show upd f h x i = upd B.1 r x (va_up hm h r i)
  by_cases q : i = h
  · subst q; rw [vu_eq, upd_eq, upd_eq]
  · rw [vu_ne _ _ q, upd_ne _ _ q, upd_ne _ _ (hn i (by omega))]; exact k.1 i (by omega)
theorem Rl.set {h t : Nat} {f g : Nat → Int32} {hm : Nat → Nat} {B : (Nat → Int32) × (Nat → Int32)} {x : Int32} (k : Rl h f g hm B) (ho : hOK h hm) (ht : t < h) : Rl h (upd f t x) g hm (upd B.1 (hm t) x, B.2) := by
  refine ⟨fun i hi => ?_, k.2⟩
  show upd f t x i = upd B.1 (hm t) x (hm i)
  by_cases q : i = t
  · subst q; rw [upd_eq, upd_eq]
  · rw [upd_ne _ _ q, upd_ne _ _ (fun e => q (ho.2 i t hi ht e))]; exact k.1 i hi
theorem Rl.swap {h t q : Nat} {f g : Nat → Int32} {hm : Nat → Nat} {B : (Nat → Int32) × (Nat → Int32)} (k : Rl h f g hm B) (ht : t < h) (hq : q < h) : Rl h (upd (upd f t (f q)) q (f t)) g (va_up (va_up hm t (hm q)) q (hm t)) B := by
  refine ⟨fun i hi => ?_, k.2⟩
  by_cases e : i = q
  · subst e; rw [upd_eq, vu_eq]; exact k.1 t ht
  · rw [upd_ne _ _ e, vu_ne _ _ e]
    by_cases e2 : i = t
    · subst e2; rw [upd_eq, vu_eq]; exact k.1 q hq
    · rw [upd_ne _ _ e2, vu_ne _ _ e2]; exact k.1 i hi
theorem hOK.swap {h t q : Nat} {hm : Nat → Nat} (k : hOK h hm) (ht : t < h) (hq : q < h) : hOK h (va_up (va_up hm t (hm q)) q (hm t)) := by
  have val : ∀ i, i < h → ∃ j, j < h ∧ va_up (va_up hm t (hm q)) q (hm t) i = hm j ∧ (i = q ∧ j = t ∨ i ≠ q ∧ i = t ∧ j = q ∨ i ≠ q ∧ i ≠ t ∧ j = i) := by
    intro i hi
    by_cases e : i = q
    · subst e; exact ⟨t, ht, vu_eq _ _ _, Or.inl ⟨rfl, rfl⟩⟩
    · by_cases e2 : i = t
      · subst e2; exact ⟨q, hq, by rw [vu_ne _ _ e, vu_eq], Or.inr (Or.inl ⟨e, rfl, rfl⟩)⟩
      · exact ⟨i, hi, by rw [vu_ne _ _ e, vu_ne _ _ e2], Or.inr (Or.inr ⟨e, e2, rfl⟩)⟩
  refine ⟨fun i hi => ?_, fun i j hi hj e => ?_⟩
  · obtain ⟨j, h1, h2, -⟩ := val i hi
    rw [h2]; exact k.1 j h1
  · obtain ⟨i', h1, h2, h3⟩ := val i hi
    obtain ⟨j', g1, g2, g3⟩ := val j hj
    rw [h2, g2] at e
    have := k.2 i' j' h1 g1 e
    omega
theorem Rl.cell {h k : Nat} {f g : Nat → Int32} {hm : Nat → Nat} {B : (Nat → Int32) × (Nat → Int32)} {x y : Int32} (r : Rl h f g hm B) (e : x = y) : Rl h f (upd g k x) hm (B.1, upd B.2 k y) := by
  subst e
  refine ⟨r.1, fun i hi => ?_⟩
  show upd g k x i = upd B.2 k x i
  by_cases q : i = k
  · subst q; rw [upd_eq, upd_eq]
  · rw [upd_ne _ _ q, upd_ne _ _ q]; exact r.2 i hi
end
section
/-! straighten, pure -/
set_option maxRecDepth 100000
abbrev BB : Type := (Nat → Int32) × (Nat → Int32)
def sInv (u v : XS) (n h : Nat) : Prop := ext u v n ∧ n ≤ 3 * h ∧ v.1 19 = u.1 19 ∧ (∀ i, i < h → v.2.1 20 i = i) ∧ hOK (u.1 19) (v.2.1 20) ∧ ∀ B : BB, (exU v (u.1 14) n B).2 = B.2 ∧ (exU v (u.1 14) n B).1 8 = B.1 8 ∧ ∀ i, i < u.1 19 → (exU v (u.1 14) n B).1 (v.2.1 20 i) = B.1 (u.2.1 20 i)
def strR (u v : XS) : Prop := ∃ n, n ≤ 3 * u.1 19 ∧ ext u v n ∧ v.1 19 = u.1 19 ∧ ∀ B : BB, (exU v (u.1 14) n B).2 = B.2 ∧ (exU v (u.1 14) n B).1 8 = B.1 8 ∧ ∀ i, i < u.1 19 → (exU v (u.1 14) n B).1 i = B.1 (u.2.1 20 i)
theorem sInv_0 {u : XS} (h : hOK (u.1 19) (u.2.1 20)) : sInv u u 0 0 := ⟨ext.rf u, Nat.le_refl 0, rfl, fun _ h => absurd h (by omega), h, fun B => ⟨rfl, rfl, fun _ _ => rfl⟩⟩
theorem sInv_skip {u v : XS} {n h : Nat} (k : sInv u v n h) (e : v.2.1 20 h = h) : sInv u v n (h + 1) := by
  obtain ⟨k1, k2, k3, k4, k5, k6⟩ := k
  refine ⟨k1, by omega, k3, fun i hi => ?_, k5, k6⟩
  by_cases q : i = h
  · subst q; exact e
  · exact k4 i (by omega)
theorem sInv_end {u v : XS} {n : Nat} (k : sInv u v n (u.1 19)) : strR u v := by
  obtain ⟨k1, k2, k3, k4, k5, k6⟩ := k
  refine ⟨n, k2, k1, k3, fun B => ⟨(k6 B).1, (k6 B).2.1, fun i hi => ?_⟩⟩
  have := (k6 B).2.2 i hi
  rw [k4 i hi] at this
  exact this
theorem fw1 (x y : Nat) (z : Int32) (B : BB) : fw 1 x y z B = (upd B.1 x (B.1 y), B.2) := rfl
theorem wf1 {x y : Nat} (z : Int32) (hx : x < 10) (hy : y < 10) : wfI 1 x y z := ⟨by omega, hx, hy, fun h => absurd h (by omega), fun h => absurd h (by omega), fun h => absurd h (by omega)⟩
theorem sInv_copy {u v : XS} {n h : Nat} (hD : u.1 19 ≤ 8) (k : sInv u v n h) (hh : h < u.1 19) (hn : ∀ j, h < j → j < u.1 19 → v.2.1 20 j ≠ h) (z : Int32) : sInv u (xn (xwr v 1 h (v.2.1 20 h) z) 20 h h) (n + 1) (h + 1) := by
  obtain ⟨k1, k2, k3, k4, k5, k6⟩ := k
  have hf := k5.1 h hh
  have e1 : ext v (xwr v 1 h (v.2.1 20 h) z) 1 := ext.wr v (wf1 z (by omega) (by omega))
  have hv : ∀ B : BB, exU (xn (xwr v 1 h (v.2.1 20 h) z) 20 h h) (u.1 14) (n + 1) B = (upd (exU v (u.1 14) n B).1 h ((exU v (u.1 14) n B).1 (v.2.1 20 h)), (exU v (u.1 14) n B).2) := by
    intro B
    show exU (xwr v 1 h (v.2.1 20 h) z) (u.1 14) (n + 1) B = _
    rw [k1.exq e1, ex_wr, fw1]
  have hmv : ∀ i, (xn (xwr v 1 h (v.2.1 20 h) z) 20 h h).2.1 20 i = va_up (v.2.1 20) h h i := fun i => rfl
  have ne : ∀ i, i < u.1 19 → i ≠ h → v.2.1 20 i ≠ h := by
    intro i hi hne
    by_cases q : i < h
    · rw [k4 i q]; exact hne
    · exact hn i (by omega) hi
  refine ⟨(k1.tr e1).tr (ext.hm _ h h), by omega, k3, fun i hi => ?_, ⟨fun i hi => ?_, fun i j hi hj e => ?_⟩, fun B => ⟨?_, ?_, fun i hi => ?_⟩⟩
  · rw [hmv]
    by_cases q : i = h
    · subst q; exact vu_eq _ _ _
    · rw [vu_ne _ _ q]; exact k4 i (by omega)
  · rw [hmv]
    by_cases q : i = h
    · subst q; rw [vu_eq]; omega
    · rw [vu_ne _ _ q]; exact k5.1 i hi
  · rw [hmv, hmv] at e
    by_cases q : i = h
    · by_cases q2 : j = h
      · omega
      · subst q; rw [vu_eq, vu_ne _ _ q2] at e; exact absurd e.symm (ne j hj q2)
    · by_cases q2 : j = h
      · subst q2; rw [vu_eq, vu_ne _ _ q] at e; exact absurd e (ne i hi q)
      · rw [vu_ne _ _ q, vu_ne _ _ q2] at e; exact k5.2 i j hi hj e
  · rw [hv B]; exact (k6 B).1
  · rw [hv B]
    show upd _ h _ 8 = _
    rw [upd_ne _ _ (by omega)]; exact (k6 B).2.1
  · rw [hv B, hmv]
    show upd _ h _ _ = _
    by_cases q : i = h
    · subst q; rw [vu_eq, upd_eq]; exact (k6 B).2.2 i hi
    · rw [vu_ne _ _ q, upd_ne _ _ (ne i hi q)]; exact (k6 B).2.2 i hi
theorem sInv_swap {u v : XS} {n h k0 : Nat} (hD : u.1 19 ≤ 8) (k : sInv u v n h) (hk : h < k0) (hk0 : k0 < u.1 19) (hh : v.2.1 20 k0 = h) (hf : v.2.1 20 h ≠ h) (z : Int32) :
    sInv u (xn (xn (xwr (xwr (xwr v 1 9 h z) 1 h (v.2.1 20 h) z) 1 (v.2.1 20 h) 9 z) 20 k0 (v.2.1 20 h)) 20 h h) (n + 3) (h + 1) := by
  obtain ⟨k1, k2, k3, k4, k5, k6⟩ := k
  have hf8 := k5.1 h (by omega)
  generalize hfr : v.2.1 20 h = fr at *
  have e1 : ext v (xwr v 1 9 h z) 1 := ext.wr v (wf1 z (by omega) (by omega))
  have e2 : ext (xwr v 1 9 h z) (xwr (xwr v 1 9 h z) 1 h fr z) 1 := ext.wr _ (wf1 z (by omega) (by omega))
  have e3 : ext (xwr (xwr v 1 9 h z) 1 h fr z) (xwr (xwr (xwr v 1 9 h z) 1 h fr z) 1 fr 9 z) 1 := ext.wr _ (wf1 z (by omega) (by omega))
  have hv : ∀ B : BB, exU (xn (xn (xwr (xwr (xwr v 1 9 h z) 1 h fr z) 1 fr 9 z) 20 k0 fr) 20 h h) (u.1 14) (n + 3) B = (upd (upd (upd (exU v (u.1 14) n B).1 9 ((exU v (u.1 14) n B).1 h)) h ((exU v (u.1 14) n B).1 fr)) fr ((exU v (u.1 14) n B).1 h), (exU v (u.1 14) n B).2) := by
    intro B
    show exU (xwr (xwr (xwr v 1 9 h z) 1 h fr z) 1 fr 9 z) (u.1 14) (n + 1 + 1 + 1) B = _
    rw [((k1.tr e1).tr e2).exq e3, ex_wr, (k1.tr e1).exq e2, ex_wr, k1.exq e1, ex_wr, fw1, fw1, fw1]
    dsimp only
    rw [upd_ne _ _ (show (9 : Nat) ≠ h by omega), upd_eq, upd_ne _ _ (show fr ≠ 9 by omega)]
  have hmv : ∀ i, (xn (xn (xwr (xwr (xwr v 1 9 h z) 1 h fr z) 1 fr 9 z) 20 k0 fr) 20 h h).2.1 20 i = va_up (va_up (v.2.1 20) k0 fr) h h i := fun i => rfl
  have neh : ∀ i, i < u.1 19 → i ≠ k0 → v.2.1 20 i ≠ h := fun i hi hne e => hne (k5.2 i k0 hi hk0 (by rw [e, hh]))
  have nef : ∀ i, i < u.1 19 → i ≠ h → v.2.1 20 i ≠ fr := fun i hi hne e => hne (k5.2 i h hi (by omega) (by rw [e, hfr]))
  refine ⟨(((k1.tr e1).tr e2).tr e3).tr ((ext.hm _ k0 fr).tr (ext.hm _ h h)), by omega, k3, fun i hi => ?_, ⟨fun i hi => ?_, fun i j hi hj e => ?_⟩, fun B => ⟨?_, ?_, fun i hi => ?_⟩⟩
  · rw [hmv]
    by_cases q : i = h
    · subst q; exact vu_eq _ _ _
    · rw [vu_ne _ _ q, vu_ne _ _ (by omega)]; exact k4 i (by omega)
  · rw [hmv]
    by_cases q : i = h
    · subst q; rw [vu_eq]; omega
    · rw [vu_ne _ _ q]
      by_cases q2 : i = k0
      · subst q2; rw [vu_eq]; exact hf8
      · rw [vu_ne _ _ q2]; exact k5.1 i hi
  · rw [hmv, hmv] at e
    have val : ∀ i, i < u.1 19 → (i = h ∧ va_up (va_up (v.2.1 20) k0 fr) h h i = h) ∨ (i = k0 ∧ va_up (va_up (v.2.1 20) k0 fr) h h i = fr) ∨ (i ≠ h ∧ i ≠ k0 ∧ va_up (va_up (v.2.1 20) k0 fr) h h i = v.2.1 20 i) := by
      intro i hi
      by_cases q : i = h
      · exact Or.inl ⟨q, by rw [q]; exact vu_eq _ _ _⟩
      · by_cases q2 : i = k0
        · exact Or.inr (Or.inl ⟨q2, by rw [vu_ne _ _ q, q2]; exact vu_eq _ _ _⟩)
        · exact Or.inr (Or.inr ⟨q, q2, by rw [vu_ne _ _ q, vu_ne _ _ q2]⟩)
    rcases val i hi with ⟨a1, a2⟩ | ⟨a1, a2⟩ | ⟨a1, a3, a2⟩ <;> rcases val j hj with ⟨b1, b2⟩ | ⟨b1, b2⟩ | ⟨b1, b3, b2⟩ <;> rw [a2, b2] at e
    · omega
    · exact absurd e.symm hf
    · exact absurd e.symm (neh j hj b3)
    · exact absurd e hf
    · omega
    · exact absurd e.symm (nef j hj b1)
    · exact absurd e (neh i hi a3)
    · exact absurd e (nef i hi a1)
    · exact k5.2 i j hi hj e
  · rw [hv B]; exact (k6 B).1
  · rw [hv B]
    show upd _ fr _ 8 = _
    rw [upd_ne _ _ (by omega), upd_ne _ _ (by omega), upd_ne _ _ (by omega)]; exact (k6 B).2.1
  · rw [hv B, hmv]
    show upd _ fr _ _ = _
    have base := (k6 B).2.2 i hi
    by_cases q : i = h
    · subst q; rw [vu_eq, upd_ne _ _ (fun e => hf e.symm), upd_eq, ← base, hfr]
    · rw [vu_ne _ _ q]
      by_cases q2 : i = k0
      · subst q2; rw [vu_eq, upd_eq, ← base, hh]
      · have b8 := k5.1 i hi
        rw [vu_ne _ _ q2, upd_ne _ _ (nef i hi q), upd_ne _ _ (neh i hi q2), upd_ne _ _ (by omega)]; exact base
theorem strR.f19 {u v : XS} (h : strR u v) : v.1 19 = u.1 19 := by obtain ⟨n, -, -, h, -⟩ := h; exact h
theorem strR.f14 {u v : XS} (h : strR u v) : v.1 14 ≤ u.1 14 + 3 * u.1 19 := by obtain ⟨n, h1, h2, -, -⟩ := h; rw [h2.1]; omega
/-- what translateMove, translateCombine, translateOne write -/
def tMv (u u2 : XS) (o k : Nat) (a : Int32) : Prop :=
  (o = 3 ∧ u2 = xwr (xs u 19 (u.1 19 - 1)) 6 k (u.2.1 20 (u.1 19 - 1)) (nI 0)) ∨
  ∃ q : Nat, q ≤ 7 ∧ (∀ j, j < u.1 19 → u.2.1 20 j ≠ q) ∧
    ((o = 0 ∧ u2 = xs (xn (xwr u 0 q 0 a) 20 (u.1 19) q) 19 (u.1 19 + 1)) ∨
     (o = 1 ∧ u2 = xs (xn (xwr u 1 q (u.2.1 20 (u.1 19 - 1 - k)) (nI 0)) 20 (u.1 19) q) 19 (u.1 19 + 1)) ∨
     (o = 2 ∧ u2 = xs (xn (xwr u 5 q k (nI 0)) 20 (u.1 19) q) 19 (u.1 19 + 1)))
def tCb (o k : Nat) (u : XS) : XS :=
  if o = 4 then xn (xn u 20 (u.1 19 - 1) (u.2.1 20 (u.1 19 - 1 - k))) 20 (u.1 19 - 1 - k) (u.2.1 20 (u.1 19 - 1))
  else if o = 5 then xwr u 2 (u.2.1 20 (u.1 19 - 1)) (u.2.1 20 (u.1 19 - 1)) (nI (u.2.1 20 (u.1 19 - 1 - k)))
  else if o = 6 then xwr u 3 (u.2.1 20 (u.1 19 - 1)) (u.2.1 20 (u.1 19 - 1)) (nI (u.2.1 20 (u.1 19 - 1 - k)))
  else if o = 7 then xwr u 4 (u.2.1 20 (u.1 19 - 1)) (u.2.1 20 (u.1 19 - 1)) (nI (u.2.1 20 (u.1 19 - 1 - k)))
  else if o = 8 then xs (xwr u 2 (u.2.1 20 (u.1 19 - 1 - k)) (u.2.1 20 (u.1 19 - 1 - k)) (nI (u.2.1 20 (u.1 19 - 1)))) 19 (u.1 19 - 1)
  else xs (xwr u 3 (u.2.1 20 (u.1 19 - 1 - k)) (u.2.1 20 (u.1 19 - 1 - k)) (nI (u.2.1 20 (u.1 19 - 1)))) 19 (u.1 19 - 1)
def tOne (u : XS) (p o k : Nat) (a : Int32) (r : Int32) (u2 : XS) : Prop :=
  (r = nI 1 ∧ o ≤ 3 ∧ tMv u u2 o k a) ∨ (r = nI 1 ∧ 4 ≤ o ∧ o ≤ 9 ∧ u2 = tCb o k u) ∨
  (r = nI 0 ∧ (o = 10 ∨ o = 11) ∧ ∃ w, strR (xwr (xs u 19 (u.1 19 - 1)) 1 8 (u.2.1 20 (u.1 19 - 1)) (nI 0)) w ∧ u2 = xwr w (if o = 10 then 8 else 9) (p + 1) (u.1 19 - 1) a) ∨
  (r = nI 0 ∧ (o = 12 ∨ o = 13) ∧ ∃ w, strR u w ∧ u2 = xwr w (if o = 12 then 7 else 10) (if o = 12 then k else p) (u.1 19) (nI 0))
end
section
/-! translation, pure: what is written so far does what the machine does -/
set_option maxRecDepth 100000
def lve (c x y : Nat) (z : Int32) (B : BB) (ct st : Nat) : TS := (y, B.1, B.2, if c = 8 ∧ (B.1 8).toInt = 0 ∨ c = 9 ∧ (B.1 8).toInt < 0 then z.toNatClampNeg else x, ct, if c = 10 then 1 else if c = 11 then 2 else st)
def lvOK (c x y : Nat) (z : Int32) : Prop := 7 ≤ c ∧ c ≤ 11 ∧ x ≤ 32 ∧ y ≤ 8 ∧ (c = 8 ∨ c = 9 → ∃ k : Nat, z = nI k ∧ k ≤ 31)
/-- the block at q of v, for pc at and height dp: tries of the machine, dn of them counted -/
def BS (L : Nat) (O : Nat → Nat) (N : Nat → Int32) (v : XS) (q dp ap tries dn : Nat) : Prop := ∃ n, q + n < v.1 14 ∧ (∀ j, j < n → wfU v (q + j)) ∧ lvOK (v.2.1 15 (q + n)) (v.2.1 16 (q + n)) (v.2.1 17 (q + n)) (v.2.2 18 (q + n)) ∧ ∀ (F G : Nat → Int32) (ct : Nat), eqT (lve (v.2.1 15 (q + n)) (v.2.1 16 (q + n)) (v.2.1 17 (q + n)) (v.2.2 18 (q + n)) (exU v q n (F, G)) (ct + dn) 0) (runT L O N tries (dp, F, G, ap, ct, 0))
/-- while translating -/
def TI (L : Nat) (O : Nat → Nat) (N : Nat → Int32) (u v : XS) (dp ap p dn n : Nat) : Prop := ext u v n ∧ n ≤ dn ∧ v.1 19 ≤ 8 ∧ hOK (v.1 19) (v.2.1 20) ∧ p ≤ 32 ∧ ∀ (F G : Nat → Int32) (ct : Nat), ∃ f g, runT L O N dn (dp, F, G, ap, ct, 0) = (v.1 19, f, g, p, ct + dn, 0) ∧ Rl (v.1 19) f g (v.2.1 20) (exU v (u.1 14) n (F, G))
theorem st1_step {L : Nat} {O : Nat → Nat} {N : Nat → Int32} {h p ct : Nat} {f g : Nat → Int32} (hp : p < L) (hf : ¬ fl (O p) (N p) h) (ho : O p ≤ 9) : st1 L O N (h, f, g, p, ct, 0) = ((act (O p) (N p).toNatClampNeg (N p) h f g).1, (act (O p) (N p).toNatClampNeg (N p) h f g).2.1, (act (O p) (N p).toNatClampNeg (N p) h f g).2.2, p + 1, ct + 1, 0) := by
  unfold st1
  dsimp only
  rw [if_neg (by rintro (q | q); omega; exact hf q), if_neg (by omega)]
  unfold nxt
  rw [if_neg (by omega), if_neg (by omega)]
theorem runT_s {L : Nat} {O : Nat → Nat} {N : Nat → Int32} {dn : Nat} {t r : TS} (h : runT L O N dn t = r) (h0 : r.2.2.2.2.2 = 0) : runT L O N (dn + 1) t = st1 L O N r := by
  rw [runT_add, h, runT_1 h0]
/-- one more instruction -/
theorem TI_next {L : Nat} {O : Nat → Nat} {N : Nat → Int32} {u v v' : XS} {dp ap p dn n j : Nat} (h : TI L O N u v dp ap p dn n) (hp : p < L) (hL : L ≤ 32) (hf : ¬ fl (O p) (N p) (v.1 19)) (ho : O p ≤ 9) (hx : ext v v' j) (hj : j ≤ 1) (h8 : v'.1 19 ≤ 8) (hh : hOK (v'.1 19) (v'.2.1 20))
    (hs : ∀ (f g : Nat → Int32) (B : BB), Rl (v.1 19) f g (v.2.1 20) B → (act (O p) (N p).toNatClampNeg (N p) (v.1 19) f g).1 = v'.1 19 ∧ Rl (v'.1 19) (act (O p) (N p).toNatClampNeg (N p) (v.1 19) f g).2.1 (act (O p) (N p).toNatClampNeg (N p) (v.1 19) f g).2.2 (v'.2.1 20) (exU v' (v.1 14) j B)) : TI L O N u v' dp ap (p + 1) (dn + 1) (n + j) := by
  obtain ⟨h1, h2, h3, h4, h5, h6⟩ := h
  refine ⟨h1.tr hx, by omega, h8, hh, by omega, fun F G ct => ?_⟩
  obtain ⟨f, g, r1, r2⟩ := h6 F G ct
  obtain ⟨s1, s2⟩ := hs f g _ r2
  refine ⟨(act (O p) (N p).toNatClampNeg (N p) (v.1 19) f g).2.1, (act (O p) (N p).toNatClampNeg (N p) (v.1 19) f g).2.2, ?_, ?_⟩
  · rw [runT_s r1 rfl, st1_step hp hf ho, s1]
    rfl
  · rw [h1.exq hx]
    exact s2
theorem wf_push {c q y : Nat} {z : Int32} (hq : q ≤ 7) (hc : c ≤ 1 ∧ y < 10 ∨ c = 5 ∧ y < 8) : wfI c q y z := ⟨by omega, by omega, by omega, fun _ => by omega, fun _ => by omega, fun _ _ => by omega⟩
theorem TI_mv {L : Nat} {O : Nat → Nat} {N : Nat → Int32} {u v v' : XS} {dp ap p dn n : Nat} (h : TI L O N u v dp ap p dn n) (hp : p < L) (hL : L ≤ 32) (hv : vOK (O p) (N p)) (hf : ¬ fl (O p) (N p) (v.1 19)) (ho : O p ≤ 3) (ht : tMv v v' (O p) (N p).toNatClampNeg (N p)) : TI L O N u v' dp ap (p + 1) (dn + 1) (n + 1) := by
  have h3 := h.2.2.1
  have h4 := h.2.2.2.1
  obtain ⟨n1, n2, n3, n4⟩ := nofl hv hf h3
  rcases ht with ⟨o3, rfl⟩ | ⟨q, hq, hqn, ht⟩
  · have hD := n2 (Or.inl o3)
    have hk := n3 (Or.inr o3)
    have ht8 := h4.1 (v.1 19 - 1) (by omega)
    refine TI_next h hp hL hf (by omega) (j := 1) ((ext.dn v (v.1 19 - 1)).tr (ext.wr _ (⟨by omega, by omega, by omega, fun _ => by omega, fun q => absurd q (by omega), fun _ q => absurd q (by omega)⟩ : wfI 6 _ _ (nI 0)))) (by omega) (show v.1 19 - 1 ≤ 8 by omega) (h4.less (Nat.sub_le _ _)) (fun f g B hR => ?_)
    rw [o3]
    refine ⟨rfl, ?_⟩
    rw [show exU (xwr (xs v 19 (v.1 19 - 1)) 6 (N p).toNatClampNeg (v.2.1 20 (v.1 19 - 1)) (nI 0)) (v.1 14) 1 B = fw 6 (N p).toNatClampNeg (v.2.1 20 (v.1 19 - 1)) (nI 0) B from ex_wr (xs v 19 (v.1 19 - 1)) _ _ _ _ B]
    exact (hR.less (Nat.sub_le _ _)).cell (hR.1 (v.1 19 - 1) (by omega))
  · have key : ∀ (c y : Nat) (z x : Int32), (c ≤ 1 ∧ y < 10 ∨ c = 5 ∧ y < 8) → (∀ (f g : Nat → Int32) (B : BB), Rl (v.1 19) f g (v.2.1 20) B → fw c q y z B = (upd B.1 q ((act (O p) (N p).toNatClampNeg (N p) (v.1 19) f g).2.1 (v.1 19)), B.2) ∧ act (O p) (N p).toNatClampNeg (N p) (v.1 19) f g = (v.1 19 + 1, upd f (v.1 19) ((act (O p) (N p).toNatClampNeg (N p) (v.1 19) f g).2.1 (v.1 19)), g)) → TI L O N u (xs (xn (xwr v c q y z) 20 (v.1 19) q) 19 (v.1 19 + 1)) dp ap (p + 1) (dn + 1) (n + 1) := by
      intro c y z x hc hs
      have hD7 := n1 (by
        rcases ht with ⟨e, -⟩ | ⟨e, -⟩ | ⟨e, -⟩ <;> omega)
      refine TI_next h hp hL hf (by omega) (j := 1) ((ext.wr v (wf_push (z := z) hq hc)).tr ((ext.hm _ (v.1 19) q).tr (ext.dn _ (v.1 19 + 1)))) (by omega) (show v.1 19 + 1 ≤ 8 by omega) (h4.push (by omega) hqn) (fun f g B hR => ?_)
      obtain ⟨s1, s2⟩ := hs f g B hR
      refine ⟨by rw [s2]; rfl, ?_⟩
      rw [show exU (xs (xn (xwr v c q y z) 20 (v.1 19) q) 19 (v.1 19 + 1)) (v.1 14) 1 B = fw c q y z B from ex_wr v c q y z B, s1]
      generalize (act (O p) (N p).toNatClampNeg (N p) (v.1 19) f g).2.1 (v.1 19) = w at s2 ⊢
      rw [s2]
      exact hR.push hqn
    rcases ht with ⟨o0, rfl⟩ | ⟨o1, rfl⟩ | ⟨o2, rfl⟩
    · refine key 0 0 (N p) 0 (Or.inl ⟨by omega, by omega⟩) (fun f g B hR => ?_)
      rw [o0]
      simp [fw, act, upd]
    · have hk := n4 (Or.inl o1)
      have ht8 := h4.1 (v.1 19 - 1 - (N p).toNatClampNeg) (by omega)
      refine key 1 _ (nI 0) 0 (Or.inl ⟨by omega, by omega⟩) (fun f g B hR => ?_)
      rw [o1]
      have := hR.1 (v.1 19 - 1 - (N p).toNatClampNeg) (by omega)
      simp [fw, act, upd, this]
    · have hk := n3 (Or.inl o2)
      refine key 5 _ (nI 0) 0 (Or.inr ⟨rfl, by omega⟩) (fun f g B hR => ?_)
      rw [o2]
      have := hR.2 (N p).toNatClampNeg (by omega)
      simp [fw, act, upd, this]
theorem TI_cb {L : Nat} {O : Nat → Nat} {N : Nat → Int32} {u v : XS} {dp ap p dn n : Nat} (h : TI L O N u v dp ap p dn n) (hp : p < L) (hL : L ≤ 32) (hv : vOK (O p) (N p)) (hf : ¬ fl (O p) (N p) (v.1 19)) (ho : 4 ≤ O p) (ho9 : O p ≤ 9) : ∃ n', TI L O N u (tCb (O p) (N p).toNatClampNeg v) dp ap (p + 1) (dn + 1) n' := by
  have h3 := h.2.2.1
  have h4 := h.2.2.2.1
  obtain ⟨n1, n2, n3, n4⟩ := nofl hv hf h3
  have hk := n4 (Or.inr ⟨ho, ho9⟩)
  generalize hkk : (N p).toNatClampNeg = k at *
  have ht8 := h4.1 (v.1 19 - 1) (by omega)
  have hq8 := h4.1 (v.1 19 - 1 - k) (by omega)
  have wf : ∀ c x y z', 2 ≤ c → c ≤ 4 → x < 8 → y < 8 → z' < 8 → wfI c x y (nI z') := fun c x y z' a1 a2 a3 a4 a5 => ⟨by omega, by omega, by omega, fun _ => by omega, fun _ => by omega, fun _ _ => ⟨z', rfl, by omega⟩⟩
  by_cases o4 : O p = 4
  · refine ⟨n + 0, ?_⟩
    rw [o4]
    refine TI_next h hp hL hf (by omega) (j := 0) ((ext.hm v _ _).tr (ext.hm _ _ _)) (by omega) h3 (h4.swap (t := v.1 19 - 1) (q := v.1 19 - 1 - k) (by omega) (by omega)) (fun f g B hR => ?_)
    rw [o4, hkk]
    exact ⟨rfl, hR.swap (t := v.1 19 - 1) (q := v.1 19 - 1 - k) (by omega) (by omega)⟩
  have bin : ∀ (c : Nat), 2 ≤ c → c ≤ 4 → (∀ (f g : Nat → Int32) (B : BB), Rl (v.1 19) f g (v.2.1 20) B → ∃ x, act (O p) k (N p) (v.1 19) f g = (v.1 19, upd f (v.1 19 - 1) x, g) ∧ fw c (v.2.1 20 (v.1 19 - 1)) (v.2.1 20 (v.1 19 - 1)) (nI (v.2.1 20 (v.1 19 - 1 - k))) B = (upd B.1 (v.2.1 20 (v.1 19 - 1)) x, B.2)) → TI L O N u (xwr v c (v.2.1 20 (v.1 19 - 1)) (v.2.1 20 (v.1 19 - 1)) (nI (v.2.1 20 (v.1 19 - 1 - k)))) dp ap (p + 1) (dn + 1) (n + 1) := by
    intro c c2 c4 hs
    refine TI_next h hp hL hf (by omega) (j := 1) (ext.wr v (wf c _ _ _ c2 c4 ht8 ht8 hq8)) (by omega) h3 h4 (fun f g B hR => ?_)
    obtain ⟨x, s1, s2⟩ := hs f g B hR
    rw [hkk, s1, ex_wr, s2]
    exact ⟨rfl, hR.set h4 (by omega)⟩
  have bip : ∀ (c : Nat), 2 ≤ c → c ≤ 4 → (∀ (f g : Nat → Int32) (B : BB), Rl (v.1 19) f g (v.2.1 20) B → ∃ x, act (O p) k (N p) (v.1 19) f g = (v.1 19 - 1, upd f (v.1 19 - 1 - k) x, g) ∧ fw c (v.2.1 20 (v.1 19 - 1 - k)) (v.2.1 20 (v.1 19 - 1 - k)) (nI (v.2.1 20 (v.1 19 - 1))) B = (upd B.1 (v.2.1 20 (v.1 19 - 1 - k)) x, B.2)) → TI L O N u (xs (xwr v c (v.2.1 20 (v.1 19 - 1 - k)) (v.2.1 20 (v.1 19 - 1 - k)) (nI (v.2.1 20 (v.1 19 - 1)))) 19 (v.1 19 - 1)) dp ap (p + 1) (dn + 1) (n + 1) := by
    intro c c2 c4 hs
    refine TI_next h hp hL hf (by omega) (j := 1) ((ext.wr v (wf c _ _ _ c2 c4 hq8 hq8 ht8)).tr (ext.dn _ (v.1 19 - 1))) (by omega) (show v.1 19 - 1 ≤ 8 by omega) (h4.less (Nat.sub_le _ _)) (fun f g B hR => ?_)
    obtain ⟨x, s1, s2⟩ := hs f g B hR
    rw [hkk, s1]
    refine ⟨rfl, ?_⟩
    rw [show exU (xs (xwr v c (v.2.1 20 (v.1 19 - 1 - k)) (v.2.1 20 (v.1 19 - 1 - k)) (nI (v.2.1 20 (v.1 19 - 1)))) 19 (v.1 19 - 1)) (v.1 14) 1 B = _ from ex_wr v _ _ _ _ B, s2]
    exact (hR.set h4 (show v.1 19 - 1 - k < v.1 19 by omega)).less (Nat.sub_le _ _)
  have cl : ∀ x, x < 8 → (nI x).toNatClampNeg = x := fun x hx => nI_clamp (by omega)
  obtain o5 | o6 | o7 | o8 | o9 : O p = 5 ∨ O p = 6 ∨ O p = 7 ∨ O p = 8 ∨ O p = 9 := by omega
  · refine ⟨n + 1, ?_⟩
    have := bin 2 (by omega) (by omega) (fun f g B hR => by
      rw [o5]
      refine ⟨_, rfl, ?_⟩
      rw [hR.1 (v.1 19 - 1) (by omega), hR.1 (v.1 19 - 1 - k) (by omega)]
      simp [fw, cl _ hq8])
    rw [o5]; exact this
  · refine ⟨n + 1, ?_⟩
    have := bin 3 (by omega) (by omega) (fun f g B hR => by
      rw [o6]
      refine ⟨_, rfl, ?_⟩
      rw [hR.1 (v.1 19 - 1) (by omega), hR.1 (v.1 19 - 1 - k) (by omega)]
      simp [fw, cl _ hq8])
    rw [o6]; exact this
  · refine ⟨n + 1, ?_⟩
    have := bin 4 (by omega) (by omega) (fun f g B hR => by
      rw [o7]
      refine ⟨_, rfl, ?_⟩
      rw [hR.1 (v.1 19 - 1) (by omega), hR.1 (v.1 19 - 1 - k) (by omega)]
      simp [fw, cl _ hq8])
    rw [o7]; exact this
  · refine ⟨n + 1, ?_⟩
    have := bip 2 (by omega) (by omega) (fun f g B hR => by
      rw [o8]
      refine ⟨_, rfl, ?_⟩
      rw [hR.1 (v.1 19 - 1) (by omega), hR.1 (v.1 19 - 1 - k) (by omega)]
      simp [fw, cl _ ht8])
    rw [o8]; exact this
  · refine ⟨n + 1, ?_⟩
    have := bip 3 (by omega) (by omega) (fun f g B hR => by
      rw [o9]
      refine ⟨_, rfl, ?_⟩
      rw [hR.1 (v.1 19 - 1) (by omega), hR.1 (v.1 19 - 1 - k) (by omega)]
      simp [fw, cl _ ht8])
    rw [o9]; exact this
/-- straighten behind what is written so far -/
theorem str_sem {L : Nat} {O : Nat → Nat} {N : Nat → Int32} {u v w : XS} {dp ap p dn n : Nat} (h : TI L O N u v dp ap p dn n) (hs : strR v w) : ∃ m, m ≤ n + 24 ∧ ext u w m ∧ w.1 19 = v.1 19 ∧ ∀ (F G : Nat → Int32) (ct : Nat), ∃ f g, runT L O N dn (dp, F, G, ap, ct, 0) = (v.1 19, f, g, p, ct + dn, 0) ∧ (∀ i, i < v.1 19 → (exU w (u.1 14) m (F, G)).1 i = f i) ∧ ∀ i, i < 8 → (exU w (u.1 14) m (F, G)).2 i = g i := by
  obtain ⟨h1, h2, h3, h4, h5, h6⟩ := h
  obtain ⟨m, s1, s2, s3, s4⟩ := hs
  refine ⟨n + m, by omega, h1.tr s2, s3, fun F G ct => ?_⟩
  obtain ⟨f, g, r1, r2⟩ := h6 F G ct
  refine ⟨f, g, r1, fun i hi => ?_, fun i hi => ?_⟩
  · rw [h1.exq s2, (s4 _).2.2 i hi]; exact (r2.1 i hi).symm
  · rw [h1.exq s2, (s4 _).1]; exact (r2.2 i hi).symm
theorem BS_mk {L : Nat} {O : Nat → Nat} {N : Nat → Int32} {u w : XS} {m c x y : Nat} {z : Int32} {dp ap tries dn : Nat} (hx : ext u w m) (hl : lvOK c x y z) (sem : ∀ (F G : Nat → Int32) (ct : Nat), eqT (lve c x y z (exU w (u.1 14) m (F, G)) (ct + dn) 0) (runT L O N tries (dp, F, G, ap, ct, 0))) : BS L O N (xwr w c x y z) (u.1 14) dp ap tries dn := by
  obtain ⟨e1, e2, e3, e4⟩ := xwr_e w c x y z
  rw [hx.1] at e1 e2 e3 e4
  have sc : ∀ j, j < m → sameC w (xwr w c x y z) (u.1 14 + j) := fun j hj => xwr_c w c x y z _ (by rw [hx.1]; omega)
  refine ⟨m, show u.1 14 + m < w.1 14 + 1 by rw [hx.1]; omega, fun j hj => ?_, by rw [e1, e2, e3, e4]; exact hl, fun F G ct => ?_⟩
  · obtain ⟨a1, a2, a3, a4⟩ := sc j hj
    show wfI _ _ _ _
    rw [a1, a2, a3, a4]
    exact hx.2.2.1 j hj
  · rw [e1, e2, e3, e4, ex_congr (u := w) (v := xwr w c x y z) m _ sc]
    exact sem F G ct
theorem lv_any {c x y : Nat} (z : Int32) (h7 : c = 7 ∨ c = 10 ∨ c = 11) (hx : x ≤ 32) (hy : y ≤ 8) : lvOK c x y z := ⟨by omega, by omega, hx, hy, fun h => absurd h (by omega)⟩
theorem lve_pc {c x y : Nat} {z : Int32} {B : BB} {ct : Nat} (h : c ≠ 8) (h9 : c ≠ 9) : lve c x y z B ct 0 = (y, B.1, B.2, x, ct, if c = 10 then 1 else if c = 11 then 2 else 0) := by
  unfold lve
  rw [if_neg (by omega)]
theorem BS_trap {L : Nat} {O : Nat → Nat} {N : Nat → Int32} {u v w : XS} {dp ap p dn n : Nat} (h : TI L O N u v dp ap p dn n) (hs : strR v w) (hb : L ≤ p ∨ fl (O p) (N p) (v.1 19)) : BS L O N (xwr w 11 p (v.1 19) (nI 0)) (u.1 14) dp ap (dn + 1) dn := by
  obtain ⟨m, s1, s2, s3, s4⟩ := str_sem h hs
  refine BS_mk s2 (lv_any _ (Or.inr (Or.inr rfl)) h.2.2.2.2.1 h.2.2.1) (fun F G ct => ?_)
  obtain ⟨f, g, r1, r2, r3⟩ := s4 F G ct
  rw [runT_s r1 rfl, lve_pc (by omega) (by omega)]
  unfold st1
  dsimp only
  rw [if_pos hb]
  exact ⟨rfl, r2, r3, rfl⟩
theorem BS_go {L : Nat} {O : Nat → Nat} {N : Nat → Int32} {u v w : XS} {dp ap p dn n : Nat} (h : TI L O N u v dp ap p dn n) (hs : strR v w) : BS L O N (xwr w 7 p (v.1 19) (nI 0)) (u.1 14) dp ap dn dn := by
  obtain ⟨m, s1, s2, s3, s4⟩ := str_sem h hs
  refine BS_mk s2 (lv_any _ (Or.inl rfl) h.2.2.2.2.1 h.2.2.1) (fun F G ct => ?_)
  obtain ⟨f, g, r1, r2, r3⟩ := s4 F G ct
  rw [r1, lve_pc (by omega) (by omega)]
  exact ⟨rfl, r2, r3, rfl⟩
theorem BS_jmp {L : Nat} {O : Nat → Nat} {N : Nat → Int32} {u v w : XS} {dp ap p dn n : Nat} (h : TI L O N u v dp ap p dn n) (hs : strR v w) (hp : p < L) (hv : vOK (O p) (N p)) (ho : O p = 12 ∨ O p = 13) : BS L O N (xwr w (if O p = 12 then 7 else 10) (if O p = 12 then (N p).toNatClampNeg else p) (v.1 19) (nI 0)) (u.1 14) dp ap (dn + 1) (dn + 1) := by
  obtain ⟨m, s1, s2, s3, s4⟩ := str_sem h hs
  have hnb : ¬ (L ≤ p ∨ fl (O p) (N p) (v.1 19)) := by
    rintro (q | q)
    · omega
    · unfold fl at q; omega
  have h32 := h.2.2.2.2.1
  rcases ho with o | o
  · have hk : (N p).toNatClampNeg ≤ 31 := by
      obtain ⟨k, -, k2, -, -, k5, -⟩ := vOK_k hv (by omega) (by omega)
      omega
    rw [if_pos o, if_pos o]
    refine BS_mk s2 (lv_any _ (Or.inl rfl) (by omega) h.2.2.1) (fun F G ct => ?_)
    obtain ⟨f, g, r1, r2, r3⟩ := s4 F G ct
    rw [runT_s r1 rfl, lve_pc (by omega) (by omega)]
    unfold st1
    dsimp only
    rw [if_neg hnb, if_neg (by omega), o]
    exact ⟨rfl, r2, r3, rfl⟩
  · rw [if_neg (by omega), if_neg (by omega)]
    refine BS_mk s2 (lv_any _ (Or.inr (Or.inl rfl)) h32 h.2.2.1) (fun F G ct => ?_)
    obtain ⟨f, g, r1, r2, r3⟩ := s4 F G ct
    rw [runT_s r1 rfl, lve_pc (by omega) (by omega)]
    unfold st1
    dsimp only
    rw [if_neg hnb, if_pos o]
    exact ⟨rfl, r2, r3, rfl⟩
theorem BS_jz {L : Nat} {O : Nat → Nat} {N : Nat → Int32} {u v w : XS} {dp ap p dn n : Nat} (h : TI L O N u v dp ap p dn n) (hs : strR (xwr (xs v 19 (v.1 19 - 1)) 1 8 (v.2.1 20 (v.1 19 - 1)) (nI 0)) w) (hp : p < L) (hL : L ≤ 32) (hv : vOK (O p) (N p)) (hf : ¬ fl (O p) (N p) (v.1 19)) (ho : O p = 10 ∨ O p = 11) : BS L O N (xwr w (if O p = 10 then 8 else 9) (p + 1) (v.1 19 - 1) (N p)) (u.1 14) dp ap (dn + 1) (dn + 1) := by
  obtain ⟨h1, h2, h3, h4, h5, h6⟩ := h
  obtain ⟨n1, n2, n3, n4⟩ := nofl hv hf h3
  have hD := n2 (Or.inr ho)
  have ht8 := h4.1 (v.1 19 - 1) (by omega)
  have e1 : ext v (xwr (xs v 19 (v.1 19 - 1)) 1 8 (v.2.1 20 (v.1 19 - 1)) (nI 0)) 1 := (ext.dn v (v.1 19 - 1)).tr (ext.wr _ (wf1 (nI 0) (by omega) (by omega)))
  obtain ⟨m, s1, s2, s3, s4⟩ := hs
  obtain ⟨k, k1, k2, -, -, k5, -⟩ := vOK_k hv (by omega) (by omega)
  have hlv : lvOK (if O p = 10 then 8 else 9) (p + 1) (v.1 19 - 1) (N p) := by
    refine ⟨by split <;> omega, by split <;> omega, by omega, by omega, fun _ => ⟨k, k1, k2⟩⟩
  refine BS_mk ((h1.tr e1).tr s2) hlv (fun F G ct => ?_)
  obtain ⟨f, g, r1, r2⟩ := h6 F G ct
  have hE : exU (xwr (xs v 19 (v.1 19 - 1)) 1 8 (v.2.1 20 (v.1 19 - 1)) (nI 0)) (u.1 14) (n + 1) (F, G) = (upd (exU v (u.1 14) n (F, G)).1 8 (f (v.1 19 - 1)), (exU v (u.1 14) n (F, G)).2) := by
    rw [h1.exq e1, show exU (xwr (xs v 19 (v.1 19 - 1)) 1 8 (v.2.1 20 (v.1 19 - 1)) (nI 0)) (v.1 14) 1 (exU v (u.1 14) n (F, G)) = _ from ex_wr (xs v 19 (v.1 19 - 1)) _ _ _ _ _, fw1, r2.1 (v.1 19 - 1) (by omega)]
  have c := s4 (exU (xwr (xs v 19 (v.1 19 - 1)) 1 8 (v.2.1 20 (v.1 19 - 1)) (nI 0)) (u.1 14) (n + 1) (F, G))
  rw [← (h1.tr e1).exq s2, hE] at c
  obtain ⟨c1, c2, c3⟩ := c
  generalize exU w (u.1 14) (n + 1 + m) (F, G) = B at c1 c2 c3 ⊢
  rw [runT_s r1 rfl]
  unfold st1
  dsimp only
  rw [if_neg (show ¬ (L ≤ p ∨ fl (O p) (N p) (v.1 19)) from fun q => q.elim (fun q => by omega) hf), if_neg (show ¬ O p = 13 by omega)]
  have hact : act (O p) (N p).toNatClampNeg (N p) (v.1 19) f g = (v.1 19 - 1, f, g) := by
    rcases ho with o | o <;> rw [o] <;> rfl
  rw [hact]
  refine ⟨rfl, fun i hi => ?_, fun i hi => ?_, ?_⟩
  · have hi : i < v.1 19 - 1 := hi
    have b8 := h4.1 i (by omega)
    show B.1 i = f i
    rw [c3 i hi, r2.1 i (by omega)]
    exact upd_ne _ _ (by show v.2.1 20 i ≠ 8; omega)
  · show B.2 i = g i
    rw [c1]; exact (r2.2 i hi).symm
  · have hb8 : B.1 8 = f (v.1 19 - 1) := by rw [c2]; exact upd_eq (exU v (u.1 14) n (F, G)).1 8 (f (v.1 19 - 1))
    unfold lve
    rw [hb8]
    dsimp only
    unfold nxt
    rw [if_neg (show ¬ O p = 12 by omega)]
    rcases ho with o | o
    · rw [o]
      by_cases q : (f (v.1 19 - 1)).toInt = 0
      · simp [brT, q]; omega
      · simp [brT, q]; omega
    · rw [o]
      by_cases q : (f (v.1 19 - 1)).toInt < 0
      · simp [brT, q]; omega
      · simp [brT, q]; omega
end
section
/-! a finished translation; the blocks that are kept; one instruction in the object -/
set_option maxRecDepth 100000
def clP (L : Nat) (O : Nat → Nat) (N : Nat → Int32) (u w : XS) (dp ap tries dn : Nat) : Prop := (∀ k, k ≠ 14 → k ≠ 19 → w.1 k = u.1 k) ∧ u.1 14 ≤ w.1 14 ∧ w.1 14 ≤ 640 ∧ (∀ j, j < u.1 14 → sameC u w j) ∧ (∀ k, k ≠ 15 → k ≠ 16 → k ≠ 17 → k ≠ 20 → w.2.1 k = u.2.1 k) ∧ (∀ k, k ≠ 18 → w.2.2 k = u.2.2 k) ∧ BS L O N w (u.1 14) dp ap tries dn
theorem clP_w {L : Nat} {O : Nat → Nat} {N : Nat → Int32} {u w : XS} {m c x y : Nat} {z : Int32} {dp ap tries dn : Nat} (hx : ext u w m) (hm : u.1 14 + m < 640) (hb : BS L O N (xwr w c x y z) (u.1 14) dp ap tries dn) : clP L O N u (xwr w c x y z) dp ap tries dn := by
  obtain ⟨a1, a2, a3, a4, a5, a6⟩ := hx
  refine ⟨fun k h1 h2 => ?_, show u.1 14 ≤ w.1 14 + 1 by omega, show w.1 14 + 1 ≤ 640 by omega, fun j hj => ?_, fun k h1 h2 h3 h4 => ?_, fun k h1 => ?_, hb⟩
  · rw [← a4 k h1 h2]; simp [xwr, xs, xz, xn, va_up, h1]
  · obtain ⟨c1, c2, c3, c4⟩ := xwr_c w c x y z j (by omega)
    obtain ⟨d1, d2, d3, d4⟩ := a2 j hj
    exact ⟨c1.trans d1, c2.trans d2, c3.trans d3, c4.trans d4⟩
  · rw [← a5 k h1 h2 h3 h4]; simp [xwr, xs, xz, xn, va_up, h1, h2, h3]
  · rw [← a6 k h1]; simp [xwr, xs, xz, xn, va_up, h1]
theorem str_ext {L : Nat} {O : Nat → Nat} {N : Nat → Int32} {u v w : XS} {dp ap p dn n : Nat} (h : TI L O N u v dp ap p dn n) (hs : strR v w) : ∃ m, ext u w m ∧ m ≤ dn + 24 := by
  obtain ⟨m, s1, s2, -, -⟩ := str_sem h hs
  exact ⟨m, s2, by have := h.2.1; omega⟩
theorem cl_trap {L : Nat} {O : Nat → Nat} {N : Nat → Int32} {u v w : XS} {dp ap p dn n : Nat} (h : TI L O N u v dp ap p dn n) (hs : strR v w) (hb : L ≤ p ∨ fl (O p) (N p) (v.1 19)) (hd : dn ≤ 12) (hc : u.1 14 ≤ 600) : clP L O N u (xwr w 11 p (v.1 19) (nI 0)) dp ap (dn + 1) dn := by
  obtain ⟨m, s1, s2⟩ := str_ext h hs
  exact clP_w s1 (by omega) (BS_trap h hs hb)
theorem cl_go {L : Nat} {O : Nat → Nat} {N : Nat → Int32} {u v w : XS} {dp ap p dn n : Nat} (h : TI L O N u v dp ap p dn n) (hs : strR v w) (hd : dn ≤ 12) (hc : u.1 14 ≤ 600) : clP L O N u (xwr w 7 p (v.1 19) (nI 0)) dp ap dn dn := by
  obtain ⟨m, s1, s2⟩ := str_ext h hs
  exact clP_w s1 (by omega) (BS_go h hs)
theorem cl_one {L : Nat} {O : Nat → Nat} {N : Nat → Int32} {u v v' : XS} {dp ap p dn n : Nat} {r : Int32} (h : TI L O N u v dp ap p dn n) (hp : p < L) (hL : L ≤ 32) (hv : vOK (O p) (N p)) (hf : ¬ fl (O p) (N p) (v.1 19)) (hd : dn ≤ 11) (hc : u.1 14 ≤ 600) (ht : tOne v p (O p) (N p).toNatClampNeg (N p) r v') : (r = nI 1 ∧ ∃ n', TI L O N u v' dp ap (p + 1) (dn + 1) n') ∨ (r = nI 0 ∧ clP L O N u v' dp ap (dn + 1) (dn + 1)) := by
  rcases ht with ⟨r1, o3, t⟩ | ⟨r1, o4, o9, t⟩ | ⟨r0, o, w, s, rfl⟩ | ⟨r0, o, w, s, rfl⟩
  · exact Or.inl ⟨r1, _, TI_mv h hp hL hv hf o3 t⟩
  · obtain ⟨n', t'⟩ := TI_cb h hp hL hv hf o4 o9
    exact Or.inl ⟨r1, n', by rw [t]; exact t'⟩
  · refine Or.inr ⟨r0, ?_⟩
    have b := BS_jz h s hp hL hv hf o
    obtain ⟨m, s1, s2, s3, -⟩ := s
    have n2 := (nofl hv hf h.2.2.1).2.1 (Or.inr o)
    have e1 : ext v (xwr (xs v 19 (v.1 19 - 1)) 1 8 (v.2.1 20 (v.1 19 - 1)) (nI 0)) 1 := (ext.dn v (v.1 19 - 1)).tr (ext.wr _ (wf1 (nI 0) (by omega) (by have := h.2.2.2.1.1 (v.1 19 - 1) (by omega); show v.2.1 20 (v.1 19 - 1) < 10; omega)))
    refine clP_w ((h.1.tr e1).tr s2) ?_ b
    have s1 : m ≤ 3 * (v.1 19 - 1) := s1
    have := h.2.1
    have := h.2.2.1
    omega
  · refine Or.inr ⟨r0, ?_⟩
    have b := BS_jmp h s hp hv o
    obtain ⟨m, s1, s2⟩ := str_ext h s
    exact clP_w s1 (by omega) b
theorem TI_0 {L : Nat} {O : Nat → Nat} {N : Nat → Int32} {v : XS} {dp ap : Nat} (h19 : v.1 19 = dp) (h8 : dp ≤ 8) (ha : ap ≤ 32) (hh : ∀ j, j < 8 → v.2.1 20 j = j) : TI L O N v v dp ap ap 0 0 := by
  refine ⟨ext.rf v, Nat.le_refl 0, by omega, ⟨fun i hi => by rw [hh i (by omega)]; omega, fun i j hi hj e => by rw [hh i (by omega), hh j (by omega)] at e; exact e⟩, ha, fun F G ct => ⟨F, G, by rw [h19]; rfl, fun i hi => by rw [hh i (by omega)]; rfl, fun _ _ => rfl⟩⟩
/-- what translate leaves -/
def trP (L : Nat) (O : Nat → Nat) (N : Nat → Int32) (u w : XS) (b dp ap : Nat) : Prop := (∀ k, k ≠ 14 → k ≠ 19 → w.1 k = u.1 k) ∧ u.1 14 ≤ w.1 14 ∧ w.1 14 ≤ 640 ∧ (∀ j, j < u.1 14 → sameC u w j) ∧ (∀ k, k ≠ 12 → k ≠ 13 → k ≠ 15 → k ≠ 16 → k ≠ 17 → k ≠ 20 → w.2.1 k = u.2.1 k) ∧ (∀ j, j ≠ b → w.2.1 12 j = u.2.1 12 j ∧ w.2.1 13 j = u.2.1 13 j) ∧ (∀ k, k ≠ 18 → w.2.2 k = u.2.2 k) ∧ (1 ≤ w.2.1 12 b ∧ w.2.1 12 b ≤ 13 ∧ w.2.1 13 b ≤ 12) ∧ BS L O N w (u.1 14) dp ap (w.2.1 12 b) (w.2.1 13 b)
theorem trP_mk {L : Nat} {O : Nat → Nat} {N : Nat → Int32} {u v w : XS} {b dp ap tries dn : Nat} (h1 : ∀ k, k ≠ 19 → v.1 k = u.1 k) (h2 : ∀ k, k ≠ 20 → v.2.1 k = u.2.1 k) (h3 : v.2.2 = u.2.2) (hc : clP L O N v w dp ap tries dn) (ht : 1 ≤ tries) (ht2 : tries ≤ 13) (hd : dn ≤ 12) : trP L O N u (xn (xn w 13 b dn) 12 b tries) b dp ap := by
  obtain ⟨c1, c2, c3, c4, c5, c6, c7⟩ := hc
  have e14 := h1 14 (by decide)
  have e12 : (xn (xn w 13 b dn) 12 b tries).2.1 12 b = tries := by simp [xn, va_up]
  have e13 : (xn (xn w 13 b dn) 12 b tries).2.1 13 b = dn := by simp [xn, va_up]
  refine ⟨fun k a1 a2 => (c1 k a1 a2).trans (h1 k a2), by rw [← e14]; exact c2, c3, fun j hj => ?_, fun k a1 a2 a3 a4 a5 a6 => ?_, fun j hj => ?_, fun k a1 => (c6 k a1).trans (by rw [h3]), by rw [e12, e13]; exact ⟨ht, ht2, hd⟩, ?_⟩
  · obtain ⟨d1, d2, d3, d4⟩ := c4 j (by omega)
    refine ⟨d1.trans ?_, d2.trans ?_, d3.trans ?_, d4.trans ?_⟩
    · rw [h2 15 (by decide)]
    · rw [h2 16 (by decide)]
    · rw [h2 17 (by decide)]
    · rw [h3]
  · rw [← h2 k a6, ← c5 k a3 a4 a5 a6]; simp [xn, va_up, a1, a2]
  · rw [← h2 12 (by decide), ← h2 13 (by decide), ← c5 12 (by decide) (by decide) (by decide) (by decide), ← c5 13 (by decide) (by decide) (by decide) (by decide)]
    constructor <;> simp [xn, va_up, hj]
  · rw [e12, e13, ← e14]
    exact c7
/-- the block b is right for pc ap and height dp -/
def bOK (u : XS) (b dp ap : Nat) : Prop := b < 48 ∧ (1 ≤ u.2.1 12 b ∧ u.2.1 12 b ≤ 13 ∧ u.2.1 13 b ≤ 12) ∧ BS (u.1 0) (u.2.1 1) (u.2.2 2) u (u.2.1 11 b) dp ap (u.2.1 12 b) (u.2.1 13 b)
def cOK (u : XS) : Prop := u.1 10 ≤ 48 ∧ u.1 14 ≤ 640 ∧ ∀ ap dp, ap ≤ 32 → dp ≤ 8 → u.2.2 9 (9 * ap + dp) = -1 ∨ ∃ b, b < u.1 10 ∧ u.2.2 9 (9 * ap + dp) = nI b ∧ bOK u b dp ap
/-- program and machine are as before -/
def tfr (u v : XS) : Prop := v.1 0 = u.1 0 ∧ v.1 5 = u.1 5 ∧ v.1 6 = u.1 6 ∧ v.1 7 = u.1 7 ∧ v.1 8 = u.1 8 ∧ v.2.1 1 = u.2.1 1 ∧ v.2.2 2 = u.2.2 2 ∧ v.2.2 3 = u.2.2 3 ∧ v.2.2 4 = u.2.2 4
theorem tfr.rf (u : XS) : tfr u u := ⟨rfl, rfl, rfl, rfl, rfl, rfl, rfl, rfl, rfl⟩
theorem tfr.tr {u v w : XS} (h : tfr u v) (k : tfr v w) : tfr u w := by
  obtain ⟨a1, a2, a3, a4, a5, a6, a7, a8, a9⟩ := h
  obtain ⟨b1, b2, b3, b4, b5, b6, b7, b8, b9⟩ := k
  exact ⟨b1.trans a1, b2.trans a2, b3.trans a3, b4.trans a4, b5.trans a5, b6.trans a6, b7.trans a7, b8.trans a8, b9.trans a9⟩
theorem tfr.ab {u v : XS} (h : tfr u v) : abX v = abX u := by
  obtain ⟨a1, a2, a3, a4, a5, a6, a7, a8, a9⟩ := h
  unfold abX
  rw [a2, a3, a4, a5, a8, a9]
theorem BS_keep {L : Nat} {O : Nat → Nat} {N : Nat → Int32} {v w : XS} {q dp ap tries dn : Nat} (h : BS L O N v q dp ap tries dn) (h14 : v.1 14 ≤ w.1 14) (hs : ∀ j, j < v.1 14 → sameC v w j) : BS L O N w q dp ap tries dn := by
  obtain ⟨n, b1, b2, b3, b4⟩ := h
  have sc : ∀ j, j ≤ n → sameC v w (q + j) := fun j hj => hs _ (by omega)
  obtain ⟨e1, e2, e3, e4⟩ := sc n (Nat.le_refl n)
  refine ⟨n, by omega, fun j hj => ?_, by rw [e1, e2, e3, e4]; exact b3, fun F G ct => ?_⟩
  · obtain ⟨a1, a2, a3, a4⟩ := sc j (by omega)
    show wfI _ _ _ _
    rw [a1, a2, a3, a4]
    exact b2 j hj
  · rw [e1, e2, e3, e4, ex_congr (u := v) (v := w) n _ (fun j hj => sc j (by omega))]
    exact b4 F G ct
theorem nI_ne {a : Nat} (h : a < 48) : nI a ≠ -1 := by
  intro e
  have := congrArg Int32.toInt e
  rw [nI_toInt (by omega), show (-1 : Int32).toInt = -1 by decide] at this
  omega
/-- a new block is made: u before, with room in the tables; w behind -/
theorem blk_new {u w : XS} {ap dp : Nat} (hc : cOK u) (ha : ap ≤ 32) (hd : dp ≤ 8) (h48 : u.1 10 < 48)
    (ht : trP (u.1 0) (u.2.1 1) (u.2.2 2) (xn (xz (xs u 10 (u.1 10 + 1)) 9 (9 * ap + dp) (nI (u.1 10))) 11 (u.1 10) (u.1 14)) w (u.1 10) dp ap) : cOK w ∧ tfr u w ∧ bOK w (u.1 10) dp ap := by
  obtain ⟨t1, t2, t3, t4, t5, t6, t7, t8, t9⟩ := ht
  have f10 : w.1 10 = u.1 10 + 1 := by rw [t1 10 (by decide) (by decide)]; rfl
  have f0 : w.1 0 = u.1 0 := by rw [t1 0 (by decide) (by decide)]; rfl
  have f1 : w.2.1 1 = u.2.1 1 := by rw [t5 1 (by decide) (by decide) (by decide) (by decide) (by decide) (by decide)]; rfl
  have f2 : w.2.2 2 = u.2.2 2 := by rw [t7 2 (by decide)]; rfl
  have f9 : w.2.2 9 = upd (u.2.2 9) (9 * ap + dp) (nI (u.1 10)) := by rw [t7 9 (by decide)]; rfl
  have f11 : w.2.1 11 = va_up (u.2.1 11) (u.1 10) (u.1 14) := by rw [t5 11 (by decide) (by decide) (by decide) (by decide) (by decide) (by decide)]; rfl
  have t2 : u.1 14 ≤ w.1 14 := t2
  have hb : bOK w (u.1 10) dp ap := by
    refine ⟨h48, t8, ?_⟩
    rw [f0, f1, f2, f11, vu_eq]
    exact t9
  refine ⟨⟨by omega, t3, fun ap' dp' ha' hd' => ?_⟩, ⟨f0, ?_, ?_, ?_, ?_, f1, f2, ?_, ?_⟩, hb⟩
  · rw [f9]
    by_cases e : 9 * ap' + dp' = 9 * ap + dp
    · obtain rfl : ap' = ap := by omega
      obtain rfl : dp' = dp := by omega
      exact Or.inr ⟨u.1 10, by omega, by rw [upd_eq], hb⟩
    · rw [upd_ne _ _ e]
      rcases hc.2.2 ap' dp' ha' hd' with q | ⟨b, q1, q2, q3, q4, q5⟩
      · exact Or.inl q
      · obtain ⟨s1, s2⟩ := t6 b (by omega)
        have s1 : w.2.1 12 b = u.2.1 12 b := s1
        have s2 : w.2.1 13 b = u.2.1 13 b := s2
        refine Or.inr ⟨b, by omega, q2, q3, by rw [s1, s2]; exact q4, ?_⟩
        rw [f0, f1, f2, f11, vu_ne _ _ (show b ≠ u.1 10 by omega), s1, s2]
        exact BS_keep q5 t2 t4
  · rw [t1 5 (by decide) (by decide)]; rfl
  · rw [t1 6 (by decide) (by decide)]; rfl
  · rw [t1 7 (by decide) (by decide)]; rfl
  · rw [t1 8 (by decide) (by decide)]; rfl
  · rw [t7 3 (by decide)]; rfl
  · rw [t7 4 (by decide)]; rfl
/-- forgetBlocks -/
def fgP (u v : XS) : Prop := (∀ k, v.1 k = if k = 10 ∨ k = 14 then 0 else u.1 k) ∧ v.2.1 = u.2.1 ∧ (∀ j, j ≠ 9 → v.2.2 j = u.2.2 j) ∧ ∀ j, j < 297 → v.2.2 9 j = -1
theorem fgP.c {u v : XS} (h : fgP u v) : cOK v ∧ tfr u v ∧ v.1 10 = 0 ∧ v.1 14 = 0 := by
  obtain ⟨h1, h2, h3, h4⟩ := h
  have e10 : v.1 10 = 0 := by rw [h1]; rfl
  have e14 : v.1 14 = 0 := by rw [h1]; rfl
  exact ⟨⟨by omega, by omega, fun ap dp ha hd => Or.inl (h4 _ (by omega))⟩, ⟨by rw [h1]; rfl, by rw [h1]; rfl, by rw [h1]; rfl, by rw [h1]; rfl, by rw [h1]; rfl, by rw [h2], h3 2 (by decide), h3 3 (by decide), h3 4 (by decide)⟩, e10, e14⟩
theorem st1_bad {L : Nat} {O : Nat → Nat} {N : Nat → Int32} {t : TS} (h : L ≤ t.2.2.2.1 ∨ fl (O t.2.2.2.1) (N t.2.2.2.1) t.1) : st1 L O N t = (t.1, t.2.1, t.2.2.1, t.2.2.2.1, t.2.2.2.2.1, 2) := by
  unfold st1
  rw [if_pos h]
theorem st1_13 {L : Nat} {O : Nat → Nat} {N : Nat → Int32} {t : TS} (h : ¬ (L ≤ t.2.2.2.1 ∨ fl (O t.2.2.2.1) (N t.2.2.2.1) t.1)) (ho : O t.2.2.2.1 = 13) : st1 L O N t = (t.1, t.2.1, t.2.2.1, t.2.2.2.1, t.2.2.2.2.1 + 1, 1) := by
  unfold st1
  rw [if_neg h, if_pos ho]
theorem st1_go {L : Nat} {O : Nat → Nat} {N : Nat → Int32} {t : TS} (h : ¬ (L ≤ t.2.2.2.1 ∨ fl (O t.2.2.2.1) (N t.2.2.2.1) t.1)) (ho : O t.2.2.2.1 ≠ 13) : st1 L O N t = ((act (O t.2.2.2.1) (N t.2.2.2.1).toNatClampNeg (N t.2.2.2.1) t.1 t.2.1 t.2.2.1).1, (act (O t.2.2.2.1) (N t.2.2.2.1).toNatClampNeg (N t.2.2.2.1) t.1 t.2.1 t.2.2.1).2.1, (act (O t.2.2.2.1) (N t.2.2.2.1).toNatClampNeg (N t.2.2.2.1) t.1 t.2.1 t.2.2.1).2.2, nxt (O t.2.2.2.1) (N t.2.2.2.1).toNatClampNeg (t.2.1 (t.1 - 1)) t.2.2.2.1, t.2.2.2.2.1 + 1, t.2.2.2.2.2) := by
  unfold st1
  rw [if_neg h, if_neg ho]
/-- one instruction in the object -/
theorem tr_fault {u : XS} (hb : u.1 0 ≤ u.1 6 ∨ fl (u.2.1 1 (u.1 6)) (u.2.2 2 (u.1 6)) (u.1 5)) : abX (xs u 7 2) = st1 (u.1 0) (u.2.1 1) (u.2.2 2) (abX u) ∧ mch u (xs u 7 2) := by
  refine ⟨?_, (mch.rf u).fld (by decide)⟩
  rw [st1_bad (t := abX u) hb]
  rfl
theorem tr_halt {u : XS} (hb : ¬ (u.1 0 ≤ u.1 6 ∨ fl (u.2.1 1 (u.1 6)) (u.2.2 2 (u.1 6)) (u.1 5))) (ho : u.2.1 1 (u.1 6) = 13) : abX (xs (xs u 8 (u.1 8 + 1)) 7 1) = st1 (u.1 0) (u.2.1 1) (u.2.2 2) (abX u) ∧ mch u (xs (xs u 8 (u.1 8 + 1)) 7 1) := by
  refine ⟨?_, ((mch.rf u).fld (by decide)).fld (by decide)⟩
  rw [st1_13 (t := abX u) hb ho]
  rfl
theorem tr_jmp {u : XS} (hb : ¬ (u.1 0 ≤ u.1 6 ∨ fl (u.2.1 1 (u.1 6)) (u.2.2 2 (u.1 6)) (u.1 5))) (ho : u.2.1 1 (u.1 6) = 12) : abX (xs (xs u 8 (u.1 8 + 1)) 6 (u.2.2 2 (u.1 6)).toNatClampNeg) = st1 (u.1 0) (u.2.1 1) (u.2.2 2) (abX u) ∧ mch u (xs (xs u 8 (u.1 8 + 1)) 6 (u.2.2 2 (u.1 6)).toNatClampNeg) := by
  refine ⟨?_, ((mch.rf u).fld (by decide)).fld (by decide)⟩
  rw [st1_go (t := abX u) hb (show u.2.1 1 (u.1 6) ≠ 13 by omega)]
  show _ = ((act (u.2.1 1 (u.1 6)) _ _ _ _ _).1, (act (u.2.1 1 (u.1 6)) _ _ _ _ _).2.1, (act (u.2.1 1 (u.1 6)) _ _ _ _ _).2.2, nxt (u.2.1 1 (u.1 6)) _ _ _, _, _)
  rw [ho]
  rfl
theorem tr_jz {u : XS} {x : Nat} (hb : ¬ (u.1 0 ≤ u.1 6 ∨ fl (u.2.1 1 (u.1 6)) (u.2.2 2 (u.1 6)) (u.1 5))) (ho : u.2.1 1 (u.1 6) = 10 ∨ u.2.1 1 (u.1 6) = 11) (hx : brT (u.2.1 1 (u.1 6)) (u.2.2 4 (u.1 5 - 1)) ∧ x = (u.2.2 2 (u.1 6)).toNatClampNeg ∨ ¬ brT (u.2.1 1 (u.1 6)) (u.2.2 4 (u.1 5 - 1)) ∧ x = u.1 6 + 1) : abX (xs (xs (xs u 8 (u.1 8 + 1)) 5 (u.1 5 - 1)) 6 x) = st1 (u.1 0) (u.2.1 1) (u.2.2 2) (abX u) ∧ mch u (xs (xs (xs u 8 (u.1 8 + 1)) 5 (u.1 5 - 1)) 6 x) := by
  refine ⟨?_, (((mch.rf u).fld (by decide)).fld (by decide)).fld (by decide)⟩
  rw [st1_go (t := abX u) hb (show u.2.1 1 (u.1 6) ≠ 13 by omega)]
  have hact : act (u.2.1 1 (u.1 6)) (u.2.2 2 (u.1 6)).toNatClampNeg (u.2.2 2 (u.1 6)) (u.1 5) (u.2.2 4) (u.2.2 3) = (u.1 5 - 1, u.2.2 4, u.2.2 3) := by
    rcases ho with o | o <;> rw [o] <;> rfl
  have hn : nxt (u.2.1 1 (u.1 6)) (u.2.2 2 (u.1 6)).toNatClampNeg (u.2.2 4 (u.1 5 - 1)) (u.1 6) = x := by
    unfold nxt
    rw [if_neg (show ¬ u.2.1 1 (u.1 6) = 12 by omega)]
    rcases hx with ⟨h1, h2⟩ | ⟨h1, h2⟩
    · rw [if_pos ⟨ho, h1⟩, h2]
    · rw [if_neg (fun q => h1 q.2), h2]
  show _ = ((act (u.2.1 1 (u.1 6)) (u.2.2 2 (u.1 6)).toNatClampNeg (u.2.2 2 (u.1 6)) (u.1 5) (u.2.2 4) (u.2.2 3)).1, (act (u.2.1 1 (u.1 6)) (u.2.2 2 (u.1 6)).toNatClampNeg (u.2.2 2 (u.1 6)) (u.1 5) (u.2.2 4) (u.2.2 3)).2.1, (act (u.2.1 1 (u.1 6)) (u.2.2 2 (u.1 6)).toNatClampNeg (u.2.2 2 (u.1 6)) (u.1 5) (u.2.2 4) (u.2.2 3)).2.2, nxt (u.2.1 1 (u.1 6)) (u.2.2 2 (u.1 6)).toNatClampNeg (u.2.2 4 (u.1 5 - 1)) (u.1 6), u.1 8 + 1, u.1 7)
  rw [hact, hn]
  rfl
theorem tr_any {u w : XS} (hb : ¬ (u.1 0 ≤ u.1 6 ∨ fl (u.2.1 1 (u.1 6)) (u.2.2 2 (u.1 6)) (u.1 5))) (ho : u.2.1 1 (u.1 6) ≤ 9) (hw : abX w = ((act (u.2.1 1 (u.1 6)) (u.2.2 2 (u.1 6)).toNatClampNeg (u.2.2 2 (u.1 6)) (u.1 5) (u.2.2 4) (u.2.2 3)).1, (act (u.2.1 1 (u.1 6)) (u.2.2 2 (u.1 6)).toNatClampNeg (u.2.2 2 (u.1 6)) (u.1 5) (u.2.2 4) (u.2.2 3)).2.1, (act (u.2.1 1 (u.1 6)) (u.2.2 2 (u.1 6)).toNatClampNeg (u.2.2 2 (u.1 6)) (u.1 5) (u.2.2 4) (u.2.2 3)).2.2, u.1 6, u.1 8 + 1, u.1 7)) (hm : mch (xs u 8 (u.1 8 + 1)) w) : abX (xs w 6 (u.1 6 + 1)) = st1 (u.1 0) (u.2.1 1) (u.2.2 2) (abX u) ∧ mch u (xs w 6 (u.1 6 + 1)) := by
  refine ⟨?_, ((((mch.rf u).fld (by decide)).tr hm).fld (by decide))⟩
  rw [st1_go (t := abX u) hb (show u.2.1 1 (u.1 6) ≠ 13 by omega)]
  have hn : nxt (u.2.1 1 (u.1 6)) (u.2.2 2 (u.1 6)).toNatClampNeg (u.2.2 4 (u.1 5 - 1)) (u.1 6) = u.1 6 + 1 := by
    unfold nxt
    rw [if_neg (by omega), if_neg (by omega)]
  show ((abX w).1, (abX w).2.1, (abX w).2.2.1, u.1 6 + 1, (abX w).2.2.2.2.1, (abX w).2.2.2.2.2) = (_, _, _, nxt (u.2.1 1 (u.1 6)) (u.2.2 2 (u.1 6)).toNatClampNeg (u.2.2 4 (u.1 5 - 1)) (u.1 6), u.1 8 + 1, u.1 7)
  rw [hn, hw]
  rfl
theorem tr_mv {u : XS} (hb : ¬ (u.1 0 ≤ u.1 6 ∨ fl (u.2.1 1 (u.1 6)) (u.2.2 2 (u.1 6)) (u.1 5))) (ho : u.2.1 1 (u.1 6) ≤ 3) : abX (xs (exM (u.2.1 1 (u.1 6)) (u.2.2 2 (u.1 6)).toNatClampNeg (u.2.2 2 (u.1 6)) (xs u 8 (u.1 8 + 1))) 6 (u.1 6 + 1)) = st1 (u.1 0) (u.2.1 1) (u.2.2 2) (abX u) ∧ mch u (xs (exM (u.2.1 1 (u.1 6)) (u.2.2 2 (u.1 6)).toNatClampNeg (u.2.2 2 (u.1 6)) (xs u 8 (u.1 8 + 1))) 6 (u.1 6 + 1)) := by
  obtain ⟨h1, h2⟩ := abX_M (k := (u.2.2 2 (u.1 6)).toNatClampNeg) (a := u.2.2 2 (u.1 6)) (xs u 8 (u.1 8 + 1)) ho
  exact tr_any hb (by omega) h1 h2
theorem tr_cb {u : XS} (hb : ¬ (u.1 0 ≤ u.1 6 ∨ fl (u.2.1 1 (u.1 6)) (u.2.2 2 (u.1 6)) (u.1 5))) (ho : 4 ≤ u.2.1 1 (u.1 6)) (ho9 : u.2.1 1 (u.1 6) ≤ 9) : abX (xs (exC (u.2.1 1 (u.1 6)) (u.2.2 2 (u.1 6)).toNatClampNeg (xs u 8 (u.1 8 + 1))) 6 (u.1 6 + 1)) = st1 (u.1 0) (u.2.1 1) (u.2.2 2) (abX u) ∧ mch u (xs (exC (u.2.1 1 (u.1 6)) (u.2.2 2 (u.1 6)).toNatClampNeg (xs u 8 (u.1 8 + 1))) 6 (u.1 6 + 1)) := by
  obtain ⟨h1, h2⟩ := abX_C (k := (u.2.2 2 (u.1 6)).toNatClampNeg) (a := u.2.2 2 (u.1 6)) (xs u 8 (u.1 8 + 1)) ho ho9
  exact tr_any hb ho9 h1 h2
theorem mch.FG (u : XS) (B : BB) : mch u (xFG u B) := ⟨fun _ _ _ _ _ => rfl, rfl, fun k h3 h4 => by simp [xFG, va_up, h3, h4]⟩
end
section
/-! a block run, as the machine does -/
set_option maxRecDepth 100000
def nc (a : Int32) : Nat := if a.toInt < 0 then 0 else if 200 < a.toInt then 200 else a.toNatClampNeg
theorem nc_neg {a : Int32} (h : a.toInt < 0) : nc a = 0 := by unfold nc; rw [if_pos h]
theorem nc_big {a : Int32} (h : 200 < a.toInt) : nc a = 200 := by unfold nc; rw [if_neg (by omega), if_pos h]
theorem nc_mid {k : Nat} (h : k ≤ 200) : nc (nI k) = k := by unfold nc; rw [nI_toInt (by omega), if_neg (by omega), if_neg (by omega), nI_clamp (by omega)]
theorem cOK_mch {u v : XS} (hm : mch u v) (h : cOK u) : cOK v := by
  obtain ⟨m1, m2, m3⟩ := hm
  have f : ∀ k, k ≠ 5 → k ≠ 6 → k ≠ 7 → k ≠ 8 → v.1 k = u.1 k := m1
  refine ⟨by rw [f 10 (by decide) (by decide) (by decide) (by decide)]; exact h.1, by rw [f 14 (by decide) (by decide) (by decide) (by decide)]; exact h.2.1, fun ap dp ha hd => ?_⟩
  rw [m3 9 (by decide) (by decide)]
  rcases h.2.2 ap dp ha hd with q | ⟨b, q1, q2, q3, q4, q5⟩
  · exact Or.inl q
  · refine Or.inr ⟨b, by rw [f 10 (by decide) (by decide) (by decide) (by decide)]; exact q1, q2, q3, by rw [m2]; exact q4, ?_⟩
    rw [m2, f 0 (by decide) (by decide) (by decide) (by decide), m3 2 (by decide) (by decide)]
    exact BS_keep q5 (by rw [f 14 (by decide) (by decide) (by decide) (by decide)]; exact Nat.le_refl _) (fun j _ => ⟨by rw [m2], by rw [m2], by rw [m2], by rw [m3 18 (by decide) (by decide)]⟩)
theorem run_blk {w w2 : XS} {b n dp ap : Nat} (_ : BS (w.1 0) (w.2.1 1) (w.2.2 2) w (w.2.1 11 b) dp ap (w.2.1 12 b) (w.2.1 13 b))
    (h4 : ∀ (F G : Nat → Int32) (ct : Nat), eqT (lve (w.2.1 15 (w.2.1 11 b + n)) (w.2.1 16 (w.2.1 11 b + n)) (w.2.1 17 (w.2.1 11 b + n)) (w.2.2 18 (w.2.1 11 b + n)) (exU w (w.2.1 11 b) n (F, G)) (ct + w.2.1 13 b) 0) (runT (w.1 0) (w.2.1 1) (w.2.2 2) (w.2.1 12 b) (dp, F, G, ap, ct, 0)))
    (hx : abX w2 = lve (w.2.1 15 (w.2.1 11 b + n)) (w.2.1 16 (w.2.1 11 b + n)) (w.2.1 17 (w.2.1 11 b + n)) (w.2.2 18 (w.2.1 11 b + n)) (exU w (w.2.1 11 b) n (w.2.2 4, w.2.2 3)) (w.1 8 + w.2.1 13 b) (w.1 7)) (h7 : w.1 7 = 0) (h5 : w.1 5 = dp) (h6 : w.1 6 = ap) : eqT (abX w2) (runT (w.1 0) (w.2.1 1) (w.2.2 2) (w.2.1 12 b) (abX w)) := by
  have := h4 (w.2.2 4) (w.2.2 3) (w.1 8)
  rw [hx, h7]
  have e : abX w = (dp, w.2.2 4, w.2.2 3, ap, w.1 8, 0) := by unfold abX; rw [h5, h6, h7]
  rw [e]
  exact this
theorem run_more {L : Nat} {O : Nat → Nat} {N : Nat → Int32} (hp : pOK L O N) {rest k : Nat} (hk : k ≤ rest) {a b T : TS} (ha : tOK a) (hb : eqT b (runT L O N k a)) (hT : eqT (runT L O N rest a) T) : eqT (runT L O N (rest - k) b) T := by
  refine eqT.tr (runT_congr hp (rest - k) (tOK_eq hb.sy (runT_ok hp k ha)) hb) ?_
  rw [← runT_add, show k + (rest - k) = rest by omega]
  exact hT
end
section
/-! the reference's machine: its stack has the top at place 0 -/
set_option maxRecDepth 100000
def rv (h : Nat) (s : Nat → Int32) : Nat → Int32 := fun i => s (h - 1 - i)
def abM (w : XS) : TS := (w.1 4, rv (w.1 4) (w.2.2 3), w.2.2 5, w.1 6, w.1 7, w.1 8)
theorem rv_upd {h j : Nat} (s : Nat → Int32) (x : Int32) {i : Nat} (hj : j < h) (hi : i < h) : rv h (upd s j x) i = upd (rv h s) (h - 1 - j) x i := by
  unfold rv
  by_cases e : i = h - 1 - j
  · subst e
    rw [upd_eq, show h - 1 - (h - 1 - j) = j by omega, upd_eq]
  · rw [upd_ne _ _ e, upd_ne _ _ (by omega)]
theorem rv_at {h k : Nat} (s : Nat → Int32) (hk : k < h) : rv h s (h - 1 - k) = s k := by
  unfold rv
  rw [show h - 1 - (h - 1 - k) = k by omega]
theorem rv_top {h : Nat} (s : Nat → Int32) : rv h s (h - 1) = s 0 := by
  unfold rv
  rw [show h - 1 - (h - 1) = 0 by omega]
def cal (o k : Nat) (f : Nat → Int32) : Nat → Int32 :=
  if o = 4 then upd (upd f 0 (f k)) k (f 0)
  else if o = 5 then upd f 0 (f 0 + f k)
  else if o = 6 then upd f 0 (f 0 - f k)
  else if o = 7 then upd f 0 (f 0 * f k)
  else if o = 8 then upd f k (f k + f 0)
  else upd f k (f k - f 0)
theorem rv_cal {o k h : Nat} {a : Int32} {s g : Nat → Int32} (ho : 4 ≤ o) (ho9 : o ≤ 9) (hk : k < h) {i : Nat} (hi : i < h) : rv h (cal o k s) i = (act o k a h (rv h s) g).2.1 i := by
  have h0 : 0 < h := by omega
  obtain rfl | rfl | rfl | rfl | rfl | rfl : o = 4 ∨ o = 5 ∨ o = 6 ∨ o = 7 ∨ o = 8 ∨ o = 9 := by omega
  · show rv h (upd (upd s 0 (s k)) k (s 0)) i = upd (upd (rv h s) (h - 1) (rv h s (h - 1 - k))) (h - 1 - k) (rv h s (h - 1)) i
    rw [rv_upd _ _ hk hi, rv_at s hk, rv_top]
    by_cases e : i = h - 1 - k
    · subst e; rw [upd_eq, upd_eq]
    · rw [upd_ne _ _ e, upd_ne _ _ e, rv_upd _ _ h0 hi, Nat.sub_zero]
  · show rv h (upd s 0 (s 0 + s k)) i = upd (rv h s) (h - 1) (rv h s (h - 1) + rv h s (h - 1 - k)) i
    rw [rv_upd _ _ h0 hi, rv_at s hk, rv_top, Nat.sub_zero]
  · show rv h (upd s 0 (s 0 - s k)) i = upd (rv h s) (h - 1) (rv h s (h - 1) - rv h s (h - 1 - k)) i
    rw [rv_upd _ _ h0 hi, rv_at s hk, rv_top, Nat.sub_zero]
  · show rv h (upd s 0 (s 0 * s k)) i = upd (rv h s) (h - 1) (rv h s (h - 1) * rv h s (h - 1 - k)) i
    rw [rv_upd _ _ h0 hi, rv_at s hk, rv_top, Nat.sub_zero]
  · show rv h (upd s k (s k + s 0)) i = upd (rv h s) (h - 1 - k) (rv h s (h - 1 - k) + rv h s (h - 1)) i
    rw [rv_upd _ _ hk hi, rv_at s hk, rv_top]
  · show rv h (upd s k (s k - s 0)) i = upd (rv h s) (h - 1 - k) (rv h s (h - 1 - k) - rv h s (h - 1)) i
    rw [rv_upd _ _ hk hi, rv_at s hk, rv_top]
theorem act_cal {o k h : Nat} {a : Int32} {f g : Nat → Int32} (ho : 4 ≤ o) (ho9 : o ≤ 9) : (act o k a h f g).1 = (if 8 ≤ o then h - 1 else h) ∧ (act o k a h f g).2.2 = g := by
  obtain rfl | rfl | rfl | rfl | rfl | rfl : o = 4 ∨ o = 5 ∨ o = 6 ∨ o = 7 ∨ o = 8 ∨ o = 9 := by omega
  all_goals exact ⟨rfl, rfl⟩
/-- what attempt leaves -/
def aP (u u2 : XS) : Prop := eqT (abM u2) (st1 (u.1 0) (u.2.1 1) (u.2.2 2) (abM u)) ∧ u2.1 0 = u.1 0 ∧ u2.2.1 = u.2.1 ∧ u2.2.2 2 = u.2.2 2
abbrev badM (u : XS) : Prop := u.1 0 ≤ u.1 6 ∨ fl (u.2.1 1 (u.1 6)) (u.2.2 2 (u.1 6)) (u.1 4)
abbrev u1M (u : XS) : XS := xs (xs u 7 (u.1 7 + 1)) 6 (u.1 6 + 1)
theorem at_fault {u : XS} (hb : badM u) : aP u (xs u 8 2) := by
  refine ⟨?_, rfl, rfl, rfl⟩
  rw [st1_bad (t := abM u) hb]
  exact ⟨rfl, fun _ _ => rfl, fun _ _ => rfl, rfl⟩
theorem at_halt {u : XS} (hb : ¬ badM u) (ho : u.2.1 1 (u.1 6) = 13) : aP u (xs (xs u 7 (u.1 7 + 1)) 8 1) := by
  refine ⟨?_, rfl, rfl, rfl⟩
  rw [st1_13 (t := abM u) hb ho]
  exact ⟨rfl, fun _ _ => rfl, fun _ _ => rfl, rfl⟩
/-- any other instruction: the parts of the state behind it -/
theorem at_go {u u2 : XS} (hb : ¬ badM u) (ho : u.2.1 1 (u.1 6) ≠ 13) {H : Nat} {f g : Nat → Int32} {x : Nat} (hact : act (u.2.1 1 (u.1 6)) (u.2.2 2 (u.1 6)).toNatClampNeg (u.2.2 2 (u.1 6)) (u.1 4) (rv (u.1 4) (u.2.2 3)) (u.2.2 5) = (H, f, g)) (hx : nxt (u.2.1 1 (u.1 6)) (u.2.2 2 (u.1 6)).toNatClampNeg (rv (u.1 4) (u.2.2 3) (u.1 4 - 1)) (u.1 6) = x)
    (e4 : u2.1 4 = H) (ef : ∀ i, i < H → rv H (u2.2.2 3) i = f i) (eg : ∀ i, i < 8 → u2.2.2 5 i = g i) (e6 : u2.1 6 = x) (e7 : u2.1 7 = u.1 7 + 1) (e8 : u2.1 8 = u.1 8) : eqT (abM u2) (st1 (u.1 0) (u.2.1 1) (u.2.2 2) (abM u)) := by
  rw [st1_go (t := abM u) hb ho]
  show eqT (abM u2) ((act (u.2.1 1 (u.1 6)) (u.2.2 2 (u.1 6)).toNatClampNeg (u.2.2 2 (u.1 6)) (u.1 4) (rv (u.1 4) (u.2.2 3)) (u.2.2 5)).1, (act (u.2.1 1 (u.1 6)) (u.2.2 2 (u.1 6)).toNatClampNeg (u.2.2 2 (u.1 6)) (u.1 4) (rv (u.1 4) (u.2.2 3)) (u.2.2 5)).2.1, (act (u.2.1 1 (u.1 6)) (u.2.2 2 (u.1 6)).toNatClampNeg (u.2.2 2 (u.1 6)) (u.1 4) (rv (u.1 4) (u.2.2 3)) (u.2.2 5)).2.2, nxt (u.2.1 1 (u.1 6)) (u.2.2 2 (u.1 6)).toNatClampNeg (rv (u.1 4) (u.2.2 3) (u.1 4 - 1)) (u.1 6), u.1 7 + 1, u.1 8)
  rw [hact, hx]
  refine ⟨e4, fun i hi => ?_, eg, ?_⟩
  · have hi : i < u2.1 4 := hi
    show rv (u2.1 4) (u2.2.2 3) i = f i
    rw [e4]
    exact ef i (by omega)
  · show (u2.1 6, u2.1 7, u2.1 8) = (x, u.1 7 + 1, u.1 8)
    rw [e6, e7, e8]
theorem nxt_1 {o k pc : Nat} {v : Int32} (h : o ≤ 9) : nxt o k v pc = pc + 1 := by
  unfold nxt
  rw [if_neg (by omega), if_neg (by omega)]
theorem at_jmp {u : XS} (hb : ¬ badM u) (ho : u.2.1 1 (u.1 6) = 12) : aP u (xs (u1M u) 6 (u.2.2 2 (u.1 6)).toNatClampNeg) := by
  refine ⟨at_go hb (by omega) (H := u.1 4) (f := rv (u.1 4) (u.2.2 3)) (g := u.2.2 5) (x := (u.2.2 2 (u.1 6)).toNatClampNeg) ?_ ?_ rfl (fun _ _ => rfl) (fun _ _ => rfl) rfl rfl rfl, rfl, rfl, rfl⟩
  · rw [ho]; rfl
  · unfold nxt; rw [if_pos ho]
def puR (u : XS) (a : Int32) (u2 : XS) : Prop := (∀ k, u2.1 k = if k = 4 then u.1 4 + 1 else u.1 k) ∧ u2.2.1 = u.2.1 ∧ (∀ j, j ≠ 3 → u2.2.2 j = u.2.2 j) ∧ u2.2.2 3 0 = a ∧ ∀ j, j < 7 → u2.2.2 3 (j + 1) = u.2.2 3 j
def poR (u : XS) (r : Int32) (u2 : XS) : Prop := r = u.2.2 3 0 ∧ (∀ k, u2.1 k = if k = 4 then u.1 4 - 1 else u.1 k) ∧ u2.2.1 = u.2.1 ∧ (∀ j, j ≠ 3 → u2.2.2 j = u.2.2 j) ∧ ∀ j, j < 7 → u2.2.2 3 j = u.2.2 3 (j + 1)
def caR (o k : Nat) (u u2 : XS) : Prop := (∀ q, u2.1 q = if q = 4 ∧ 8 ≤ o then u.1 4 - 1 else u.1 q) ∧ u2.2.1 = u.2.1 ∧ (∀ j, j ≠ 3 → u2.2.2 j = u.2.2 j) ∧ (o ≤ 7 → u2.2.2 3 = cal o k (u.2.2 3)) ∧ (8 ≤ o → ∀ j, j < 7 → u2.2.2 3 j = cal o k (u.2.2 3) (j + 1))
theorem at_push {u u2 : XS} {v : Int32} (hb : ¬ badM u) (ho : u.2.1 1 (u.1 6) ≤ 2) (h7 : u.1 4 ≤ 7) (hv : act (u.2.1 1 (u.1 6)) (u.2.2 2 (u.1 6)).toNatClampNeg (u.2.2 2 (u.1 6)) (u.1 4) (rv (u.1 4) (u.2.2 3)) (u.2.2 5) = (u.1 4 + 1, upd (rv (u.1 4) (u.2.2 3)) (u.1 4) v, u.2.2 5)) (hp : puR (u1M u) v u2) : aP u u2 := by
  obtain ⟨p1, p2, p3, p4, p5⟩ := hp
  refine ⟨at_go hb (by omega) hv (nxt_1 (by omega)) (by rw [p1]; rfl) (fun i hi => ?_) (fun i _ => by rw [p3 5 (by decide)]; rfl) (by rw [p1]; rfl) (by rw [p1]; rfl) (by rw [p1]; rfl), by rw [p1]; rfl, p2, p3 2 (by decide)⟩
  unfold rv
  by_cases e : i = u.1 4
  · subst e
    rw [upd_eq, show u.1 4 + 1 - 1 - u.1 4 = 0 by omega]
    exact p4
  · rw [upd_ne _ _ e, show u.1 4 + 1 - 1 - i = (u.1 4 - 1 - i) + 1 by omega]
    exact p5 _ (by omega)
theorem at_store {u u2 : XS} {r : Int32} {k : Nat} (hb : ¬ badM u) (ho : u.2.1 1 (u.1 6) = 3) (h1 : 1 ≤ u.1 4) (h8 : u.1 4 ≤ 8) (hk : k = (u.2.2 2 (u.1 6)).toNatClampNeg) (hp : poR (u1M u) r u2) : aP u (xz u2 5 k r) := by
  obtain ⟨p0, p1, p2, p3, p4⟩ := hp
  have p0 : r = u.2.2 3 0 := p0
  refine ⟨at_go hb (by omega) (H := u.1 4 - 1) (f := rv (u.1 4) (u.2.2 3)) (g := upd (u.2.2 5) k r) (by rw [ho, ← hk, p0, ← rv_top (h := u.1 4) (u.2.2 3)]; rfl) (nxt_1 (by omega)) (show u2.1 4 = _ by rw [p1]; rfl) (fun i hi => ?_) (fun i _ => ?_) (show u2.1 6 = _ by rw [p1]; rfl) (show u2.1 7 = _ by rw [p1]; rfl) (show u2.1 8 = _ by rw [p1]; rfl), show u2.1 0 = _ by rw [p1]; rfl, p2, ?_⟩
  · show u2.2.2 3 (u.1 4 - 1 - 1 - i) = u.2.2 3 (u.1 4 - 1 - i)
    rw [p4 _ (by omega), show u.1 4 - 1 - 1 - i + 1 = u.1 4 - 1 - i by omega]
    rfl
  · show upd (u2.2.2 5) k r i = upd (u.2.2 5) k r i
    rw [p3 5 (by decide)]
    rfl
  · show u2.2.2 2 = u.2.2 2
    exact p3 2 (by decide)
theorem at_jz {u u2 : XS} {r : Int32} {x : Nat} (hb : ¬ badM u) (ho : u.2.1 1 (u.1 6) = 10 ∨ u.2.1 1 (u.1 6) = 11) (h1 : 1 ≤ u.1 4) (h8 : u.1 4 ≤ 8) (hp : poR (u1M u) r u2) (hx : brT (u.2.1 1 (u.1 6)) r ∧ x = (u.2.2 2 (u.1 6)).toNatClampNeg ∨ ¬ brT (u.2.1 1 (u.1 6)) r ∧ x = u.1 6 + 1) : aP u (xs u2 6 x) := by
  obtain ⟨p0, p1, p2, p3, p4⟩ := hp
  have p0 : r = u.2.2 3 0 := p0
  rw [p0] at hx
  refine ⟨at_go hb (by omega) (H := u.1 4 - 1) (f := rv (u.1 4) (u.2.2 3)) (g := u.2.2 5) (x := x) (by rcases ho with o | o <;> rw [o] <;> rfl) ?_ (show u2.1 4 = _ by rw [p1]; rfl) (fun i hi => ?_) (fun i _ => show u2.2.2 5 i = _ by rw [p3 5 (by decide)]; rfl) rfl (show u2.1 7 = _ by rw [p1]; rfl) (show u2.1 8 = _ by rw [p1]; rfl), show u2.1 0 = _ by rw [p1]; rfl, p2, p3 2 (by decide)⟩
  · unfold nxt
    rw [if_neg (show ¬ u.2.1 1 (u.1 6) = 12 by omega), rv_top]
    rcases hx with ⟨a1, a2⟩ | ⟨a1, a2⟩
    · rw [if_pos ⟨ho, a1⟩, a2]
    · rw [if_neg (fun q => a1 q.2), a2]
  · show u2.2.2 3 (u.1 4 - 1 - 1 - i) = u.2.2 3 (u.1 4 - 1 - i)
    rw [p4 _ (by omega), show u.1 4 - 1 - 1 - i + 1 = u.1 4 - 1 - i by omega]
    rfl
theorem at_jz0 {u u2 : XS} {r : Int32} (hb : ¬ badM u) (ho : u.2.1 1 (u.1 6) = 10 ∨ u.2.1 1 (u.1 6) = 11) (h1 : 1 ≤ u.1 4) (h8 : u.1 4 ≤ 8) (hp : poR (u1M u) r u2) (hx : ¬ brT (u.2.1 1 (u.1 6)) r) : aP u u2 := by
  have h6 : u2.1 6 = u.1 6 + 1 := by rw [hp.2.1]; rfl
  have := at_jz hb ho h1 h8 hp (Or.inr ⟨hx, rfl⟩)
  have e : xs u2 6 (u.1 6 + 1) = u2 := by
    refine Prod.ext ?_ rfl
    funext j
    simp only [xs, va_up]
    by_cases q : j = 6
    · rw [if_pos q, q, h6]
    · rw [if_neg q]
  rw [e] at this
  exact this
theorem at_cal {u u2 : XS} {k : Nat} (hb : ¬ badM u) (ho : 4 ≤ u.2.1 1 (u.1 6)) (ho9 : u.2.1 1 (u.1 6) ≤ 9) (h8 : u.1 4 ≤ 8) (hk : k = (u.2.2 2 (u.1 6)).toNatClampNeg) (hkh : k < u.1 4) (hc : caR (u.2.1 1 (u.1 6)) k (u1M u) u2) : aP u u2 := by
  obtain ⟨c1, c2, c3, c4, c5⟩ := hc
  obtain ⟨a1, a2⟩ := act_cal (o := u.2.1 1 (u.1 6)) (k := k) (h := u.1 4) (a := u.2.2 2 (u.1 6)) (f := rv (u.1 4) (u.2.2 3)) (g := u.2.2 5) ho ho9
  refine ⟨at_go hb (by omega) (by rw [← hk]) (nxt_1 (by omega)) ?_ (fun i hi => ?_) (fun i _ => by rw [a2, c3 5 (by decide)]; rfl) (by rw [c1, if_neg (by omega)]; rfl) (by rw [c1, if_neg (by omega)]; rfl) (by rw [c1, if_neg (by omega)]; rfl), by rw [c1, if_neg (by omega)]; rfl, c2, c3 2 (by decide)⟩
  · rw [a1, c1]
    by_cases q : 8 ≤ u.2.1 1 (u.1 6)
    · rw [if_pos ⟨rfl, q⟩, if_pos q]; rfl
    · rw [if_neg (fun z => q z.2), if_neg q]; rfl
  · rw [a1] at hi ⊢
    by_cases q : 8 ≤ u.2.1 1 (u.1 6)
    · rw [if_pos q] at hi ⊢
      rw [← rv_cal (a := u.2.2 2 (u.1 6)) (g := u.2.2 5) ho ho9 hkh (show i < u.1 4 by omega)]
      unfold rv
      rw [c5 q _ (by omega), show u.1 4 - 1 - 1 - i + 1 = u.1 4 - 1 - i by omega]
      rfl
    · rw [if_neg q] at hi ⊢
      rw [← rv_cal (a := u.2.2 2 (u.1 6)) (g := u.2.2 5) ho ho9 hkh hi, c4 (by omega)]
      rfl
end
section
set_option maxRecDepth 100000
set_option maxHeartbeats 4000000 in
theorem free_loop {p : Program} {l : Launch} {e : Env} {R : Room} {s : State} {m : MethodId} {args : Array Value} {below : List Frame} {meth : Method} {c : Code} {cells slots : Nat} {Q : State → Prop} {g : va_G} {ad : Nat → Nat} {d : Nat → ClassId} {A : Nat → Prop} {u : XS} {H : Heap} {locs : List Loc} (F : CallFix p m c cX0_freeRegister 3 s args lw_all RX0) (hI : xI g ad d A s u H locs) (hD : u.1 19 ≤ 8) (hb : ∀ i, i < u.1 19 → u.2.1 20 i < 8) (kk : ∀ (U : Nat) (ls : Array Slot), U < 256 → pcn U ≤ u.1 19 → (∀ j, j < u.1 19 → btN U (u.2.1 20 j) = 1) → lv_has ls 3 [(2, .int (nI (u.1 19))), (1, .int (nI U)), (0, .ref (ad 0))] → W p l e R s m args below meth c H locs cells slots Q (F0 m 29 ls [])) : ∀ (k i U : Nat) (ls : Array Slot), i + k = u.1 19 → U < 256 → pcn U ≤ i → (∀ j, j < i → btN U (u.2.1 20 j) = 1) → lv_has ls 3 [(2, .int (nI i)), (1, .int (nI U)), (0, .ref (ad 0))] → W p l e R s m args below meth c H locs cells slots Q (F0 m 4 ls []) := by
  intro k
  induction k with
  | zero =>
    intro i U ls hik hU hpc hj hl
    refine lv_iload_n F.1 F.2.1 dX0_freeRegister_4 rfl (lv_at hl 0 rfl) ?_
    refine lv_aload_n F.1 F.2.1 dX0_freeRegister_5 rfl (lv_at hl 2 rfl) ?_
    refine xg19 (v := u.1 19) F hI rfl dX0_freeRegister_6 ?_
    refine t_icmp_ge (tgt := 29) F (nI_toInt (by omega)) (nI_toInt (by omega)) dX0_freeRegister_9 (by decide) (fun b_9 => ?_) (fun b_9 => absurd b_9 (by omega))
    obtain rfl : i = u.1 19 := by omega
    exact kk U ls hU hpc hj hl
  | succ k ih =>
    intro i U ls hik hU hpc hj hl
    refine lv_iload_n F.1 F.2.1 dX0_freeRegister_4 rfl (lv_at hl 0 rfl) ?_
    refine lv_aload_n F.1 F.2.1 dX0_freeRegister_5 rfl (lv_at hl 2 rfl) ?_
    refine xg19 (v := u.1 19) F hI rfl dX0_freeRegister_6 ?_
    refine t_icmp_ge (tgt := 29) F (nI_toInt (by omega)) (nI_toInt (by omega)) dX0_freeRegister_9 (by decide) (fun b_9 => absurd b_9 (by omega)) (fun b_9 => ?_)
    refine lv_iload_n F.1 F.2.1 dX0_freeRegister_12 rfl (lv_at hl 1 rfl) ?_
    refine lv_iconst (v := nI 1) F.1 F.2.1 dX0_freeRegister_13 (by decide) ?_
    refine lv_aload_n F.1 F.2.1 dX0_freeRegister_14 rfl (lv_at hl 2 rfl) ?_
    refine xg20 F hI dX0_freeRegister_15 ?_
    refine lv_iload_n F.1 F.2.1 dX0_freeRegister_18 rfl (lv_at hl 0 rfl) ?_
    refine xl20 (x := u.2.1 20 i) F hI (by omega) rfl dX0_freeRegister_19 ?_
    refine k_ishl F (hb i (by omega)) dX0_freeRegister_20 ?_
    refine k_ior F hU (hb i (by omega)) dX0_freeRegister_21 ?_
    refine lv_istore_n (lv' := [(1, .int (nI (U ||| 2 ^ (u.2.1 20 i)))), (2, .int (nI i)), (0, .ref (ad 0))]) F.1 F.2.1 dX0_freeRegister_22 rfl hl (by decide) rfl (fun ls hl => ?_)
    refine lv_iinc (v := nI (i + 1)) (lv' := [(2, .int (nI (i + 1))), (1, .int (nI (U ||| 2 ^ (u.2.1 20 i)))), (0, .ref (ad 0))]) F.1 F.2.1 dX0_freeRegister_23 hl (k := 1) rfl (n_inc _) (by decide) rfl (fun ls hl => ?_)
    refine lv_goto (tgt := 4) F.1 F.2.1 dX0_freeRegister_26 (by decide) ?_
    obtain ⟨o1, o2, o3, o4⟩ := k_or U hU (u.2.1 20 i) (hb i (by omega))
    exact ih (i + 1) (U ||| 2 ^ (u.2.1 20 i)) ls (by omega) o2 (by omega) (fun j hjj => by
      by_cases q : j = i
      · subst q; exact o4
      · exact k_keep U hU _ (hb i (by omega)) _ (hb j (by omega)) (hj j (by omega))) hl
set_option maxHeartbeats 4000000 in
theorem free_loop2 {p : Program} {l : Launch} {e : Env} {R : Room} {s : State} {m : MethodId} {args : Array Value} {below : List Frame} {meth : Method} {c : Code} {cells slots : Nat} {Q : State → Prop} {g : va_G} {ad : Nat → Nat} {d : Nat → ClassId} {A : Nat → Prop} {u : XS} {H : Heap} {locs : List Loc} (F : CallFix p m c cX0_freeRegister 3 s args lw_all RX0) (U : Nat) (hU : U < 256) (kk : ∀ (q : Nat) (ls : Array Slot), q ≤ 7 → (q < 7 → btN U q ≠ 1) → (∀ j, j < q → btN U j = 1) → lv_has ls 3 [(2, .int (nI q)), (1, .int (nI U)), (0, .ref (ad 0))] → W p l e R s m args below meth c H locs cells slots Q (F0 m 51 ls [])) : ∀ (k q : Nat) (ls : Array Slot), q + k = 7 → (∀ j, j < q → btN U j = 1) → lv_has ls 3 [(2, .int (nI q)), (1, .int (nI U)), (0, .ref (ad 0))] → W p l e R s m args below meth c H locs cells slots Q (F0 m 31 ls []) := by
  intro k
  induction k with
  | zero =>
    intro q ls hqk hj hl
    refine lv_iload_n F.1 F.2.1 dX0_freeRegister_31 rfl (lv_at hl 0 rfl) ?_
    refine lv_bipush (v := nI 7) F.1 F.2.1 dX0_freeRegister_32 (by decide) ?_
    refine t_icmp_ge (tgt := 51) F (nI_toInt (by omega)) (nI_toInt (by decide)) dX0_freeRegister_34 (by decide) (fun b_34 => ?_) (fun b_34 => absurd b_34 (by omega))
    exact kk q ls (by omega) (fun h => absurd h (by omega)) hj hl
  | succ k ih =>
    intro q ls hqk hj hl
    have hb2 : btN U q < 2 := Nat.mod_lt _ (by omega)
    refine lv_iload_n F.1 F.2.1 dX0_freeRegister_31 rfl (lv_at hl 0 rfl) ?_
    refine lv_bipush (v := nI 7) F.1 F.2.1 dX0_freeRegister_32 (by decide) ?_
    refine t_icmp_ge (tgt := 51) F (nI_toInt (by omega)) (nI_toInt (by decide)) dX0_freeRegister_34 (by decide) (fun b_34 => absurd b_34 (by omega)) (fun b_34 => ?_)
    refine lv_iload_n F.1 F.2.1 dX0_freeRegister_37 rfl (lv_at hl 1 rfl) ?_
    refine lv_iload_n F.1 F.2.1 dX0_freeRegister_38 rfl (lv_at hl 0 rfl) ?_
    refine lv_ishr F.1 F.2.1 dX0_freeRegister_39 ?_
    refine lv_iconst (v := nI 1) F.1 F.2.1 dX0_freeRegister_40 (by decide) ?_
    refine k_iand F hU (by omega) dX0_freeRegister_41 ?_
    refine t_if_eq (tgt := 51) F (nI_toInt (by omega)) dX0_freeRegister_42 (by decide) (fun b_42 => ?_) (fun b_42 => ?_)
    · exact kk q ls (by omega) (fun _ => by omega) hj hl
    · refine lv_iinc (v := nI (q + 1)) (lv' := [(2, .int (nI (q + 1))), (1, .int (nI U)), (0, .ref (ad 0))]) F.1 F.2.1 dX0_freeRegister_45 hl (k := 0) rfl (n_inc _) (by decide) rfl (fun ls hl => ?_)
      refine lv_goto (tgt := 31) F.1 F.2.1 dX0_freeRegister_48 (by decide) ?_
      exact ih (q + 1) ls (by omega) (fun j hjj => by
        by_cases e : j = q
        · subst e; omega
        · exact hj j (by omega)) hl
set_option maxHeartbeats 4000000 in
set_option maxRecDepth 100000 in
theorem metX0_freeRegister (l : Launch) (g : va_G) (ad : Nat → Nat) (d : Nat → ClassId) (A : Nat → Prop) (u : XS) (hD : u.1 19 ≤ 7) (hb : ∀ i, i < u.1 19 → u.2.1 20 i < 8) : Met l yX0_freeRegister (ws_ yX0_freeRegister cX0_freeRegister 3 (some .int)) ({ frames := 0, cells := 0, slots := 0, locals := 0 }) (xPc g ad d A u []) (xQi g ad d A (fun r u2 => u2 = u ∧ ∃ q : Nat, q ≤ 7 ∧ r = nI q ∧ ∀ j, j < u.1 19 → u.2.1 20 j ≠ q)) 0 0 A := by
  refine x_met (by decide) rfl (Nat.le_of_ble_eq_true rfl) ?_
  intro p e s m below meth c ls F hr hlk hI hl
  have hl : lv_has ls 3 [(0, .ref (ad 0))] := hl
  refine lv_iconst (v := nI 0) F.1 F.2.1 dX0_freeRegister_0 (by decide) ?_
  refine lv_istore_n (lv' := [(1, .int (nI 0)), (0, .ref (ad 0))]) F.1 F.2.1 dX0_freeRegister_1 rfl hl (by decide) rfl (fun ls hl => ?_)
  refine lv_iconst (v := nI 0) F.1 F.2.1 dX0_freeRegister_2 (by decide) ?_
  refine lv_istore_n (lv' := [(2, .int (nI 0)), (1, .int (nI 0)), (0, .ref (ad 0))]) F.1 F.2.1 dX0_freeRegister_3 rfl hl (by decide) rfl (fun ls hl => ?_)
  refine free_loop F hI (by omega) hb (fun U ls hU hpc hj hl => ?_) (u.1 19) 0 0 ls (by omega) (by decide) (by decide) (fun _ h => absurd h (by omega)) (lv_sub hl [0, 1, 2] rfl)
  refine lv_iconst (v := nI 0) F.1 F.2.1 dX0_freeRegister_29 (by decide) ?_
  refine lv_istore_n (lv' := [(2, .int (nI 0)), (1, .int (nI U)), (0, .ref (ad 0))]) F.1 F.2.1 dX0_freeRegister_30 rfl hl (by decide) rfl (fun ls hl => ?_)
  refine free_loop2 (g := g) (d := d) (A := A) (u := u) F U hU (fun q ls hq7 hq hj2 hl => ?_) 7 0 ls rfl (fun _ h => absurd h (by omega)) hl
  refine lv_iload_n F.1 F.2.1 dX0_freeRegister_51 rfl (lv_at hl 0 rfl) ?_
  exact x_reti F hr hlk hI (⟨rfl, q, hq7, rfl, fun j hjj e => by
    have q1 := hj j hjj
    rw [e] at q1
    by_cases h7 : q < 7
    · exact hq h7 q1
    · obtain rfl : q = 7 := by omega
      exact k_all U hU ⟨by omega, ⟨hj2 0 (by omega), hj2 1 (by omega), hj2 2 (by omega), hj2 3 (by omega)⟩, ⟨hj2 4 (by omega), hj2 5 (by omega), hj2 6 (by omega), q1⟩⟩⟩) dX0_freeRegister_52
set_option maxHeartbeats 4000000 in
theorem str_in {p : Program} {l : Launch} {e : Env} {R : Room} {s : State} {m : MethodId} {args : Array Value} {below : List Frame} {meth : Method} {c : Code} {cells slots : Nat} {Q : State → Prop} {g : va_G} {ad : Nat → Nat} {d : Nat → ClassId} {A : Nat → Prop} {v : XS} {h : Nat} {H : Heap} {locs : List Loc} (F : CallFix p m c cX0_straighten 5 s args lw_all RX0) (hI : xI g ad d A s v H locs) (hD : v.1 19 ≤ 8) (hb : ∀ i, i < v.1 19 → v.2.1 20 i < 8) (hh8 : h < 8) (kk : ∀ (hv : Int32) (ls : Array Slot), (hv = -1 ∧ (∀ j, h < j → j < v.1 19 → v.2.1 20 j ≠ h) ∨ ∃ k0, h < k0 ∧ k0 < v.1 19 ∧ v.2.1 20 k0 = h ∧ hv = nI k0) → lv_has ls 5 [(4, .int (nI (v.1 19))), (3, .int hv), (2, .int (nI (v.2.1 20 h))), (1, .int (nI h)), (0, .ref (ad 0))] → W p l e R s m args below meth c H locs cells slots Q (F0 m 61 ls [])) : ∀ (n k : Nat) (hv : Int32) (ls : Array Slot), k + n = v.1 19 → h < k → (hv = -1 ∧ (∀ j, h < j → j < k → v.2.1 20 j ≠ h) ∨ ∃ k0, h < k0 ∧ k0 < k ∧ v.2.1 20 k0 = h ∧ hv = nI k0) → lv_has ls 5 [(4, .int (nI k)), (3, .int hv), (2, .int (nI (v.2.1 20 h))), (1, .int (nI h)), (0, .ref (ad 0))] → W p l e R s m args below meth c H locs cells slots Q (F0 m 32 ls []) := by
  intro n
  induction n with
  | zero =>
    intro k hv ls hkn hk hi hl
    obtain rfl : k = v.1 19 := by omega
    refine lv_iload F.1 F.2.1 dX0_straighten_32 (lv_at hl 0 rfl) ?_
    refine lv_aload_n F.1 F.2.1 dX0_straighten_34 rfl (lv_at hl 4 rfl) ?_
    refine xg19 (v := v.1 19) F hI rfl dX0_straighten_35 ?_
    refine t_icmp_ge (tgt := 61) F (nI_toInt (by omega)) (nI_toInt (by omega)) dX0_straighten_38 (by decide) (fun b_38 => ?_) (fun b_38 => absurd b_38 (by omega))
    exact kk hv ls hi hl
  | succ n ih =>
    intro k hv ls hkn hk hi hl
    have hbk := hb k (by omega)
    refine lv_iload F.1 F.2.1 dX0_straighten_32 (lv_at hl 0 rfl) ?_
    refine lv_aload_n F.1 F.2.1 dX0_straighten_34 rfl (lv_at hl 4 rfl) ?_
    refine xg19 (v := v.1 19) F hI rfl dX0_straighten_35 ?_
    refine t_icmp_ge (tgt := 61) F (nI_toInt (by omega)) (nI_toInt (by omega)) dX0_straighten_38 (by decide) (fun b_38 => absurd b_38 (by omega)) (fun b_38 => ?_)
    refine lv_aload_n F.1 F.2.1 dX0_straighten_41 rfl (lv_at hl 4 rfl) ?_
    refine xg20 F hI dX0_straighten_42 ?_
    refine lv_iload F.1 F.2.1 dX0_straighten_45 (lv_at hl 0 rfl) ?_
    refine xl20 (x := v.2.1 20 k) F hI (by omega) rfl dX0_straighten_47 ?_
    refine lv_iload_n F.1 F.2.1 dX0_straighten_48 rfl (lv_at hl 3 rfl) ?_
    refine t_icmp_ne (tgt := 55) F (nI_toInt (by omega)) (nI_toInt (by omega)) dX0_straighten_49 (by decide) (fun b_49 => ?_) (fun b_49 => ?_)
    · refine lv_iinc (v := nI (k + 1)) (lv' := [(4, .int (nI (k + 1))), (3, .int hv), (2, .int (nI (v.2.1 20 h))), (1, .int (nI h)), (0, .ref (ad 0))]) F.1 F.2.1 dX0_straighten_55 hl (k := 0) rfl (n_inc _) (by decide) rfl (fun ls hl => ?_)
      refine lv_goto (tgt := 32) F.1 F.2.1 dX0_straighten_58 (by decide) ?_
      exact ih (k + 1) hv ls (by omega) (by omega) (by
        rcases hi with ⟨e1, e2⟩ | ⟨k0, e1, e2, e3, e4⟩
        · refine Or.inl ⟨e1, fun j h1 h2 => ?_⟩
          by_cases q : j = k
          · subst q; omega
          · exact e2 j h1 (by omega)
        · exact Or.inr ⟨k0, e1, by omega, e3, e4⟩) hl
    · refine lv_iload F.1 F.2.1 dX0_straighten_52 (lv_at hl 0 rfl) ?_
      refine lv_istore_n (lv' := [(3, .int (nI k)), (4, .int (nI k)), (2, .int (nI (v.2.1 20 h))), (1, .int (nI h)), (0, .ref (ad 0))]) F.1 F.2.1 dX0_straighten_54 rfl hl (by decide) rfl (fun ls hl => ?_)
      refine lv_iinc (v := nI (k + 1)) (lv' := [(4, .int (nI (k + 1))), (3, .int (nI k)), (2, .int (nI (v.2.1 20 h))), (1, .int (nI h)), (0, .ref (ad 0))]) F.1 F.2.1 dX0_straighten_55 hl (k := 1) rfl (n_inc _) (by decide) rfl (fun ls hl => ?_)
      refine lv_goto (tgt := 32) F.1 F.2.1 dX0_straighten_58 (by decide) ?_
      exact ih (k + 1) (nI k) ls (by omega) (by omega) (Or.inr ⟨k, hk, by omega, by omega, rfl⟩) hl
set_option maxHeartbeats 4000000 in
theorem str_out {p : Program} {l : Launch} {e : Env} {R : Room} {s : State} {m : MethodId} {args : Array Value} {below : List Frame} {meth : Method} {c : Code} {cells slots : Nat} {Q : State → Prop} {g : va_G} {ad : Nat → Nat} {d : Nat → ClassId} {A : Nat → Prop} {u : XS} (F : CallFix p m c cX0_straighten 5 s args lw_all RX0) (hD : u.1 19 ≤ 8) (hc : u.1 14 + 3 * u.1 19 ≤ 640) (hfr : 1 ≤ R.frames) (hlo : 24 ≤ R.locals) (hce : cells ≤ R.cells ∧ slots ≤ R.slots) (kk : ∀ (v : XS) (H : Heap) (locs : List Loc) (ls : Array Slot), strR u v → xI g ad d A s v H locs → W p l e R s m args below meth c H locs cells slots Q (F0 m 124 ls [])) : ∀ (k h nn : Nat) (v : XS) (H : Heap) (locs : List Loc) (ls : Array Slot), h + k = u.1 19 → sInv u v nn h → xI g ad d A s v H locs → lv_has ls 5 [(1, .int (nI h)), (0, .ref (ad 0))] → W p l e R s m args below meth c H locs cells slots Q (F0 m 2 ls []) := by
  intro k
  induction k with
  | zero =>
    intro h nn v H locs ls hk hs hI hl
    obtain rfl : h = u.1 19 := by omega
    have hv19 := hs.2.2.1
    refine lv_iload_n F.1 F.2.1 dX0_straighten_2 rfl (lv_at hl 0 rfl) ?_
    refine lv_aload_n F.1 F.2.1 dX0_straighten_3 rfl (lv_at hl 1 rfl) ?_
    refine xg19 (v := v.1 19) F hI rfl dX0_straighten_4 ?_
    refine t_icmp_ge (tgt := 124) F (nI_toInt (by omega)) (nI_toInt (by omega)) dX0_straighten_7 (by decide) (fun b_7 => ?_) (fun b_7 => absurd b_7 (by omega))
    exact kk v H locs ls (sInv_end hs) hI
  | succ k ih =>
    intro h nn v H locs ls hk hs hI hl
    have hv19 := hs.2.2.1
    have hv14 := hs.1.1
    have hn3 := hs.2.1
    have hb8 := hs.2.2.2.2.1.1
    have hbh := hb8 h (by omega)
    refine lv_iload_n F.1 F.2.1 dX0_straighten_2 rfl (lv_at hl 0 rfl) ?_
    refine lv_aload_n F.1 F.2.1 dX0_straighten_3 rfl (lv_at hl 1 rfl) ?_
    refine xg19 (v := v.1 19) F hI rfl dX0_straighten_4 ?_
    refine t_icmp_ge (tgt := 124) F (nI_toInt (by omega)) (nI_toInt (by omega)) dX0_straighten_7 (by decide) (fun b_7 => absurd b_7 (by omega)) (fun b_7 => ?_)
    refine lv_aload_n F.1 F.2.1 dX0_straighten_10 rfl (lv_at hl 1 rfl) ?_
    refine xg20 F hI dX0_straighten_11 ?_
    refine lv_iload_n F.1 F.2.1 dX0_straighten_14 rfl (lv_at hl 0 rfl) ?_
    refine xl20 (x := v.2.1 20 h) F hI (by omega) rfl dX0_straighten_15 ?_
    refine lv_istore_n (lv' := [(2, .int (nI (v.2.1 20 h))), (1, .int (nI h)), (0, .ref (ad 0))]) F.1 F.2.1 dX0_straighten_16 rfl hl (by decide) rfl (fun ls hl => ?_)
    refine lv_iload_n F.1 F.2.1 dX0_straighten_17 rfl (lv_at hl 0 rfl) ?_
    refine lv_iload_n F.1 F.2.1 dX0_straighten_18 rfl (lv_at hl 1 rfl) ?_
    refine t_icmp_ne (tgt := 25) F (nI_toInt (by omega)) (nI_toInt (by omega)) dX0_straighten_19 (by decide) (fun b_19 => ?_) (fun b_19 => ?_)
    · refine lv_iconst (v := (-1)) F.1 F.2.1 dX0_straighten_25 (by decide) ?_
      refine lv_istore_n (lv' := [(3, .int (-1)), (2, .int (nI (v.2.1 20 h))), (1, .int (nI h)), (0, .ref (ad 0))]) F.1 F.2.1 dX0_straighten_26 rfl hl (by decide) rfl (fun ls hl => ?_)
      refine lv_iload_n F.1 F.2.1 dX0_straighten_27 rfl (lv_at hl 2 rfl) ?_
      refine lv_iconst (v := nI 1) F.1 F.2.1 dX0_straighten_28 (by decide) ?_
      refine n_iadd F dX0_straighten_29 ?_
      refine lv_istore (lv' := [(4, .int (nI (h + 1))), (3, .int (-1)), (2, .int (nI (v.2.1 20 h))), (1, .int (nI h)), (0, .ref (ad 0))]) F.1 F.2.1 dX0_straighten_30 hl (by decide) rfl (fun ls hl => ?_)
      refine str_in (v := v) (h := h) F hI (by omega) (fun i hi => hb8 i (by omega)) (by omega) (fun hv ls hi hl => ?_) (v.1 19 - (h + 1)) (h + 1) (-1) ls (by omega) (by omega) (Or.inl ⟨rfl, fun j h1 h2 => absurd h1 (by omega)⟩) (lv_sub hl [0, 1, 2, 3, 4] rfl)
      rcases hi with ⟨rfl, hno⟩ | ⟨k0, hk0, hkD, hkh, rfl⟩
      · have hfn : v.2.1 20 h ≠ h := by omega
        refine lv_iload_n F.1 F.2.1 dX0_straighten_61 rfl (lv_at hl 1 rfl) ?_
        refine t_if_lt (tgt := 102) F (show (-1 : Int32).toInt = -1 by decide) dX0_straighten_62 (by decide) (fun b_62 => ?_) (fun b_62 => absurd b_62 (by omega))
        refine lv_aload_n F.1 F.2.1 dX0_straighten_102 rfl (lv_at hl 4 rfl) ?_
        refine lv_iconst (v := nI 1) F.1 F.2.1 dX0_straighten_103 (by decide) ?_
        refine lv_iload_n F.1 F.2.1 dX0_straighten_104 rfl (lv_at hl 3 rfl) ?_
        refine lv_iload_n F.1 F.2.1 dX0_straighten_105 rfl (lv_at hl 2 rfl) ?_
        refine lv_iconst (v := nI 0) F.1 F.2.1 dX0_straighten_106 (by decide) ?_
        refine x_callv (n := 4) (rest := []) (av := [.int (nI 1), .int (nI h), .int (nI (v.2.1 20 h)), .int (nI 0)]) F hI (metX0_write l g ad d A v 1 h (v.2.1 20 h) (nI 0) (by omega) (by omega) (by omega) (show v.1 14 + 0 < 640 by omega)) (lw_V q146 q148 qs6 q25 q149) (by decide +kernel) ⟨hfr, hlo⟩ ⟨rfl, rfl⟩ hce rfl hl.1 rfl (Nat.le_of_ble_eq_true rfl) dX0_straighten_107 (fun u107 H locs hp107 hI => ?_)
        subst hp107
        refine lv_aload_n F.1 F.2.1 dX0_straighten_110 rfl (lv_at hl 4 rfl) ?_
        refine xg20 F hI dX0_straighten_111 ?_
        refine lv_iload_n F.1 F.2.1 dX0_straighten_114 rfl (lv_at hl 3 rfl) ?_
        refine lv_iload_n F.1 F.2.1 dX0_straighten_115 rfl (lv_at hl 3 rfl) ?_
        refine lv_i2b (v := nI h) F.1 F.2.1 dX0_straighten_116 (n_byte _ (by omega)) ?_
        refine xt20 F hI (by omega) (by omega) dX0_straighten_117 (fun H locs hI => ?_)
        refine lv_iinc (v := nI (h + 1)) (lv' := [(1, .int (nI (h + 1))), (4, .int (nI (v.1 19))), (3, .int (-1)), (2, .int (nI (v.2.1 20 h))), (0, .ref (ad 0))]) F.1 F.2.1 dX0_straighten_118 hl (k := 3) rfl (n_inc _) (by decide) rfl (fun ls hl => ?_)
        refine lv_goto (tgt := 2) F.1 F.2.1 dX0_straighten_121 (by decide) ?_
        exact ih (h + 1) (nn + 1) (xn (xwr v 1 h (v.2.1 20 h) (nI 0)) 20 h h) H locs ls (by omega) (sInv_copy hD hs (by omega) (fun j h1 h2 => hno j h1 (by omega)) (nI 0)) hI (lv_sub hl [0, 4] rfl)
      · have hfn : v.2.1 20 h ≠ h := by omega
        refine lv_iload_n F.1 F.2.1 dX0_straighten_61 rfl (lv_at hl 1 rfl) ?_
        refine t_if_lt (tgt := 102) F (nI_toInt (by omega)) dX0_straighten_62 (by decide) (fun b_62 => absurd b_62 (by omega)) (fun b_62 => ?_)
        refine lv_aload_n F.1 F.2.1 dX0_straighten_65 rfl (lv_at hl 4 rfl) ?_
        refine lv_iconst (v := nI 1) F.1 F.2.1 dX0_straighten_66 (by decide) ?_
        refine lv_bipush (v := nI 9) F.1 F.2.1 dX0_straighten_67 (by decide) ?_
        refine lv_iload_n F.1 F.2.1 dX0_straighten_69 rfl (lv_at hl 3 rfl) ?_
        refine lv_iconst (v := nI 0) F.1 F.2.1 dX0_straighten_70 (by decide) ?_
        refine x_callv (n := 4) (rest := []) (av := [.int (nI 1), .int (nI 9), .int (nI h), .int (nI 0)]) F hI (metX0_write l g ad d A v 1 9 h (nI 0) (by omega) (by omega) (by omega) (show v.1 14 + 0 < 640 by omega)) (lw_V q146 q148 qs6 q25 q149) (by decide +kernel) ⟨hfr, hlo⟩ ⟨rfl, rfl⟩ hce rfl hl.1 rfl (Nat.le_of_ble_eq_true rfl) dX0_straighten_71 (fun u71 H locs hp71 hI => ?_)
        subst hp71
        refine lv_aload_n F.1 F.2.1 dX0_straighten_74 rfl (lv_at hl 4 rfl) ?_
        refine lv_iconst (v := nI 1) F.1 F.2.1 dX0_straighten_75 (by decide) ?_
        refine lv_iload_n F.1 F.2.1 dX0_straighten_76 rfl (lv_at hl 3 rfl) ?_
        refine lv_iload_n F.1 F.2.1 dX0_straighten_77 rfl (lv_at hl 2 rfl) ?_
        refine lv_iconst (v := nI 0) F.1 F.2.1 dX0_straighten_78 (by decide) ?_
        refine x_callv (n := 4) (rest := []) (av := [.int (nI 1), .int (nI h), .int (nI (v.2.1 20 h)), .int (nI 0)]) F hI (metX0_write l g ad d A (xwr v 1 9 h (nI 0)) 1 h (v.2.1 20 h) (nI 0) (by omega) (by omega) (by omega) (show v.1 14 + 1 < 640 by omega)) (lw_V q146 q148 qs6 q25 q149) (by decide +kernel) ⟨hfr, hlo⟩ ⟨rfl, rfl⟩ hce rfl hl.1 rfl (Nat.le_of_ble_eq_true rfl) dX0_straighten_79 (fun u79 H locs hp79 hI => ?_)
        subst hp79
        refine lv_aload_n F.1 F.2.1 dX0_straighten_82 rfl (lv_at hl 4 rfl) ?_
        refine lv_iconst (v := nI 1) F.1 F.2.1 dX0_straighten_83 (by decide) ?_
        refine lv_iload_n F.1 F.2.1 dX0_straighten_84 rfl (lv_at hl 2 rfl) ?_
        refine lv_bipush (v := nI 9) F.1 F.2.1 dX0_straighten_85 (by decide) ?_
        refine lv_iconst (v := nI 0) F.1 F.2.1 dX0_straighten_87 (by decide) ?_
        refine x_callv (n := 4) (rest := []) (av := [.int (nI 1), .int (nI (v.2.1 20 h)), .int (nI 9), .int (nI 0)]) F hI (metX0_write l g ad d A (xwr (xwr v 1 9 h (nI 0)) 1 h (v.2.1 20 h) (nI 0)) 1 (v.2.1 20 h) 9 (nI 0) (by omega) (by omega) (by omega) (show v.1 14 + 2 < 640 by omega)) (lw_V q146 q148 qs6 q25 q149) (by decide +kernel) ⟨hfr, hlo⟩ ⟨rfl, rfl⟩ hce rfl hl.1 rfl (Nat.le_of_ble_eq_true rfl) dX0_straighten_88 (fun u88 H locs hp88 hI => ?_)
        subst hp88
        refine lv_aload_n F.1 F.2.1 dX0_straighten_91 rfl (lv_at hl 4 rfl) ?_
        refine xg20 F hI dX0_straighten_92 ?_
        refine lv_iload_n F.1 F.2.1 dX0_straighten_95 rfl (lv_at hl 1 rfl) ?_
        refine lv_iload_n F.1 F.2.1 dX0_straighten_96 rfl (lv_at hl 2 rfl) ?_
        refine lv_i2b (v := nI (v.2.1 20 h)) F.1 F.2.1 dX0_straighten_97 (n_byte _ (by omega)) ?_
        refine xt20 F hI (by omega) (by omega) dX0_straighten_98 (fun H locs hI => ?_)
        refine lv_goto (tgt := 110) F.1 F.2.1 dX0_straighten_99 (by decide) ?_
        refine lv_aload_n F.1 F.2.1 dX0_straighten_110 rfl (lv_at hl 4 rfl) ?_
        refine xg20 F hI dX0_straighten_111 ?_
        refine lv_iload_n F.1 F.2.1 dX0_straighten_114 rfl (lv_at hl 3 rfl) ?_
        refine lv_iload_n F.1 F.2.1 dX0_straighten_115 rfl (lv_at hl 3 rfl) ?_
        refine lv_i2b (v := nI h) F.1 F.2.1 dX0_straighten_116 (n_byte _ (by omega)) ?_
        refine xt20 F hI (by omega) (by omega) dX0_straighten_117 (fun H locs hI => ?_)
        refine lv_iinc (v := nI (h + 1)) (lv' := [(1, .int (nI (h + 1))), (4, .int (nI (v.1 19))), (3, .int (nI k0)), (2, .int (nI (v.2.1 20 h))), (0, .ref (ad 0))]) F.1 F.2.1 dX0_straighten_118 hl (k := 3) rfl (n_inc _) (by decide) rfl (fun ls hl => ?_)
        refine lv_goto (tgt := 2) F.1 F.2.1 dX0_straighten_121 (by decide) ?_
        exact ih (h + 1) (nn + 3) (xn (xn (xwr (xwr (xwr v 1 9 h (nI 0)) 1 h (v.2.1 20 h) (nI 0)) 1 (v.2.1 20 h) 9 (nI 0)) 20 k0 (v.2.1 20 h)) 20 h h) H locs ls (by omega) (sInv_swap hD hs hk0 (by omega) hkh hfn (nI 0)) hI (lv_sub hl [0, 4] rfl)
    · refine lv_goto (tgt := 118) F.1 F.2.1 dX0_straighten_22 (by decide) ?_
      refine lv_iinc (v := nI (h + 1)) (lv' := [(1, .int (nI (h + 1))), (2, .int (nI (v.2.1 20 h))), (0, .ref (ad 0))]) F.1 F.2.1 dX0_straighten_118 hl (k := 1) rfl (n_inc _) (by decide) rfl (fun ls hl => ?_)
      refine lv_goto (tgt := 2) F.1 F.2.1 dX0_straighten_121 (by decide) ?_
      exact ih (h + 1) nn v H locs ls (by omega) (sInv_skip hs (by omega)) hI (lv_sub hl [0, 2] rfl)
set_option maxHeartbeats 4000000 in
set_option maxRecDepth 100000 in
theorem metX0_straighten (l : Launch) (g : va_G) (ad : Nat → Nat) (d : Nat → ClassId) (A : Nat → Prop) (u : XS) (hD : u.1 19 ≤ 8) (hc : u.1 14 + 3 * u.1 19 ≤ 640) (hh : hOK (u.1 19) (u.2.1 20)) : Met l yX0_straighten (ws_ yX0_straighten cX0_straighten 5 none) ({ frames := 1, cells := 0, slots := 0, locals := 24 }) (xPc g ad d A u []) (xQv g ad d A (fun u2 => strR u u2)) 0 0 A := by
  refine x_met (by decide) rfl (Nat.le_of_ble_eq_true rfl) ?_
  intro p e s m below meth c ls F hr hlk hI hl
  have hl : lv_has ls 5 [(0, .ref (ad 0))] := hl
  refine lv_iconst (v := nI 0) F.1 F.2.1 dX0_straighten_0 (by decide) ?_
  refine lv_istore_n (lv' := [(1, .int (nI 0)), (0, .ref (ad 0))]) F.1 F.2.1 dX0_straighten_1 rfl hl (by decide) rfl (fun ls hl => ?_)
  refine str_out (u := u) F hD hc (Nat.le_of_ble_eq_true rfl) (Nat.le_of_ble_eq_true rfl) ⟨Nat.zero_le _, Nat.zero_le _⟩ (fun v H locs ls hv hI => ?_) (u.1 19) 0 0 u _ _ ls (by omega) (sInv_0 hh) hI (lv_sub hl [0, 1] rfl)
  exact x_retv F hr hlk hI (hv) dX0_straighten_124
end
section
set_option maxRecDepth 100000
set_option maxHeartbeats 4000000 in
set_option maxRecDepth 100000 in
theorem metX0_translateMove (l : Launch) (g : va_G) (ad : Nat → Nat) (d : Nat → ClassId) (A : Nat → Prop) (u : XS) (o k : Nat) (a : Int32) (ho : o ≤ 3) (hk : o = 0 ∨ a = nI k ∧ k ≤ 7) (h8 : u.1 19 ≤ 8) (hd : o = 3 → 1 ≤ u.1 19) (hu : o ≤ 2 → u.1 19 ≤ 7) (hp : o = 1 → k < u.1 19) (hc : u.1 14 < 640) (hh : hOK (u.1 19) (u.2.1 20)) : Met l yX0_translateMove (ws_ yX0_translateMove cX0_translateMove 4 none) ({ frames := 1, cells := 0, slots := 0, locals := 24 }) (xPc g ad d A u [.int (nI o), .int a]) (xQv g ad d A (fun u2 => tMv u u2 o k a)) 0 0 A := by
  refine x_met (by decide) rfl (Nat.le_of_ble_eq_true rfl) ?_
  intro p e s m below meth c ls F hr hlk hI hl
  have hl : lv_has ls 4 [(0, .ref (ad 0)), (1, .int (nI o)), (2, .int a)] := hl
  refine lv_iload_n F.1 F.2.1 dX0_translateMove_0 rfl (lv_at hl 1 rfl) ?_
  refine lv_iconst (v := nI 3) F.1 F.2.1 dX0_translateMove_1 (by decide) ?_
  refine t_icmp_ne (tgt := 33) F (nI_toInt (by omega)) (nI_toInt (by decide)) dX0_translateMove_2 (by decide) (fun b_2 => ?_) (fun b_2 => ?_)
  · refine lv_aload_n F.1 F.2.1 dX0_translateMove_33 rfl (lv_at hl 0 rfl) ?_
    refine x_calli (n := 0) (rest := []) (av := []) F hI (metX0_freeRegister l g ad d A u (hu (by omega)) hh.1) (lw_V q158 q160 qs9 q25 q161) (by decide +kernel) ⟨by decide, by decide⟩ ⟨rfl, rfl⟩ ⟨Nat.zero_le _, Nat.zero_le _⟩ rfl hl.1 rfl (Nat.le_of_ble_eq_true rfl) dX0_translateMove_34 (fun r34 u34 H locs hp34 hI => ?_)
    rw [hp34.1] at hI
    obtain ⟨q, hq7, hrq, hqn⟩ := hp34.2
    subst hrq
    refine lv_istore_n (lv' := [(3, .int (nI q)), (0, .ref (ad 0)), (1, .int (nI o)), (2, .int a)]) F.1 F.2.1 dX0_translateMove_37 rfl hl (by decide) rfl (fun ls hl => ?_)
    refine lv_iload_n F.1 F.2.1 dX0_translateMove_38 rfl (lv_at hl 2 rfl) ?_
    refine t_if_ne (tgt := 53) F (nI_toInt (by omega)) dX0_translateMove_39 (by decide) (fun b_39 => ?_) (fun b_39 => ?_)
    · refine lv_iload_n F.1 F.2.1 dX0_translateMove_53 rfl (lv_at hl 2 rfl) ?_
      refine lv_iconst (v := nI 1) F.1 F.2.1 dX0_translateMove_54 (by decide) ?_
      refine t_icmp_ne (tgt := 81) F (nI_toInt (by omega)) (nI_toInt (by decide)) dX0_translateMove_55 (by decide) (fun b_55 => ?_) (fun b_55 => ?_)
      · obtain ⟨rfl, hk7⟩ : a = nI k ∧ k ≤ 7 := hk.resolve_left (by omega)
        refine lv_aload_n F.1 F.2.1 dX0_translateMove_81 rfl (lv_at hl 1 rfl) ?_
        refine lv_iconst (v := nI 5) F.1 F.2.1 dX0_translateMove_82 (by decide) ?_
        refine lv_iload_n F.1 F.2.1 dX0_translateMove_83 rfl (lv_at hl 0 rfl) ?_
        refine lv_iload_n F.1 F.2.1 dX0_translateMove_84 rfl (lv_at hl 3 rfl) ?_
        refine lv_iconst (v := nI 0) F.1 F.2.1 dX0_translateMove_85 (by decide) ?_
        refine x_callv (n := 4) (rest := []) (av := [.int (nI 5), .int (nI q), .int (nI k), .int (nI 0)]) F hI (metX0_write l g ad d A u 5 q k (nI 0) (by omega) (by omega) (by omega) (show u.1 14 + 0 < 640 by omega)) (lw_V q146 q148 qs6 q25 q149) (by decide +kernel) ⟨by decide, by decide⟩ ⟨rfl, rfl⟩ ⟨Nat.zero_le _, Nat.zero_le _⟩ rfl hl.1 rfl (Nat.le_of_ble_eq_true rfl) dX0_translateMove_86 (fun u86 H locs hp86 hI => ?_)
        subst hp86
        refine lv_aload_n F.1 F.2.1 dX0_translateMove_89 rfl (lv_at hl 1 rfl) ?_
        refine xg20 F hI dX0_translateMove_90 ?_
        refine lv_aload_n F.1 F.2.1 dX0_translateMove_93 rfl (lv_at hl 1 rfl) ?_
        refine xg19 (v := u.1 19) F hI rfl dX0_translateMove_94 ?_
        refine lv_iload_n F.1 F.2.1 dX0_translateMove_97 rfl (lv_at hl 0 rfl) ?_
        refine lv_i2b (v := nI q) F.1 F.2.1 dX0_translateMove_98 (n_byte _ (by omega)) ?_
        refine xt20 F hI (by omega) (by omega) dX0_translateMove_99 (fun H locs hI => ?_)
        refine lv_aload_n F.1 F.2.1 dX0_translateMove_100 rfl (lv_at hl 1 rfl) ?_
        refine lv_dup F.1 F.2.1 dX0_translateMove_101 rfl ?_
        refine xg19 (v := u.1 19) F hI rfl dX0_translateMove_102 ?_
        refine lv_iconst (v := nI 1) F.1 F.2.1 dX0_translateMove_105 (by decide) ?_
        refine n_iadd F dX0_translateMove_106 ?_
        refine xp19 (v := (u.1 19) + 1) F hI dX0_translateMove_107 (fun H locs hI => ?_)
        exact x_retv F hr hlk hI (Or.inr ⟨q, hq7, hqn, Or.inr (Or.inr ⟨by omega, rfl⟩)⟩) dX0_translateMove_110
      · obtain ⟨rfl, hk7⟩ : a = nI k ∧ k ≤ 7 := hk.resolve_left (by omega)
        have ht8 := hh.1 (u.1 19 - 1 - k) (by have := hp (by omega); omega)
        refine lv_aload_n F.1 F.2.1 dX0_translateMove_58 rfl (lv_at hl 1 rfl) ?_
        refine lv_iconst (v := nI 1) F.1 F.2.1 dX0_translateMove_59 (by decide) ?_
        refine lv_iload_n F.1 F.2.1 dX0_translateMove_60 rfl (lv_at hl 0 rfl) ?_
        refine lv_aload_n F.1 F.2.1 dX0_translateMove_61 rfl (lv_at hl 1 rfl) ?_
        refine xg20 F hI dX0_translateMove_62 ?_
        refine lv_aload_n F.1 F.2.1 dX0_translateMove_65 rfl (lv_at hl 1 rfl) ?_
        refine xg19 (v := u.1 19) F hI rfl dX0_translateMove_66 ?_
        refine lv_iconst (v := nI 1) F.1 F.2.1 dX0_translateMove_69 (by decide) ?_
        refine n_isub F (by omega) dX0_translateMove_70 ?_
        refine lv_iload_n F.1 F.2.1 dX0_translateMove_71 rfl (lv_at hl 3 rfl) ?_
        refine n_isub F (by omega) dX0_translateMove_72 ?_
        refine xl20 (x := u.2.1 20 (((u.1 19) - 1) - k)) F hI (by omega) rfl dX0_translateMove_73 ?_
        refine lv_iconst (v := nI 0) F.1 F.2.1 dX0_translateMove_74 (by decide) ?_
        refine x_callv (n := 4) (rest := []) (av := [.int (nI 1), .int (nI q), .int (nI (u.2.1 20 (((u.1 19) - 1) - k))), .int (nI 0)]) F hI (metX0_write l g ad d A u 1 q (u.2.1 20 (((u.1 19) - 1) - k)) (nI 0) (by omega) (by omega) (by omega) (show u.1 14 + 0 < 640 by omega)) (lw_V q146 q148 qs6 q25 q149) (by decide +kernel) ⟨by decide, by decide⟩ ⟨rfl, rfl⟩ ⟨Nat.zero_le _, Nat.zero_le _⟩ rfl hl.1 rfl (Nat.le_of_ble_eq_true rfl) dX0_translateMove_75 (fun u75 H locs hp75 hI => ?_)
        subst hp75
        refine lv_goto (tgt := 89) F.1 F.2.1 dX0_translateMove_78 (by decide) ?_
        refine lv_aload_n F.1 F.2.1 dX0_translateMove_89 rfl (lv_at hl 1 rfl) ?_
        refine xg20 F hI dX0_translateMove_90 ?_
        refine lv_aload_n F.1 F.2.1 dX0_translateMove_93 rfl (lv_at hl 1 rfl) ?_
        refine xg19 (v := u.1 19) F hI rfl dX0_translateMove_94 ?_
        refine lv_iload_n F.1 F.2.1 dX0_translateMove_97 rfl (lv_at hl 0 rfl) ?_
        refine lv_i2b (v := nI q) F.1 F.2.1 dX0_translateMove_98 (n_byte _ (by omega)) ?_
        refine xt20 F hI (by omega) (by omega) dX0_translateMove_99 (fun H locs hI => ?_)
        refine lv_aload_n F.1 F.2.1 dX0_translateMove_100 rfl (lv_at hl 1 rfl) ?_
        refine lv_dup F.1 F.2.1 dX0_translateMove_101 rfl ?_
        refine xg19 (v := u.1 19) F hI rfl dX0_translateMove_102 ?_
        refine lv_iconst (v := nI 1) F.1 F.2.1 dX0_translateMove_105 (by decide) ?_
        refine n_iadd F dX0_translateMove_106 ?_
        refine xp19 (v := (u.1 19) + 1) F hI dX0_translateMove_107 (fun H locs hI => ?_)
        exact x_retv F hr hlk hI (Or.inr ⟨q, hq7, hqn, Or.inr (Or.inl ⟨by omega, rfl⟩)⟩) dX0_translateMove_110
    · refine lv_aload_n F.1 F.2.1 dX0_translateMove_42 rfl (lv_at hl 1 rfl) ?_
      refine lv_iconst (v := nI 0) F.1 F.2.1 dX0_translateMove_43 (by decide) ?_
      refine lv_iload_n F.1 F.2.1 dX0_translateMove_44 rfl (lv_at hl 0 rfl) ?_
      refine lv_iconst (v := nI 0) F.1 F.2.1 dX0_translateMove_45 (by decide) ?_
      refine lv_iload_n F.1 F.2.1 dX0_translateMove_46 rfl (lv_at hl 3 rfl) ?_
      refine x_callv (n := 4) (rest := []) (av := [.int (nI 0), .int (nI q), .int (nI 0), .int a]) F hI (metX0_write l g ad d A u 0 q 0 a (by omega) (by omega) (by omega) (show u.1 14 + 0 < 640 by omega)) (lw_V q146 q148 qs6 q25 q149) (by decide +kernel) ⟨by decide, by decide⟩ ⟨rfl, rfl⟩ ⟨Nat.zero_le _, Nat.zero_le _⟩ rfl hl.1 rfl (Nat.le_of_ble_eq_true rfl) dX0_translateMove_47 (fun u47 H locs hp47 hI => ?_)
      subst hp47
      refine lv_goto (tgt := 89) F.1 F.2.1 dX0_translateMove_50 (by decide) ?_
      refine lv_aload_n F.1 F.2.1 dX0_translateMove_89 rfl (lv_at hl 1 rfl) ?_
      refine xg20 F hI dX0_translateMove_90 ?_
      refine lv_aload_n F.1 F.2.1 dX0_translateMove_93 rfl (lv_at hl 1 rfl) ?_
      refine xg19 (v := u.1 19) F hI rfl dX0_translateMove_94 ?_
      refine lv_iload_n F.1 F.2.1 dX0_translateMove_97 rfl (lv_at hl 0 rfl) ?_
      refine lv_i2b (v := nI q) F.1 F.2.1 dX0_translateMove_98 (n_byte _ (by omega)) ?_
      refine xt20 F hI (by omega) (by omega) dX0_translateMove_99 (fun H locs hI => ?_)
      refine lv_aload_n F.1 F.2.1 dX0_translateMove_100 rfl (lv_at hl 1 rfl) ?_
      refine lv_dup F.1 F.2.1 dX0_translateMove_101 rfl ?_
      refine xg19 (v := u.1 19) F hI rfl dX0_translateMove_102 ?_
      refine lv_iconst (v := nI 1) F.1 F.2.1 dX0_translateMove_105 (by decide) ?_
      refine n_iadd F dX0_translateMove_106 ?_
      refine xp19 (v := (u.1 19) + 1) F hI dX0_translateMove_107 (fun H locs hI => ?_)
      exact x_retv F hr hlk hI (Or.inr ⟨q, hq7, hqn, Or.inl ⟨by omega, rfl⟩⟩) dX0_translateMove_110
  · obtain ⟨rfl, hk7⟩ : a = nI k ∧ k ≤ 7 := hk.resolve_left (by omega)
    have ht8 := hh.1 (u.1 19 - 1) (by have := hd (by omega); omega)
    refine lv_aload_n F.1 F.2.1 dX0_translateMove_5 rfl (lv_at hl 0 rfl) ?_
    refine lv_dup F.1 F.2.1 dX0_translateMove_6 rfl ?_
    refine xg19 (v := u.1 19) F hI rfl dX0_translateMove_7 ?_
    refine lv_iconst (v := nI 1) F.1 F.2.1 dX0_translateMove_10 (by decide) ?_
    refine n_isub F (by omega) dX0_translateMove_11 ?_
    refine xp19 (v := (u.1 19) - 1) F hI dX0_translateMove_12 (fun H locs hI => ?_)
    refine lv_aload_n F.1 F.2.1 dX0_translateMove_15 rfl (lv_at hl 0 rfl) ?_
    refine lv_bipush (v := nI 6) F.1 F.2.1 dX0_translateMove_16 (by decide) ?_
    refine lv_iload_n F.1 F.2.1 dX0_translateMove_18 rfl (lv_at hl 2 rfl) ?_
    refine lv_aload_n F.1 F.2.1 dX0_translateMove_19 rfl (lv_at hl 0 rfl) ?_
    refine xg20 F hI dX0_translateMove_20 ?_
    refine lv_aload_n F.1 F.2.1 dX0_translateMove_23 rfl (lv_at hl 0 rfl) ?_
    refine xg19 (v := (u.1 19) - 1) F hI rfl dX0_translateMove_24 ?_
    refine xl20 (x := u.2.1 20 ((u.1 19) - 1)) F hI (by omega) rfl dX0_translateMove_27 ?_
    refine lv_iconst (v := nI 0) F.1 F.2.1 dX0_translateMove_28 (by decide) ?_
    refine x_callv (n := 4) (rest := []) (av := [.int (nI 6), .int (nI k), .int (nI (u.2.1 20 ((u.1 19) - 1))), .int (nI 0)]) F hI (metX0_write l g ad d A (xs u 19 ((u.1 19) - 1)) 6 k (u.2.1 20 ((u.1 19) - 1)) (nI 0) (by omega) (by omega) (by omega) (show u.1 14 + 0 < 640 by omega)) (lw_V q146 q148 qs6 q25 q149) (by decide +kernel) ⟨by decide, by decide⟩ ⟨rfl, rfl⟩ ⟨Nat.zero_le _, Nat.zero_le _⟩ rfl hl.1 rfl (Nat.le_of_ble_eq_true rfl) dX0_translateMove_29 (fun u29 H locs hp29 hI => ?_)
    subst hp29
    exact x_retv F hr hlk hI (Or.inl ⟨by omega, rfl⟩) dX0_translateMove_32
set_option maxHeartbeats 4000000 in
set_option maxRecDepth 100000 in
theorem metX0_translateCombine (l : Launch) (g : va_G) (ad : Nat → Nat) (d : Nat → ClassId) (A : Nat → Prop) (u : XS) (o k : Nat) (ho : 4 ≤ o) (ho9 : o ≤ 9) (hk : k < u.1 19) (h8 : u.1 19 ≤ 8) (hc : u.1 14 < 640) (hh : hOK (u.1 19) (u.2.1 20)) : Met l yX0_translateCombine (ws_ yX0_translateCombine cX0_translateCombine 5 none) ({ frames := 1, cells := 0, slots := 0, locals := 24 }) (xPc g ad d A u [.int (nI o), .int (nI k)]) (xQv g ad d A (fun u2 => u2 = tCb o k u)) 0 0 A := by
  refine x_met (by decide) rfl (Nat.le_of_ble_eq_true rfl) ?_
  intro p e s m below meth c ls F hr hlk hI hl
  have hl : lv_has ls 5 [(0, .ref (ad 0)), (1, .int (nI o)), (2, .int (nI k))] := hl
  have ht8 := hh.1 (u.1 19 - 1) (by omega)
  have hq8 := hh.1 (u.1 19 - 1 - k) (by omega)
  refine lv_aload_n F.1 F.2.1 dX0_translateCombine_0 rfl (lv_at hl 0 rfl) ?_
  refine xg20 F hI dX0_translateCombine_1 ?_
  refine lv_aload_n F.1 F.2.1 dX0_translateCombine_4 rfl (lv_at hl 0 rfl) ?_
  refine xg19 (v := u.1 19) F hI rfl dX0_translateCombine_5 ?_
  refine lv_iconst (v := nI 1) F.1 F.2.1 dX0_translateCombine_8 (by decide) ?_
  refine n_isub F (by omega) dX0_translateCombine_9 ?_
  refine xl20 (x := u.2.1 20 ((u.1 19) - 1)) F hI (by omega) rfl dX0_translateCombine_10 ?_
  refine lv_istore_n (lv' := [(3, .int (nI (u.2.1 20 ((u.1 19) - 1)))), (0, .ref (ad 0)), (1, .int (nI o)), (2, .int (nI k))]) F.1 F.2.1 dX0_translateCombine_11 rfl hl (by decide) rfl (fun ls hl => ?_)
  refine lv_aload_n F.1 F.2.1 dX0_translateCombine_12 rfl (lv_at hl 1 rfl) ?_
  refine xg20 F hI dX0_translateCombine_13 ?_
  refine lv_aload_n F.1 F.2.1 dX0_translateCombine_16 rfl (lv_at hl 1 rfl) ?_
  refine xg19 (v := u.1 19) F hI rfl dX0_translateCombine_17 ?_
  refine lv_iconst (v := nI 1) F.1 F.2.1 dX0_translateCombine_20 (by decide) ?_
  refine n_isub F (by omega) dX0_translateCombine_21 ?_
  refine lv_iload_n F.1 F.2.1 dX0_translateCombine_22 rfl (lv_at hl 3 rfl) ?_
  refine n_isub F (by omega) dX0_translateCombine_23 ?_
  refine xl20 (x := u.2.1 20 (((u.1 19) - 1) - k)) F hI (by omega) rfl dX0_translateCombine_24 ?_
  refine lv_istore (lv' := [(4, .int (nI (u.2.1 20 (((u.1 19) - 1) - k)))), (3, .int (nI (u.2.1 20 ((u.1 19) - 1)))), (0, .ref (ad 0)), (1, .int (nI o)), (2, .int (nI k))]) F.1 F.2.1 dX0_translateCombine_25 hl (by decide) rfl (fun ls hl => ?_)
  refine lv_iload_n F.1 F.2.1 dX0_translateCombine_27 rfl (lv_at hl 3 rfl) ?_
  refine lv_iconst (v := nI 4) F.1 F.2.1 dX0_translateCombine_28 (by decide) ?_
  refine t_icmp_ne (tgt := 64) F (nI_toInt (by omega)) (nI_toInt (by decide)) dX0_translateCombine_29 (by decide) (fun b_29 => ?_) (fun b_29 => ?_)
  · refine lv_iload_n F.1 F.2.1 dX0_translateCombine_64 rfl (lv_at hl 3 rfl) ?_
    refine lv_iconst (v := nI 5) F.1 F.2.1 dX0_translateCombine_65 (by decide) ?_
    refine t_icmp_ne (tgt := 81) F (nI_toInt (by omega)) (nI_toInt (by decide)) dX0_translateCombine_66 (by decide) (fun b_66 => ?_) (fun b_66 => ?_)
    · refine lv_iload_n F.1 F.2.1 dX0_translateCombine_81 rfl (lv_at hl 3 rfl) ?_
      refine lv_bipush (v := nI 6) F.1 F.2.1 dX0_translateCombine_82 (by decide) ?_
      refine t_icmp_ne (tgt := 99) F (nI_toInt (by omega)) (nI_toInt (by decide)) dX0_translateCombine_84 (by decide) (fun b_84 => ?_) (fun b_84 => ?_)
      · refine lv_iload_n F.1 F.2.1 dX0_translateCombine_99 rfl (lv_at hl 3 rfl) ?_
        refine lv_bipush (v := nI 7) F.1 F.2.1 dX0_translateCombine_100 (by decide) ?_
        refine t_icmp_ne (tgt := 117) F (nI_toInt (by omega)) (nI_toInt (by decide)) dX0_translateCombine_102 (by decide) (fun b_102 => ?_) (fun b_102 => ?_)
        · refine lv_aload_n F.1 F.2.1 dX0_translateCombine_117 rfl (lv_at hl 2 rfl) ?_
          refine lv_iload_n F.1 F.2.1 dX0_translateCombine_118 rfl (lv_at hl 3 rfl) ?_
          refine lv_bipush (v := nI 8) F.1 F.2.1 dX0_translateCombine_119 (by decide) ?_
          refine t_icmp_ne (tgt := 128) F (nI_toInt (by omega)) (nI_toInt (by decide)) dX0_translateCombine_121 (by decide) (fun b_121 => ?_) (fun b_121 => ?_)
          · refine lv_iconst (v := nI 3) F.1 F.2.1 dX0_translateCombine_128 (by decide) ?_
            refine lv_iload F.1 F.2.1 dX0_translateCombine_129 (lv_at hl 0 rfl) ?_
            refine lv_iload F.1 F.2.1 dX0_translateCombine_131 (lv_at hl 0 rfl) ?_
            refine lv_iload_n F.1 F.2.1 dX0_translateCombine_133 rfl (lv_at hl 1 rfl) ?_
            refine x_callv (n := 4) (rest := []) (av := [.int (nI 3), .int (nI (u.2.1 20 (((u.1 19) - 1) - k))), .int (nI (u.2.1 20 (((u.1 19) - 1) - k))), .int (nI (u.2.1 20 ((u.1 19) - 1)))]) F hI (metX0_write l g ad d A u 3 (u.2.1 20 (((u.1 19) - 1) - k)) (u.2.1 20 (((u.1 19) - 1) - k)) (nI (u.2.1 20 ((u.1 19) - 1))) (by omega) (by omega) (by omega) (show u.1 14 + 0 < 640 by omega)) (lw_V q146 q148 qs6 q25 q149) (by decide +kernel) ⟨by decide, by decide⟩ ⟨rfl, rfl⟩ ⟨Nat.zero_le _, Nat.zero_le _⟩ rfl hl.1 rfl (Nat.le_of_ble_eq_true rfl) dX0_translateCombine_134 (fun u134 H locs hp134 hI => ?_)
            subst hp134
            refine lv_aload_n F.1 F.2.1 dX0_translateCombine_137 rfl (lv_at hl 2 rfl) ?_
            refine lv_dup F.1 F.2.1 dX0_translateCombine_138 rfl ?_
            refine xg19 (v := u.1 19) F hI rfl dX0_translateCombine_139 ?_
            refine lv_iconst (v := nI 1) F.1 F.2.1 dX0_translateCombine_142 (by decide) ?_
            refine n_isub F (by omega) dX0_translateCombine_143 ?_
            refine xp19 (v := (u.1 19) - 1) F hI dX0_translateCombine_144 (fun H locs hI => ?_)
            exact x_retv F hr hlk hI (by unfold tCb; rw [if_neg (show ¬ o = 4 by omega), if_neg (show ¬ o = 5 by omega), if_neg (show ¬ o = 6 by omega), if_neg (show ¬ o = 7 by omega), if_neg (show ¬ o = 8 by omega)]) dX0_translateCombine_147
          · refine lv_iconst (v := nI 2) F.1 F.2.1 dX0_translateCombine_124 (by decide) ?_
            refine lv_goto (tgt := 129) F.1 F.2.1 dX0_translateCombine_125 (by decide) ?_
            refine lv_iload F.1 F.2.1 dX0_translateCombine_129 (lv_at hl 0 rfl) ?_
            refine lv_iload F.1 F.2.1 dX0_translateCombine_131 (lv_at hl 0 rfl) ?_
            refine lv_iload_n F.1 F.2.1 dX0_translateCombine_133 rfl (lv_at hl 1 rfl) ?_
            refine x_callv (n := 4) (rest := []) (av := [.int (nI 2), .int (nI (u.2.1 20 (((u.1 19) - 1) - k))), .int (nI (u.2.1 20 (((u.1 19) - 1) - k))), .int (nI (u.2.1 20 ((u.1 19) - 1)))]) F hI (metX0_write l g ad d A u 2 (u.2.1 20 (((u.1 19) - 1) - k)) (u.2.1 20 (((u.1 19) - 1) - k)) (nI (u.2.1 20 ((u.1 19) - 1))) (by omega) (by omega) (by omega) (show u.1 14 + 0 < 640 by omega)) (lw_V q146 q148 qs6 q25 q149) (by decide +kernel) ⟨by decide, by decide⟩ ⟨rfl, rfl⟩ ⟨Nat.zero_le _, Nat.zero_le _⟩ rfl hl.1 rfl (Nat.le_of_ble_eq_true rfl) dX0_translateCombine_134 (fun u134 H locs hp134 hI => ?_)
            subst hp134
            refine lv_aload_n F.1 F.2.1 dX0_translateCombine_137 rfl (lv_at hl 2 rfl) ?_
            refine lv_dup F.1 F.2.1 dX0_translateCombine_138 rfl ?_
            refine xg19 (v := u.1 19) F hI rfl dX0_translateCombine_139 ?_
            refine lv_iconst (v := nI 1) F.1 F.2.1 dX0_translateCombine_142 (by decide) ?_
            refine n_isub F (by omega) dX0_translateCombine_143 ?_
            refine xp19 (v := (u.1 19) - 1) F hI dX0_translateCombine_144 (fun H locs hI => ?_)
            exact x_retv F hr hlk hI (by unfold tCb; rw [if_neg (show ¬ o = 4 by omega), if_neg (show ¬ o = 5 by omega), if_neg (show ¬ o = 6 by omega), if_neg (show ¬ o = 7 by omega), if_pos (show o = 8 by omega)]) dX0_translateCombine_147
        · refine lv_aload_n F.1 F.2.1 dX0_translateCombine_105 rfl (lv_at hl 2 rfl) ?_
          refine lv_iconst (v := nI 4) F.1 F.2.1 dX0_translateCombine_106 (by decide) ?_
          refine lv_iload_n F.1 F.2.1 dX0_translateCombine_107 rfl (lv_at hl 1 rfl) ?_
          refine lv_iload_n F.1 F.2.1 dX0_translateCombine_108 rfl (lv_at hl 1 rfl) ?_
          refine lv_iload F.1 F.2.1 dX0_translateCombine_109 (lv_at hl 0 rfl) ?_
          refine x_callv (n := 4) (rest := []) (av := [.int (nI 4), .int (nI (u.2.1 20 ((u.1 19) - 1))), .int (nI (u.2.1 20 ((u.1 19) - 1))), .int (nI (u.2.1 20 (((u.1 19) - 1) - k)))]) F hI (metX0_write l g ad d A u 4 (u.2.1 20 ((u.1 19) - 1)) (u.2.1 20 ((u.1 19) - 1)) (nI (u.2.1 20 (((u.1 19) - 1) - k))) (by omega) (by omega) (by omega) (show u.1 14 + 0 < 640 by omega)) (lw_V q146 q148 qs6 q25 q149) (by decide +kernel) ⟨by decide, by decide⟩ ⟨rfl, rfl⟩ ⟨Nat.zero_le _, Nat.zero_le _⟩ rfl hl.1 rfl (Nat.le_of_ble_eq_true rfl) dX0_translateCombine_111 (fun u111 H locs hp111 hI => ?_)
          subst hp111
          refine lv_goto (tgt := 147) F.1 F.2.1 dX0_translateCombine_114 (by decide) ?_
          exact x_retv F hr hlk hI (by unfold tCb; rw [if_neg (show ¬ o = 4 by omega), if_neg (show ¬ o = 5 by omega), if_neg (show ¬ o = 6 by omega), if_pos (show o = 7 by omega)]) dX0_translateCombine_147
      · refine lv_aload_n F.1 F.2.1 dX0_translateCombine_87 rfl (lv_at hl 2 rfl) ?_
        refine lv_iconst (v := nI 3) F.1 F.2.1 dX0_translateCombine_88 (by decide) ?_
        refine lv_iload_n F.1 F.2.1 dX0_translateCombine_89 rfl (lv_at hl 1 rfl) ?_
        refine lv_iload_n F.1 F.2.1 dX0_translateCombine_90 rfl (lv_at hl 1 rfl) ?_
        refine lv_iload F.1 F.2.1 dX0_translateCombine_91 (lv_at hl 0 rfl) ?_
        refine x_callv (n := 4) (rest := []) (av := [.int (nI 3), .int (nI (u.2.1 20 ((u.1 19) - 1))), .int (nI (u.2.1 20 ((u.1 19) - 1))), .int (nI (u.2.1 20 (((u.1 19) - 1) - k)))]) F hI (metX0_write l g ad d A u 3 (u.2.1 20 ((u.1 19) - 1)) (u.2.1 20 ((u.1 19) - 1)) (nI (u.2.1 20 (((u.1 19) - 1) - k))) (by omega) (by omega) (by omega) (show u.1 14 + 0 < 640 by omega)) (lw_V q146 q148 qs6 q25 q149) (by decide +kernel) ⟨by decide, by decide⟩ ⟨rfl, rfl⟩ ⟨Nat.zero_le _, Nat.zero_le _⟩ rfl hl.1 rfl (Nat.le_of_ble_eq_true rfl) dX0_translateCombine_93 (fun u93 H locs hp93 hI => ?_)
        subst hp93
        refine lv_goto (tgt := 147) F.1 F.2.1 dX0_translateCombine_96 (by decide) ?_
        exact x_retv F hr hlk hI (by unfold tCb; rw [if_neg (show ¬ o = 4 by omega), if_neg (show ¬ o = 5 by omega), if_pos (show o = 6 by omega)]) dX0_translateCombine_147
    · refine lv_aload_n F.1 F.2.1 dX0_translateCombine_69 rfl (lv_at hl 2 rfl) ?_
      refine lv_iconst (v := nI 2) F.1 F.2.1 dX0_translateCombine_70 (by decide) ?_
      refine lv_iload_n F.1 F.2.1 dX0_translateCombine_71 rfl (lv_at hl 1 rfl) ?_
      refine lv_iload_n F.1 F.2.1 dX0_translateCombine_72 rfl (lv_at hl 1 rfl) ?_
      refine lv_iload F.1 F.2.1 dX0_translateCombine_73 (lv_at hl 0 rfl) ?_
      refine x_callv (n := 4) (rest := []) (av := [.int (nI 2), .int (nI (u.2.1 20 ((u.1 19) - 1))), .int (nI (u.2.1 20 ((u.1 19) - 1))), .int (nI (u.2.1 20 (((u.1 19) - 1) - k)))]) F hI (metX0_write l g ad d A u 2 (u.2.1 20 ((u.1 19) - 1)) (u.2.1 20 ((u.1 19) - 1)) (nI (u.2.1 20 (((u.1 19) - 1) - k))) (by omega) (by omega) (by omega) (show u.1 14 + 0 < 640 by omega)) (lw_V q146 q148 qs6 q25 q149) (by decide +kernel) ⟨by decide, by decide⟩ ⟨rfl, rfl⟩ ⟨Nat.zero_le _, Nat.zero_le _⟩ rfl hl.1 rfl (Nat.le_of_ble_eq_true rfl) dX0_translateCombine_75 (fun u75 H locs hp75 hI => ?_)
      subst hp75
      refine lv_goto (tgt := 147) F.1 F.2.1 dX0_translateCombine_78 (by decide) ?_
      exact x_retv F hr hlk hI (by unfold tCb; rw [if_neg (show ¬ o = 4 by omega), if_pos (show o = 5 by omega)]) dX0_translateCombine_147
  · refine lv_aload_n F.1 F.2.1 dX0_translateCombine_32 rfl (lv_at hl 2 rfl) ?_
    refine xg20 F hI dX0_translateCombine_33 ?_
    refine lv_aload_n F.1 F.2.1 dX0_translateCombine_36 rfl (lv_at hl 2 rfl) ?_
    refine xg19 (v := u.1 19) F hI rfl dX0_translateCombine_37 ?_
    refine lv_iconst (v := nI 1) F.1 F.2.1 dX0_translateCombine_40 (by decide) ?_
    refine n_isub F (by omega) dX0_translateCombine_41 ?_
    refine lv_iload F.1 F.2.1 dX0_translateCombine_42 (lv_at hl 0 rfl) ?_
    refine lv_i2b (v := nI (u.2.1 20 (((u.1 19) - 1) - k))) F.1 F.2.1 dX0_translateCombine_44 (n_byte _ (by omega)) ?_
    refine xt20 F hI (by omega) (by omega) dX0_translateCombine_45 (fun H locs hI => ?_)
    refine lv_aload_n F.1 F.2.1 dX0_translateCombine_46 rfl (lv_at hl 2 rfl) ?_
    refine xg20 F hI dX0_translateCombine_47 ?_
    refine lv_aload_n F.1 F.2.1 dX0_translateCombine_50 rfl (lv_at hl 2 rfl) ?_
    refine xg19 (v := u.1 19) F hI rfl dX0_translateCombine_51 ?_
    refine lv_iconst (v := nI 1) F.1 F.2.1 dX0_translateCombine_54 (by decide) ?_
    refine n_isub F (by omega) dX0_translateCombine_55 ?_
    refine lv_iload_n F.1 F.2.1 dX0_translateCombine_56 rfl (lv_at hl 4 rfl) ?_
    refine n_isub F (by omega) dX0_translateCombine_57 ?_
    refine lv_iload_n F.1 F.2.1 dX0_translateCombine_58 rfl (lv_at hl 1 rfl) ?_
    refine lv_i2b (v := nI (u.2.1 20 ((u.1 19) - 1))) F.1 F.2.1 dX0_translateCombine_59 (n_byte _ (by omega)) ?_
    refine xt20 F hI (by omega) (by omega) dX0_translateCombine_60 (fun H locs hI => ?_)
    refine lv_goto (tgt := 147) F.1 F.2.1 dX0_translateCombine_61 (by decide) ?_
    exact x_retv F hr hlk hI (by unfold tCb; rw [if_pos (show o = 4 by omega)]) dX0_translateCombine_147
set_option maxHeartbeats 4000000 in
set_option maxRecDepth 100000 in
theorem metX0_translateOne (l : Launch) (g : va_G) (ad : Nat → Nat) (d : Nat → ClassId) (A : Nat → Prop) (u : XS) (pp : Nat) (hpp : pp < u.1 0) (hL : u.1 0 ≤ 32) (hv : vOK (u.2.1 1 pp) (u.2.2 2 pp)) (hf : ¬ fl (u.2.1 1 pp) (u.2.2 2 pp) (u.1 19)) (h8 : u.1 19 ≤ 8) (hc : u.1 14 + 26 ≤ 640) (hh : hOK (u.1 19) (u.2.1 20)) : Met l yX0_translateOne (ws_ yX0_translateOne cX0_translateOne 4 (some .boolean)) ({ frames := 2, cells := 0, slots := 0, locals := 48 }) (xPc g ad d A u [.int (nI pp)]) (xQi g ad d A (fun r u2 => tOne u pp (u.2.1 1 pp) (u.2.2 2 pp).toNatClampNeg (u.2.2 2 pp) r u2)) 0 0 A := by
  refine x_met (by decide) rfl (Nat.le_of_ble_eq_true rfl) ?_
  intro p e s m below meth c ls F hr hlk hI hl
  have hl : lv_has ls 4 [(0, .ref (ad 0)), (1, .int (nI pp))] := hl
  have h13 := hv.1
  obtain ⟨n1, n2, n3, n4⟩ := nofl hv hf h8
  obtain ⟨k, hkd⟩ : ∃ k : Nat, k = (u.2.2 2 pp).toNatClampNeg := ⟨_, rfl⟩
  rw [← hkd] at n3 n4 ⊢
  have hka : u.2.1 1 pp ≠ 0 → u.2.1 1 pp ≠ 13 → u.2.2 2 pp = nI k ∧ k ≤ 31 ∧ (u.2.1 1 pp ≤ 9 → k ≤ 7) := fun h1 h2 => by obtain ⟨k2, a1, a2, a3, -, a5, -⟩ := vOK_k hv h1 h2; rw [hkd, a5]; exact ⟨a1, a2, a3⟩
  have hk0 : u.2.1 1 pp ≤ 3 → u.2.1 1 pp = 0 ∨ u.2.2 2 pp = nI k ∧ k ≤ 7 := fun h => (Nat.eq_zero_or_pos (u.2.1 1 pp)).imp (fun q => q) (fun q => ⟨(hka (by omega) (by omega)).1, (hka (by omega) (by omega)).2.2 (by omega)⟩)
  refine lv_aload_n F.1 F.2.1 dX0_translateOne_0 rfl (lv_at hl 0 rfl) ?_
  refine xg1 F hI dX0_translateOne_1 ?_
  refine lv_iload_n F.1 F.2.1 dX0_translateOne_4 rfl (lv_at hl 1 rfl) ?_
  refine xl1 (x := u.2.1 1 pp) F hI (by omega) rfl dX0_translateOne_5 ?_
  refine lv_istore_n (lv' := [(2, .int (nI (u.2.1 1 pp))), (0, .ref (ad 0)), (1, .int (nI pp))]) F.1 F.2.1 dX0_translateOne_6 rfl hl (by decide) rfl (fun ls hl => ?_)
  refine lv_aload_n F.1 F.2.1 dX0_translateOne_7 rfl (lv_at hl 1 rfl) ?_
  refine xg2 F hI dX0_translateOne_8 ?_
  refine lv_iload_n F.1 F.2.1 dX0_translateOne_11 rfl (lv_at hl 2 rfl) ?_
  refine xl2 (x := u.2.2 2 pp) F hI (by omega) rfl dX0_translateOne_12 ?_
  refine lv_istore_n (lv' := [(3, .int (u.2.2 2 pp)), (2, .int (nI (u.2.1 1 pp))), (0, .ref (ad 0)), (1, .int (nI pp))]) F.1 F.2.1 dX0_translateOne_13 rfl hl (by decide) rfl (fun ls hl => ?_)
  refine lv_iload_n F.1 F.2.1 dX0_translateOne_14 rfl (lv_at hl 1 rfl) ?_
  refine lv_bipush (v := nI 10) F.1 F.2.1 dX0_translateOne_15 (by decide) ?_
  refine t_icmp_eq (tgt := 26) F (nI_toInt (by omega)) (nI_toInt (by decide)) dX0_translateOne_17 (by decide) (fun b_17 => ?_) (fun b_17 => ?_)
  · have hD1 : 1 ≤ u.1 19 := n2 (by omega)
    have ht8 := hh.1 (u.1 19 - 1) (by omega)
    refine lv_aload_n F.1 F.2.1 dX0_translateOne_26 rfl (lv_at hl 2 rfl) ?_
    refine lv_dup F.1 F.2.1 dX0_translateOne_27 rfl ?_
    refine xg19 (v := u.1 19) F hI rfl dX0_translateOne_28 ?_
    refine lv_iconst (v := nI 1) F.1 F.2.1 dX0_translateOne_31 (by decide) ?_
    refine n_isub F (by omega) dX0_translateOne_32 ?_
    refine xp19 (v := (u.1 19) - 1) F hI dX0_translateOne_33 (fun H locs hI => ?_)
    refine lv_aload_n F.1 F.2.1 dX0_translateOne_36 rfl (lv_at hl 2 rfl) ?_
    refine lv_iconst (v := nI 1) F.1 F.2.1 dX0_translateOne_37 (by decide) ?_
    refine lv_bipush (v := nI 8) F.1 F.2.1 dX0_translateOne_38 (by decide) ?_
    refine lv_aload_n F.1 F.2.1 dX0_translateOne_40 rfl (lv_at hl 2 rfl) ?_
    refine xg20 F hI dX0_translateOne_41 ?_
    refine lv_aload_n F.1 F.2.1 dX0_translateOne_44 rfl (lv_at hl 2 rfl) ?_
    refine xg19 (v := (u.1 19) - 1) F hI rfl dX0_translateOne_45 ?_
    refine xl20 (x := u.2.1 20 ((u.1 19) - 1)) F hI (by omega) rfl dX0_translateOne_48 ?_
    refine lv_iconst (v := nI 0) F.1 F.2.1 dX0_translateOne_49 (by decide) ?_
    refine x_callv (n := 4) (rest := []) (av := [.int (nI 1), .int (nI 8), .int (nI (u.2.1 20 ((u.1 19) - 1))), .int (nI 0)]) F hI (metX0_write l g ad d A (xs u 19 ((u.1 19) - 1)) 1 8 (u.2.1 20 ((u.1 19) - 1)) (nI 0) (by omega) (by omega) (by omega) (show u.1 14 + 0 < 640 by omega)) (lw_V q146 q148 qs6 q25 q149) (by decide +kernel) ⟨by decide, by decide⟩ ⟨rfl, rfl⟩ ⟨Nat.zero_le _, Nat.zero_le _⟩ rfl hl.1 rfl (Nat.le_of_ble_eq_true rfl) dX0_translateOne_50 (fun u50 H locs hp50 hI => ?_)
    subst hp50
    refine lv_aload_n F.1 F.2.1 dX0_translateOne_53 rfl (lv_at hl 2 rfl) ?_
    refine x_callv (n := 0) (rest := []) (av := []) F hI (metX0_straighten l g ad d A (xwr (xs u 19 ((u.1 19) - 1)) 1 8 (u.2.1 20 ((u.1 19) - 1)) (nI 0)) (show (u.1 19) - 1 ≤ 8 by omega) (show u.1 14 + 1 + 3 * ((u.1 19) - 1) ≤ 640 by omega) (hh.less (Nat.sub_le _ _))) (lw_V q142 q144 qs5 q25 q145) (by decide +kernel) ⟨by decide, by decide⟩ ⟨rfl, rfl⟩ ⟨Nat.zero_le _, Nat.zero_le _⟩ rfl hl.1 rfl (Nat.le_of_ble_eq_true rfl) dX0_translateOne_54 (fun u54 H locs hp54 hI => ?_)
    have h19 : u54.1 19 = (u.1 19) - 1 := hp54.f19
    have h14 : u54.1 14 ≤ u.1 14 + 1 + 3 * ((u.1 19) - 1) := hp54.f14
    refine lv_aload_n F.1 F.2.1 dX0_translateOne_57 rfl (lv_at hl 2 rfl) ?_
    refine lv_iload_n F.1 F.2.1 dX0_translateOne_58 rfl (lv_at hl 1 rfl) ?_
    refine lv_bipush (v := nI 10) F.1 F.2.1 dX0_translateOne_59 (by decide) ?_
    refine t_icmp_ne (tgt := 69) F (nI_toInt (by omega)) (nI_toInt (by decide)) dX0_translateOne_61 (by decide) (fun b_61 => absurd b_61 (by omega)) (fun b_61 => ?_)
    refine lv_bipush (v := nI 8) F.1 F.2.1 dX0_translateOne_64 (by decide) ?_
    refine lv_goto (tgt := 71) F.1 F.2.1 dX0_translateOne_66 (by decide) ?_
    refine lv_iload_n F.1 F.2.1 dX0_translateOne_71 rfl (lv_at hl 3 rfl) ?_
    refine lv_iconst (v := nI 1) F.1 F.2.1 dX0_translateOne_72 (by decide) ?_
    refine n_iadd F dX0_translateOne_73 ?_
    refine lv_aload_n F.1 F.2.1 dX0_translateOne_74 rfl (lv_at hl 2 rfl) ?_
    refine xg19 (v := (u.1 19) - 1) F hI h19 dX0_translateOne_75 ?_
    refine lv_iload_n F.1 F.2.1 dX0_translateOne_78 rfl (lv_at hl 0 rfl) ?_
    refine x_callv (n := 4) (rest := []) (av := [.int (nI 8), .int (nI (pp + 1)), .int (nI ((u.1 19) - 1)), .int (u.2.2 2 pp)]) F hI (metX0_write l g ad d A u54 8 (pp + 1) ((u.1 19) - 1) (u.2.2 2 pp) (by omega) (by omega) (by omega) (show u54.1 14 + 0 < 640 by omega)) (lw_V q146 q148 qs6 q25 q149) (by decide +kernel) ⟨by decide, by decide⟩ ⟨rfl, rfl⟩ ⟨Nat.zero_le _, Nat.zero_le _⟩ rfl hl.1 rfl (Nat.le_of_ble_eq_true rfl) dX0_translateOne_79 (fun u79 H locs hp79 hI => ?_)
    subst hp79
    refine lv_iconst (v := nI 0) F.1 F.2.1 dX0_translateOne_82 (by decide) ?_
    exact x_retz F hr hlk hI rfl (Or.inr (Or.inr (Or.inl ⟨rfl, by omega, u54, hp54, by rw [if_pos (show u.2.1 1 pp = 10 by omega)]⟩))) dX0_translateOne_83
  · refine lv_iload_n F.1 F.2.1 dX0_translateOne_20 rfl (lv_at hl 1 rfl) ?_
    refine lv_bipush (v := nI 11) F.1 F.2.1 dX0_translateOne_21 (by decide) ?_
    refine t_icmp_ne (tgt := 84) F (nI_toInt (by omega)) (nI_toInt (by decide)) dX0_translateOne_23 (by decide) (fun b_23 => ?_) (fun b_23 => ?_)
    · refine lv_iload_n F.1 F.2.1 dX0_translateOne_84 rfl (lv_at hl 1 rfl) ?_
      refine lv_bipush (v := nI 12) F.1 F.2.1 dX0_translateOne_85 (by decide) ?_
      refine t_icmp_eq (tgt := 96) F (nI_toInt (by omega)) (nI_toInt (by decide)) dX0_translateOne_87 (by decide) (fun b_87 => ?_) (fun b_87 => ?_)
      · refine lv_aload_n F.1 F.2.1 dX0_translateOne_96 rfl (lv_at hl 2 rfl) ?_
        refine x_callv (n := 0) (rest := []) (av := []) F hI (metX0_straighten l g ad d A u (show u.1 19 ≤ 8 by omega) (show u.1 14 + 0 + 3 * (u.1 19) ≤ 640 by omega) hh) (lw_V q142 q144 qs5 q25 q145) (by decide +kernel) ⟨by decide, by decide⟩ ⟨rfl, rfl⟩ ⟨Nat.zero_le _, Nat.zero_le _⟩ rfl hl.1 rfl (Nat.le_of_ble_eq_true rfl) dX0_translateOne_97 (fun u97 H locs hp97 hI => ?_)
        have h19 : u97.1 19 = u.1 19 := hp97.f19
        have h14 : u97.1 14 ≤ u.1 14 + 0 + 3 * (u.1 19) := hp97.f14
        refine lv_aload_n F.1 F.2.1 dX0_translateOne_100 rfl (lv_at hl 2 rfl) ?_
        refine lv_iload_n F.1 F.2.1 dX0_translateOne_101 rfl (lv_at hl 1 rfl) ?_
        refine lv_bipush (v := nI 12) F.1 F.2.1 dX0_translateOne_102 (by decide) ?_
        refine t_icmp_ne (tgt := 112) F (nI_toInt (by omega)) (nI_toInt (by decide)) dX0_translateOne_104 (by decide) (fun b_104 => absurd b_104 (by omega)) (fun b_104 => ?_)
        refine lv_bipush (v := nI 7) F.1 F.2.1 dX0_translateOne_107 (by decide) ?_
        refine lv_goto (tgt := 114) F.1 F.2.1 dX0_translateOne_109 (by decide) ?_
        refine lv_iload_n F.1 F.2.1 dX0_translateOne_114 rfl (lv_at hl 1 rfl) ?_
        refine lv_bipush (v := nI 12) F.1 F.2.1 dX0_translateOne_115 (by decide) ?_
        refine t_icmp_ne (tgt := 124) F (nI_toInt (by omega)) (nI_toInt (by decide)) dX0_translateOne_117 (by decide) (fun b_117 => absurd b_117 (by omega)) (fun b_117 => ?_)
        obtain ⟨ha, hk31, hk7⟩ := hka (by omega) (by omega)
        rw [ha] at hl
        refine lv_iload_n F.1 F.2.1 dX0_translateOne_120 rfl (lv_at hl 0 rfl) ?_
        refine lv_goto (tgt := 125) F.1 F.2.1 dX0_translateOne_121 (by decide) ?_
        refine lv_aload_n F.1 F.2.1 dX0_translateOne_125 rfl (lv_at hl 2 rfl) ?_
        refine xg19 (v := u.1 19) F hI h19 dX0_translateOne_126 ?_
        refine lv_iconst (v := nI 0) F.1 F.2.1 dX0_translateOne_129 (by decide) ?_
        refine x_callv (n := 4) (rest := []) (av := [.int (nI 7), .int (nI k), .int (nI (u.1 19)), .int (nI 0)]) F hI (metX0_write l g ad d A u97 7 k (u.1 19) (nI 0) (by omega) (by omega) (by omega) (show u97.1 14 + 0 < 640 by omega)) (lw_V q146 q148 qs6 q25 q149) (by decide +kernel) ⟨by decide, by decide⟩ ⟨rfl, rfl⟩ ⟨Nat.zero_le _, Nat.zero_le _⟩ rfl hl.1 rfl (Nat.le_of_ble_eq_true rfl) dX0_translateOne_130 (fun u130 H locs hp130 hI => ?_)
        subst hp130
        refine lv_iconst (v := nI 0) F.1 F.2.1 dX0_translateOne_133 (by decide) ?_
        exact x_retz F hr hlk hI rfl (Or.inr (Or.inr (Or.inr ⟨rfl, by omega, u97, hp97, by rw [if_pos (show u.2.1 1 pp = 12 by omega), if_pos (show u.2.1 1 pp = 12 by omega)]⟩))) dX0_translateOne_134
      · refine lv_iload_n F.1 F.2.1 dX0_translateOne_90 rfl (lv_at hl 1 rfl) ?_
        refine lv_bipush (v := nI 13) F.1 F.2.1 dX0_translateOne_91 (by decide) ?_
        refine t_icmp_ne (tgt := 135) F (nI_toInt (by omega)) (nI_toInt (by decide)) dX0_translateOne_93 (by decide) (fun b_93 => ?_) (fun b_93 => ?_)
        · refine lv_iload_n F.1 F.2.1 dX0_translateOne_135 rfl (lv_at hl 1 rfl) ?_
          refine lv_iconst (v := nI 3) F.1 F.2.1 dX0_translateOne_136 (by decide) ?_
          refine t_icmp_gt (tgt := 149) F (nI_toInt (by omega)) (nI_toInt (by decide)) dX0_translateOne_137 (by decide) (fun b_137 => ?_) (fun b_137 => ?_)
          · obtain ⟨ha, hk31, hk7⟩ := hka (by omega) (by omega)
            rw [ha] at hl
            refine lv_aload_n F.1 F.2.1 dX0_translateOne_149 rfl (lv_at hl 2 rfl) ?_
            refine lv_iload_n F.1 F.2.1 dX0_translateOne_150 rfl (lv_at hl 1 rfl) ?_
            refine lv_iload_n F.1 F.2.1 dX0_translateOne_151 rfl (lv_at hl 0 rfl) ?_
            refine x_callv (n := 2) (rest := []) (av := [.int (nI (u.2.1 1 pp)), .int (nI k)]) F hI (metX0_translateCombine l g ad d A u (u.2.1 1 pp) k (by omega) (by omega) (n4 (Or.inr ⟨by omega, by omega⟩)) h8 (by omega) hh) (lw_V q162 q164 qs10 q25 q165) (by decide +kernel) ⟨by decide, by decide⟩ ⟨rfl, rfl⟩ ⟨Nat.zero_le _, Nat.zero_le _⟩ rfl hl.1 rfl (Nat.le_of_ble_eq_true rfl) dX0_translateOne_152 (fun u152 H locs hp152 hI => ?_)
            refine lv_iconst (v := nI 1) F.1 F.2.1 dX0_translateOne_155 (by decide) ?_
            exact x_retz F hr hlk hI rfl (Or.inr (Or.inl ⟨rfl, by omega, by omega, hp152⟩)) dX0_translateOne_156
          · refine lv_aload_n F.1 F.2.1 dX0_translateOne_140 rfl (lv_at hl 2 rfl) ?_
            refine lv_iload_n F.1 F.2.1 dX0_translateOne_141 rfl (lv_at hl 1 rfl) ?_
            refine lv_iload_n F.1 F.2.1 dX0_translateOne_142 rfl (lv_at hl 0 rfl) ?_
            refine x_callv (n := 2) (rest := []) (av := [.int (nI (u.2.1 1 pp)), .int (u.2.2 2 pp)]) F hI (metX0_translateMove l g ad d A u (u.2.1 1 pp) k (u.2.2 2 pp) (by omega) (hk0 (by omega)) h8 (fun h => n2 (Or.inl h)) n1 (fun h => n4 (Or.inl h)) (by omega) hh) (lw_V q154 q156 qs8 q25 q157) (by decide +kernel) ⟨by decide, by decide⟩ ⟨rfl, rfl⟩ ⟨Nat.zero_le _, Nat.zero_le _⟩ rfl hl.1 rfl (Nat.le_of_ble_eq_true rfl) dX0_translateOne_143 (fun u143 H locs hp143 hI => ?_)
            refine lv_goto (tgt := 155) F.1 F.2.1 dX0_translateOne_146 (by decide) ?_
            refine lv_iconst (v := nI 1) F.1 F.2.1 dX0_translateOne_155 (by decide) ?_
            exact x_retz F hr hlk hI rfl (Or.inl ⟨rfl, by omega, hp143⟩) dX0_translateOne_156
        · refine lv_aload_n F.1 F.2.1 dX0_translateOne_96 rfl (lv_at hl 2 rfl) ?_
          refine x_callv (n := 0) (rest := []) (av := []) F hI (metX0_straighten l g ad d A u (show u.1 19 ≤ 8 by omega) (show u.1 14 + 0 + 3 * (u.1 19) ≤ 640 by omega) hh) (lw_V q142 q144 qs5 q25 q145) (by decide +kernel) ⟨by decide, by decide⟩ ⟨rfl, rfl⟩ ⟨Nat.zero_le _, Nat.zero_le _⟩ rfl hl.1 rfl (Nat.le_of_ble_eq_true rfl) dX0_translateOne_97 (fun u97 H locs hp97 hI => ?_)
          have h19 : u97.1 19 = u.1 19 := hp97.f19
          have h14 : u97.1 14 ≤ u.1 14 + 0 + 3 * (u.1 19) := hp97.f14
          refine lv_aload_n F.1 F.2.1 dX0_translateOne_100 rfl (lv_at hl 2 rfl) ?_
          refine lv_iload_n F.1 F.2.1 dX0_translateOne_101 rfl (lv_at hl 1 rfl) ?_
          refine lv_bipush (v := nI 12) F.1 F.2.1 dX0_translateOne_102 (by decide) ?_
          refine t_icmp_ne (tgt := 112) F (nI_toInt (by omega)) (nI_toInt (by decide)) dX0_translateOne_104 (by decide) (fun b_104 => ?_) (fun b_104 => absurd b_104 (by omega))
          refine lv_bipush (v := nI 10) F.1 F.2.1 dX0_translateOne_112 (by decide) ?_
          refine lv_iload_n F.1 F.2.1 dX0_translateOne_114 rfl (lv_at hl 1 rfl) ?_
          refine lv_bipush (v := nI 12) F.1 F.2.1 dX0_translateOne_115 (by decide) ?_
          refine t_icmp_ne (tgt := 124) F (nI_toInt (by omega)) (nI_toInt (by decide)) dX0_translateOne_117 (by decide) (fun b_117 => ?_) (fun b_117 => absurd b_117 (by omega))
          refine lv_iload_n F.1 F.2.1 dX0_translateOne_124 rfl (lv_at hl 3 rfl) ?_
          refine lv_aload_n F.1 F.2.1 dX0_translateOne_125 rfl (lv_at hl 2 rfl) ?_
          refine xg19 (v := u.1 19) F hI h19 dX0_translateOne_126 ?_
          refine lv_iconst (v := nI 0) F.1 F.2.1 dX0_translateOne_129 (by decide) ?_
          refine x_callv (n := 4) (rest := []) (av := [.int (nI 10), .int (nI pp), .int (nI (u.1 19)), .int (nI 0)]) F hI (metX0_write l g ad d A u97 10 pp (u.1 19) (nI 0) (by omega) (by omega) (by omega) (show u97.1 14 + 0 < 640 by omega)) (lw_V q146 q148 qs6 q25 q149) (by decide +kernel) ⟨by decide, by decide⟩ ⟨rfl, rfl⟩ ⟨Nat.zero_le _, Nat.zero_le _⟩ rfl hl.1 rfl (Nat.le_of_ble_eq_true rfl) dX0_translateOne_130 (fun u130 H locs hp130 hI => ?_)
          subst hp130
          refine lv_iconst (v := nI 0) F.1 F.2.1 dX0_translateOne_133 (by decide) ?_
          exact x_retz F hr hlk hI rfl (Or.inr (Or.inr (Or.inr ⟨rfl, by omega, u97, hp97, by rw [if_neg (show ¬ u.2.1 1 pp = 12 by omega), if_neg (show ¬ u.2.1 1 pp = 12 by omega)]⟩))) dX0_translateOne_134
    · have hD1 : 1 ≤ u.1 19 := n2 (by omega)
      have ht8 := hh.1 (u.1 19 - 1) (by omega)
      refine lv_aload_n F.1 F.2.1 dX0_translateOne_26 rfl (lv_at hl 2 rfl) ?_
      refine lv_dup F.1 F.2.1 dX0_translateOne_27 rfl ?_
      refine xg19 (v := u.1 19) F hI rfl dX0_translateOne_28 ?_
      refine lv_iconst (v := nI 1) F.1 F.2.1 dX0_translateOne_31 (by decide) ?_
      refine n_isub F (by omega) dX0_translateOne_32 ?_
      refine xp19 (v := (u.1 19) - 1) F hI dX0_translateOne_33 (fun H locs hI => ?_)
      refine lv_aload_n F.1 F.2.1 dX0_translateOne_36 rfl (lv_at hl 2 rfl) ?_
      refine lv_iconst (v := nI 1) F.1 F.2.1 dX0_translateOne_37 (by decide) ?_
      refine lv_bipush (v := nI 8) F.1 F.2.1 dX0_translateOne_38 (by decide) ?_
      refine lv_aload_n F.1 F.2.1 dX0_translateOne_40 rfl (lv_at hl 2 rfl) ?_
      refine xg20 F hI dX0_translateOne_41 ?_
      refine lv_aload_n F.1 F.2.1 dX0_translateOne_44 rfl (lv_at hl 2 rfl) ?_
      refine xg19 (v := (u.1 19) - 1) F hI rfl dX0_translateOne_45 ?_
      refine xl20 (x := u.2.1 20 ((u.1 19) - 1)) F hI (by omega) rfl dX0_translateOne_48 ?_
      refine lv_iconst (v := nI 0) F.1 F.2.1 dX0_translateOne_49 (by decide) ?_
      refine x_callv (n := 4) (rest := []) (av := [.int (nI 1), .int (nI 8), .int (nI (u.2.1 20 ((u.1 19) - 1))), .int (nI 0)]) F hI (metX0_write l g ad d A (xs u 19 ((u.1 19) - 1)) 1 8 (u.2.1 20 ((u.1 19) - 1)) (nI 0) (by omega) (by omega) (by omega) (show u.1 14 + 0 < 640 by omega)) (lw_V q146 q148 qs6 q25 q149) (by decide +kernel) ⟨by decide, by decide⟩ ⟨rfl, rfl⟩ ⟨Nat.zero_le _, Nat.zero_le _⟩ rfl hl.1 rfl (Nat.le_of_ble_eq_true rfl) dX0_translateOne_50 (fun u50 H locs hp50 hI => ?_)
      subst hp50
      refine lv_aload_n F.1 F.2.1 dX0_translateOne_53 rfl (lv_at hl 2 rfl) ?_
      refine x_callv (n := 0) (rest := []) (av := []) F hI (metX0_straighten l g ad d A (xwr (xs u 19 ((u.1 19) - 1)) 1 8 (u.2.1 20 ((u.1 19) - 1)) (nI 0)) (show (u.1 19) - 1 ≤ 8 by omega) (show u.1 14 + 1 + 3 * ((u.1 19) - 1) ≤ 640 by omega) (hh.less (Nat.sub_le _ _))) (lw_V q142 q144 qs5 q25 q145) (by decide +kernel) ⟨by decide, by decide⟩ ⟨rfl, rfl⟩ ⟨Nat.zero_le _, Nat.zero_le _⟩ rfl hl.1 rfl (Nat.le_of_ble_eq_true rfl) dX0_translateOne_54 (fun u54 H locs hp54 hI => ?_)
      have h19 : u54.1 19 = (u.1 19) - 1 := hp54.f19
      have h14 : u54.1 14 ≤ u.1 14 + 1 + 3 * ((u.1 19) - 1) := hp54.f14
      refine lv_aload_n F.1 F.2.1 dX0_translateOne_57 rfl (lv_at hl 2 rfl) ?_
      refine lv_iload_n F.1 F.2.1 dX0_translateOne_58 rfl (lv_at hl 1 rfl) ?_
      refine lv_bipush (v := nI 10) F.1 F.2.1 dX0_translateOne_59 (by decide) ?_
      refine t_icmp_ne (tgt := 69) F (nI_toInt (by omega)) (nI_toInt (by decide)) dX0_translateOne_61 (by decide) (fun b_61 => ?_) (fun b_61 => absurd b_61 (by omega))
      refine lv_bipush (v := nI 9) F.1 F.2.1 dX0_translateOne_69 (by decide) ?_
      refine lv_iload_n F.1 F.2.1 dX0_translateOne_71 rfl (lv_at hl 3 rfl) ?_
      refine lv_iconst (v := nI 1) F.1 F.2.1 dX0_translateOne_72 (by decide) ?_
      refine n_iadd F dX0_translateOne_73 ?_
      refine lv_aload_n F.1 F.2.1 dX0_translateOne_74 rfl (lv_at hl 2 rfl) ?_
      refine xg19 (v := (u.1 19) - 1) F hI h19 dX0_translateOne_75 ?_
      refine lv_iload_n F.1 F.2.1 dX0_translateOne_78 rfl (lv_at hl 0 rfl) ?_
      refine x_callv (n := 4) (rest := []) (av := [.int (nI 9), .int (nI (pp + 1)), .int (nI ((u.1 19) - 1)), .int (u.2.2 2 pp)]) F hI (metX0_write l g ad d A u54 9 (pp + 1) ((u.1 19) - 1) (u.2.2 2 pp) (by omega) (by omega) (by omega) (show u54.1 14 + 0 < 640 by omega)) (lw_V q146 q148 qs6 q25 q149) (by decide +kernel) ⟨by decide, by decide⟩ ⟨rfl, rfl⟩ ⟨Nat.zero_le _, Nat.zero_le _⟩ rfl hl.1 rfl (Nat.le_of_ble_eq_true rfl) dX0_translateOne_79 (fun u79 H locs hp79 hI => ?_)
      subst hp79
      refine lv_iconst (v := nI 0) F.1 F.2.1 dX0_translateOne_82 (by decide) ?_
      exact x_retz F hr hlk hI rfl (Or.inr (Or.inr (Or.inl ⟨rfl, by omega, u54, hp54, by rw [if_neg (show ¬ u.2.1 1 pp = 10 by omega)]⟩))) dX0_translateOne_83
end
section
set_option maxRecDepth 100000
set_option maxHeartbeats 4000000 in
theorem ex_loop {p : Program} {l : Launch} {e : Env} {s : State} {m : MethodId} {args : Array Value} {below : List Frame} {meth : Method} {c : Code} {Q : State → Prop} {g : va_G} {ad : Nat → Nat} {d : Nat → ClassId} {A : Nat → Prop} {u : XS} (F : CallFix p m c cX0_execute 4 s args lw_all RX0) (q n : Nat) (hq : q + n < u.1 14) (hce : u.1 14 ≤ 640) (hw : ∀ j, j < n → wfU u (q + j)) (hlv : lvOK (u.2.1 15 (q + n)) (u.2.1 16 (q + n)) (u.2.1 17 (q + n)) (u.2.2 18 (q + n))) (kk : ∀ (H : Heap) (locs : List Loc) (ls : Array Slot), xI g ad d A s (xFG u (exU u q n (u.2.2 4, u.2.2 3))) H locs → lv_has ls 4 [(2, .int (nI (q + n))), (0, .ref (ad 0)), (1, .int (nI q))] → W p l e ({ frames := 1, cells := 0, slots := 0, locals := 25 } : Room) s m args below meth c H locs 0 0 Q (F0 m 32 ls [])) : ∀ (k j : Nat) (H : Heap) (locs : List Loc) (ls : Array Slot), j + k = n → xI g ad d A s (xFG u (exU u q j (u.2.2 4, u.2.2 3))) H locs → lv_has ls 4 [(2, .int (nI (q + j))), (0, .ref (ad 0)), (1, .int (nI q))] → W p l e ({ frames := 1, cells := 0, slots := 0, locals := 25 } : Room) s m args below meth c H locs 0 0 Q (F0 m 2 ls []) := by
  have hl7 := hlv.1
  have hl11 := hlv.2.1
  intro k
  induction k with
  | zero =>
    intro j H locs ls hjk hI hl
    obtain rfl : j = n := by omega
    refine lv_iload_n F.1 F.2.1 dX0_execute_2 rfl (lv_at hl 0 rfl) ?_
    refine lv_aload_n F.1 F.2.1 dX0_execute_3 rfl (lv_at hl 1 rfl) ?_
    refine xg14 (v := u.1 14) F hI rfl dX0_execute_4 ?_
    refine t_icmp_ge (tgt := 32) F (nI_toInt (by omega)) (nI_toInt (by omega)) dX0_execute_7 (by decide) (fun b_7 => absurd b_7 (by omega)) (fun b_7 => ?_)
    refine lv_aload_n F.1 F.2.1 dX0_execute_10 rfl (lv_at hl 1 rfl) ?_
    refine xg15 F hI dX0_execute_11 ?_
    refine lv_iload_n F.1 F.2.1 dX0_execute_14 rfl (lv_at hl 0 rfl) ?_
    refine xl15 (x := u.2.1 15 (q + j)) F hI (by omega) rfl dX0_execute_15 ?_
    refine lv_bipush (v := nI 7) F.1 F.2.1 dX0_execute_16 (by decide) ?_
    refine t_icmp_ge (tgt := 32) F (nI_toInt (by omega)) (nI_toInt (by decide)) dX0_execute_18 (by decide) (fun b_18 => ?_) (fun b_18 => absurd b_18 (by omega))
    exact kk H locs ls hI hl
  | succ k ih =>
    intro j H locs ls hjk hI hl
    have hwj := hw j (by omega)
    have hc6 := hwj.1
    refine lv_iload_n F.1 F.2.1 dX0_execute_2 rfl (lv_at hl 0 rfl) ?_
    refine lv_aload_n F.1 F.2.1 dX0_execute_3 rfl (lv_at hl 1 rfl) ?_
    refine xg14 (v := u.1 14) F hI rfl dX0_execute_4 ?_
    refine t_icmp_ge (tgt := 32) F (nI_toInt (by omega)) (nI_toInt (by omega)) dX0_execute_7 (by decide) (fun b_7 => absurd b_7 (by omega)) (fun b_7 => ?_)
    refine lv_aload_n F.1 F.2.1 dX0_execute_10 rfl (lv_at hl 1 rfl) ?_
    refine xg15 F hI dX0_execute_11 ?_
    refine lv_iload_n F.1 F.2.1 dX0_execute_14 rfl (lv_at hl 0 rfl) ?_
    refine xl15 (x := u.2.1 15 (q + j)) F hI (by omega) rfl dX0_execute_15 ?_
    refine lv_bipush (v := nI 7) F.1 F.2.1 dX0_execute_16 (by decide) ?_
    refine t_icmp_ge (tgt := 32) F (nI_toInt (by omega)) (nI_toInt (by decide)) dX0_execute_18 (by decide) (fun b_18 => absurd b_18 (by omega)) (fun b_18 => ?_)
    refine lv_aload_n F.1 F.2.1 dX0_execute_21 rfl (lv_at hl 1 rfl) ?_
    refine lv_iload_n F.1 F.2.1 dX0_execute_22 rfl (lv_at hl 0 rfl) ?_
    refine x_callv (n := 1) (rest := []) (av := [.int (nI (q + j))]) F hI (metX0_work l g ad d A (xFG u (exU u q j (u.2.2 4, u.2.2 3))) (q + j) (by omega) hwj) (lw_V q170 q172 qs12 q25 q173) (by decide +kernel) ⟨by decide, by decide⟩ ⟨rfl, rfl⟩ ⟨Nat.zero_le _, Nat.zero_le _⟩ rfl hl.1 rfl (Nat.le_of_ble_eq_true rfl) dX0_execute_23 (fun u23 H locs hp23 hI => ?_)
    have hq23 : u23 = xFG u (exU u q (j + 1) (u.2.2 4, u.2.2 3)) := by rw [hp23, xFG_xFG]; rfl
    subst hq23
    refine lv_iinc (v := nI ((q + j) + 1)) (lv' := [(2, .int (nI ((q + j) + 1))), (0, .ref (ad 0)), (1, .int (nI q))]) F.1 F.2.1 dX0_execute_26 hl (k := 0) rfl (n_inc _) (by decide) rfl (fun ls hl => ?_)
    refine lv_goto (tgt := 2) F.1 F.2.1 dX0_execute_29 (by decide) ?_
    exact ih (j + 1) H locs ls (by omega) hI hl
set_option maxHeartbeats 4000000 in
set_option maxRecDepth 100000 in
theorem metX0_execute (l : Launch) (g : va_G) (ad : Nat → Nat) (d : Nat → ClassId) (A : Nat → Prop) (u : XS) (q n : Nat) (hq : q + n < u.1 14) (hce : u.1 14 ≤ 640) (hw : ∀ j, j < n → wfU u (q + j)) (hlv : lvOK (u.2.1 15 (q + n)) (u.2.1 16 (q + n)) (u.2.1 17 (q + n)) (u.2.2 18 (q + n))) : Met l yX0_execute (ws_ yX0_execute cX0_execute 4 none) ({ frames := 1, cells := 0, slots := 0, locals := 25 }) (xPc g ad d A u [.int (nI q)]) (xQv g ad d A (fun u2 => abX u2 = lve (u.2.1 15 (q + n)) (u.2.1 16 (q + n)) (u.2.1 17 (q + n)) (u.2.2 18 (q + n)) (exU u q n (u.2.2 4, u.2.2 3)) (u.1 8) (u.1 7) ∧ mch u u2)) 0 0 A := by
  refine x_met (by decide) rfl (Nat.le_of_ble_eq_true rfl) ?_
  intro p e s m below meth c ls F hr hlk hI hl
  have hl : lv_has ls 4 [(0, .ref (ad 0)), (1, .int (nI q))] := hl
  obtain ⟨hl1, hl2, hl3, hl4, hl5⟩ := id hlv
  refine lv_iload_n F.1 F.2.1 dX0_execute_0 rfl (lv_at hl 1 rfl) ?_
  refine lv_istore_n (lv' := [(2, .int (nI q)), (0, .ref (ad 0)), (1, .int (nI q))]) F.1 F.2.1 dX0_execute_1 rfl hl (by decide) rfl (fun ls hl => ?_)
  refine ex_loop (u := u) F q n hq hce hw hlv (fun H locs ls hI hl => ?_) n 0 s.heap [] ls (by omega) (by rw [show xFG u (exU u q 0 (u.2.2 4, u.2.2 3)) = u from xFG_self u]; exact hI) (lv_sub hl [0, 1, 2] rfl)
  obtain ⟨B, hB⟩ : ∃ B : BB, B = exU u q n (u.2.2 4, u.2.2 3) := ⟨_, rfl⟩
  rw [← hB] at hI ⊢
  refine lv_aload_n F.1 F.2.1 dX0_execute_32 rfl (lv_at hl 1 rfl) ?_
  refine xg15 F hI dX0_execute_33 ?_
  refine lv_iload_n F.1 F.2.1 dX0_execute_36 rfl (lv_at hl 0 rfl) ?_
  refine xl15 (x := u.2.1 15 (q + n)) F hI (by omega) rfl dX0_execute_37 ?_
  refine lv_istore_n (lv' := [(3, .int (nI (u.2.1 15 (q + n)))), (2, .int (nI (q + n))), (0, .ref (ad 0)), (1, .int (nI q))]) F.1 F.2.1 dX0_execute_38 rfl hl (by decide) rfl (fun ls hl => ?_)
  refine lv_aload_n F.1 F.2.1 dX0_execute_39 rfl (lv_at hl 2 rfl) ?_
  refine lv_aload_n F.1 F.2.1 dX0_execute_40 rfl (lv_at hl 2 rfl) ?_
  refine xg17 F hI dX0_execute_41 ?_
  refine lv_iload_n F.1 F.2.1 dX0_execute_44 rfl (lv_at hl 1 rfl) ?_
  refine xl17 (x := u.2.1 17 (q + n)) F hI (by omega) rfl dX0_execute_45 ?_
  refine xp5 (v := u.2.1 17 (q + n)) F hI dX0_execute_46 (fun H locs hI => ?_)
  refine lv_aload_n F.1 F.2.1 dX0_execute_49 rfl (lv_at hl 2 rfl) ?_
  refine lv_aload_n F.1 F.2.1 dX0_execute_50 rfl (lv_at hl 2 rfl) ?_
  refine xg16 F hI dX0_execute_51 ?_
  refine lv_iload_n F.1 F.2.1 dX0_execute_54 rfl (lv_at hl 1 rfl) ?_
  refine xl16 (x := u.2.1 16 (q + n)) F hI (by omega) rfl dX0_execute_55 ?_
  refine xp6 (v := u.2.1 16 (q + n)) F hI dX0_execute_56 (fun H locs hI => ?_)
  refine lv_iload_n F.1 F.2.1 dX0_execute_59 rfl (lv_at hl 0 rfl) ?_
  refine lv_bipush (v := nI 8) F.1 F.2.1 dX0_execute_60 (by decide) ?_
  refine t_icmp_ne (tgt := 85) F (nI_toInt (by omega)) (nI_toInt (by decide)) dX0_execute_62 (by decide) (fun b_62 => ?_) (fun b_62 => ?_)
  · refine lv_iload_n F.1 F.2.1 dX0_execute_85 rfl (lv_at hl 0 rfl) ?_
    refine lv_bipush (v := nI 9) F.1 F.2.1 dX0_execute_86 (by decide) ?_
    refine t_icmp_ne (tgt := 111) F (nI_toInt (by omega)) (nI_toInt (by decide)) dX0_execute_88 (by decide) (fun b_88 => ?_) (fun b_88 => ?_)
    · refine lv_iload_n F.1 F.2.1 dX0_execute_111 rfl (lv_at hl 0 rfl) ?_
      refine lv_bipush (v := nI 10) F.1 F.2.1 dX0_execute_112 (by decide) ?_
      refine t_icmp_ne (tgt := 122) F (nI_toInt (by omega)) (nI_toInt (by decide)) dX0_execute_114 (by decide) (fun b_114 => ?_) (fun b_114 => ?_)
      · refine lv_iload_n F.1 F.2.1 dX0_execute_122 rfl (lv_at hl 0 rfl) ?_
        refine lv_bipush (v := nI 11) F.1 F.2.1 dX0_execute_123 (by decide) ?_
        refine t_icmp_ne (tgt := 133) F (nI_toInt (by omega)) (nI_toInt (by decide)) dX0_execute_125 (by decide) (fun b_125 => ?_) (fun b_125 => ?_)
        · exact x_retv F hr hlk hI (⟨by unfold lve; rw [if_neg (show ¬ (u.2.1 15 (q + n) = 8 ∧ (B.1 8).toInt = 0 ∨ u.2.1 15 (q + n) = 9 ∧ (B.1 8).toInt < 0) by omega), if_neg (show ¬ u.2.1 15 (q + n) = 10 by omega), if_neg (show ¬ u.2.1 15 (q + n) = 11 by omega)]; rfl, ((mch.FG u B).fld (by decide)).fld (by decide)⟩) dX0_execute_133
        · refine lv_aload_n F.1 F.2.1 dX0_execute_128 rfl (lv_at hl 2 rfl) ?_
          refine lv_iconst (v := nI 2) F.1 F.2.1 dX0_execute_129 (by decide) ?_
          refine xp7 (v := 2) F hI dX0_execute_130 (fun H locs hI => ?_)
          exact x_retv F hr hlk hI (⟨by unfold lve; rw [if_neg (show ¬ (u.2.1 15 (q + n) = 8 ∧ (B.1 8).toInt = 0 ∨ u.2.1 15 (q + n) = 9 ∧ (B.1 8).toInt < 0) by omega), if_neg (show ¬ u.2.1 15 (q + n) = 10 by omega), if_pos (show u.2.1 15 (q + n) = 11 by omega)]; rfl, (((mch.FG u B).fld (by decide)).fld (by decide)).fld (by decide)⟩) dX0_execute_133
      · refine lv_aload_n F.1 F.2.1 dX0_execute_117 rfl (lv_at hl 2 rfl) ?_
        refine lv_iconst (v := nI 1) F.1 F.2.1 dX0_execute_118 (by decide) ?_
        refine xp7 (v := 1) F hI dX0_execute_119 (fun H locs hI => ?_)
        refine lv_iload_n F.1 F.2.1 dX0_execute_122 rfl (lv_at hl 0 rfl) ?_
        refine lv_bipush (v := nI 11) F.1 F.2.1 dX0_execute_123 (by decide) ?_
        refine t_icmp_ne (tgt := 133) F (nI_toInt (by omega)) (nI_toInt (by decide)) dX0_execute_125 (by decide) (fun b_125 => ?_) (fun b_125 => absurd b_125 (by omega))
        exact x_retv F hr hlk hI (⟨by unfold lve; rw [if_neg (show ¬ (u.2.1 15 (q + n) = 8 ∧ (B.1 8).toInt = 0 ∨ u.2.1 15 (q + n) = 9 ∧ (B.1 8).toInt < 0) by omega), if_pos (show u.2.1 15 (q + n) = 10 by omega)]; rfl, (((mch.FG u B).fld (by decide)).fld (by decide)).fld (by decide)⟩) dX0_execute_133
    · refine lv_aload_n F.1 F.2.1 dX0_execute_91 rfl (lv_at hl 2 rfl) ?_
      refine xg4 F hI dX0_execute_92 ?_
      refine lv_bipush (v := nI 8) F.1 F.2.1 dX0_execute_95 (by decide) ?_
      refine xl4 (x := B.1 8) F hI (by omega) rfl dX0_execute_97 ?_
      refine t_if_ge (tgt := 111) F rfl dX0_execute_98 (by decide) (fun b_98 => ?_) (fun b_98 => ?_)
      · refine lv_iload_n F.1 F.2.1 dX0_execute_111 rfl (lv_at hl 0 rfl) ?_
        refine lv_bipush (v := nI 10) F.1 F.2.1 dX0_execute_112 (by decide) ?_
        refine t_icmp_ne (tgt := 122) F (nI_toInt (by omega)) (nI_toInt (by decide)) dX0_execute_114 (by decide) (fun b_114 => ?_) (fun b_114 => absurd b_114 (by omega))
        refine lv_iload_n F.1 F.2.1 dX0_execute_122 rfl (lv_at hl 0 rfl) ?_
        refine lv_bipush (v := nI 11) F.1 F.2.1 dX0_execute_123 (by decide) ?_
        refine t_icmp_ne (tgt := 133) F (nI_toInt (by omega)) (nI_toInt (by decide)) dX0_execute_125 (by decide) (fun b_125 => ?_) (fun b_125 => absurd b_125 (by omega))
        exact x_retv F hr hlk hI (⟨by unfold lve; rw [if_neg (show ¬ (u.2.1 15 (q + n) = 8 ∧ (B.1 8).toInt = 0 ∨ u.2.1 15 (q + n) = 9 ∧ (B.1 8).toInt < 0) by omega), if_neg (show ¬ u.2.1 15 (q + n) = 10 by omega), if_neg (show ¬ u.2.1 15 (q + n) = 11 by omega)]; rfl, ((mch.FG u B).fld (by decide)).fld (by decide)⟩) dX0_execute_133
      · obtain ⟨kz, hkz, hkz31⟩ := hl5 (by omega)
        refine lv_aload_n F.1 F.2.1 dX0_execute_101 rfl (lv_at hl 2 rfl) ?_
        refine lv_aload_n F.1 F.2.1 dX0_execute_102 rfl (lv_at hl 2 rfl) ?_
        refine xg18 F hI dX0_execute_103 ?_
        refine lv_iload_n F.1 F.2.1 dX0_execute_106 rfl (lv_at hl 1 rfl) ?_
        refine xl18 (x := nI kz) F hI (by omega) hkz dX0_execute_107 ?_
        refine xp6 (v := kz) F hI dX0_execute_108 (fun H locs hI => ?_)
        refine lv_iload_n F.1 F.2.1 dX0_execute_111 rfl (lv_at hl 0 rfl) ?_
        refine lv_bipush (v := nI 10) F.1 F.2.1 dX0_execute_112 (by decide) ?_
        refine t_icmp_ne (tgt := 122) F (nI_toInt (by omega)) (nI_toInt (by decide)) dX0_execute_114 (by decide) (fun b_114 => ?_) (fun b_114 => absurd b_114 (by omega))
        refine lv_iload_n F.1 F.2.1 dX0_execute_122 rfl (lv_at hl 0 rfl) ?_
        refine lv_bipush (v := nI 11) F.1 F.2.1 dX0_execute_123 (by decide) ?_
        refine t_icmp_ne (tgt := 133) F (nI_toInt (by omega)) (nI_toInt (by decide)) dX0_execute_125 (by decide) (fun b_125 => ?_) (fun b_125 => absurd b_125 (by omega))
        exact x_retv F hr hlk hI (⟨by unfold lve; rw [if_pos (show (u.2.1 15 (q + n) = 8 ∧ (B.1 8).toInt = 0 ∨ u.2.1 15 (q + n) = 9 ∧ (B.1 8).toInt < 0) by omega), if_neg (show ¬ u.2.1 15 (q + n) = 10 by omega), if_neg (show ¬ u.2.1 15 (q + n) = 11 by omega), hkz, nI_clamp (show kz < 2 ^ 31 by omega)]; rfl, (((mch.FG u B).fld (by decide)).fld (by decide)).fld (by decide)⟩) dX0_execute_133
  · refine lv_aload_n F.1 F.2.1 dX0_execute_65 rfl (lv_at hl 2 rfl) ?_
    refine xg4 F hI dX0_execute_66 ?_
    refine lv_bipush (v := nI 8) F.1 F.2.1 dX0_execute_69 (by decide) ?_
    refine xl4 (x := B.1 8) F hI (by omega) rfl dX0_execute_71 ?_
    refine t_if_ne (tgt := 85) F rfl dX0_execute_72 (by decide) (fun b_72 => ?_) (fun b_72 => ?_)
    · refine lv_iload_n F.1 F.2.1 dX0_execute_85 rfl (lv_at hl 0 rfl) ?_
      refine lv_bipush (v := nI 9) F.1 F.2.1 dX0_execute_86 (by decide) ?_
      refine t_icmp_ne (tgt := 111) F (nI_toInt (by omega)) (nI_toInt (by decide)) dX0_execute_88 (by decide) (fun b_88 => ?_) (fun b_88 => absurd b_88 (by omega))
      refine lv_iload_n F.1 F.2.1 dX0_execute_111 rfl (lv_at hl 0 rfl) ?_
      refine lv_bipush (v := nI 10) F.1 F.2.1 dX0_execute_112 (by decide) ?_
      refine t_icmp_ne (tgt := 122) F (nI_toInt (by omega)) (nI_toInt (by decide)) dX0_execute_114 (by decide) (fun b_114 => ?_) (fun b_114 => absurd b_114 (by omega))
      refine lv_iload_n F.1 F.2.1 dX0_execute_122 rfl (lv_at hl 0 rfl) ?_
      refine lv_bipush (v := nI 11) F.1 F.2.1 dX0_execute_123 (by decide) ?_
      refine t_icmp_ne (tgt := 133) F (nI_toInt (by omega)) (nI_toInt (by decide)) dX0_execute_125 (by decide) (fun b_125 => ?_) (fun b_125 => absurd b_125 (by omega))
      exact x_retv F hr hlk hI (⟨by unfold lve; rw [if_neg (show ¬ (u.2.1 15 (q + n) = 8 ∧ (B.1 8).toInt = 0 ∨ u.2.1 15 (q + n) = 9 ∧ (B.1 8).toInt < 0) by omega), if_neg (show ¬ u.2.1 15 (q + n) = 10 by omega), if_neg (show ¬ u.2.1 15 (q + n) = 11 by omega)]; rfl, ((mch.FG u B).fld (by decide)).fld (by decide)⟩) dX0_execute_133
    · obtain ⟨kz, hkz, hkz31⟩ := hl5 (by omega)
      refine lv_aload_n F.1 F.2.1 dX0_execute_75 rfl (lv_at hl 2 rfl) ?_
      refine lv_aload_n F.1 F.2.1 dX0_execute_76 rfl (lv_at hl 2 rfl) ?_
      refine xg18 F hI dX0_execute_77 ?_
      refine lv_iload_n F.1 F.2.1 dX0_execute_80 rfl (lv_at hl 1 rfl) ?_
      refine xl18 (x := nI kz) F hI (by omega) hkz dX0_execute_81 ?_
      refine xp6 (v := kz) F hI dX0_execute_82 (fun H locs hI => ?_)
      refine lv_iload_n F.1 F.2.1 dX0_execute_85 rfl (lv_at hl 0 rfl) ?_
      refine lv_bipush (v := nI 9) F.1 F.2.1 dX0_execute_86 (by decide) ?_
      refine t_icmp_ne (tgt := 111) F (nI_toInt (by omega)) (nI_toInt (by decide)) dX0_execute_88 (by decide) (fun b_88 => ?_) (fun b_88 => absurd b_88 (by omega))
      refine lv_iload_n F.1 F.2.1 dX0_execute_111 rfl (lv_at hl 0 rfl) ?_
      refine lv_bipush (v := nI 10) F.1 F.2.1 dX0_execute_112 (by decide) ?_
      refine t_icmp_ne (tgt := 122) F (nI_toInt (by omega)) (nI_toInt (by decide)) dX0_execute_114 (by decide) (fun b_114 => ?_) (fun b_114 => absurd b_114 (by omega))
      refine lv_iload_n F.1 F.2.1 dX0_execute_122 rfl (lv_at hl 0 rfl) ?_
      refine lv_bipush (v := nI 11) F.1 F.2.1 dX0_execute_123 (by decide) ?_
      refine t_icmp_ne (tgt := 133) F (nI_toInt (by omega)) (nI_toInt (by decide)) dX0_execute_125 (by decide) (fun b_125 => ?_) (fun b_125 => absurd b_125 (by omega))
      exact x_retv F hr hlk hI (⟨by unfold lve; rw [if_pos (show (u.2.1 15 (q + n) = 8 ∧ (B.1 8).toInt = 0 ∨ u.2.1 15 (q + n) = 9 ∧ (B.1 8).toInt < 0) by omega), if_neg (show ¬ u.2.1 15 (q + n) = 10 by omega), if_neg (show ¬ u.2.1 15 (q + n) = 11 by omega), hkz, nI_clamp (show kz < 2 ^ 31 by omega)]; rfl, (((mch.FG u B).fld (by decide)).fld (by decide)).fld (by decide)⟩) dX0_execute_133
set_option maxHeartbeats 4000000 in
set_option maxRecDepth 100000 in
theorem metX0_tryOne (l : Launch) (g : va_G) (ad : Nat → Nat) (d : Nat → ClassId) (A : Nat → Prop) (u : XS) (hp : pOK (u.1 0) (u.2.1 1) (u.2.2 2)) (h8 : u.1 5 ≤ 8) (h32 : u.1 6 ≤ 32) : Met l yX0_tryOne (ws_ yX0_tryOne cX0_tryOne 4 none) ({ frames := 1, cells := 0, slots := 0, locals := 26 }) (xPc g ad d A u []) (xQv g ad d A (fun u2 => abX u2 = st1 (u.1 0) (u.2.1 1) (u.2.2 2) (abX u) ∧ mch u u2)) 0 0 A := by
  refine x_met (by decide) rfl (Nat.le_of_ble_eq_true rfl) ?_
  intro p e s m below meth c ls F hr hlk hI hl
  have hl : lv_has ls 4 [(0, .ref (ad 0))] := hl
  have hL := hp.1
  refine lv_aload_n F.1 F.2.1 dX0_tryOne_0 rfl (lv_at hl 0 rfl) ?_
  refine xg6 (v := u.1 6) F hI rfl dX0_tryOne_1 ?_
  refine lv_aload_n F.1 F.2.1 dX0_tryOne_4 rfl (lv_at hl 0 rfl) ?_
  refine xg0 (v := u.1 0) F hI rfl dX0_tryOne_5 ?_
  refine t_icmp_ge (tgt := 40) F (nI_toInt (by omega)) (nI_toInt (by omega)) dX0_tryOne_8 (by decide) (fun b_8 => ?_) (fun b_8 => ?_)
  · refine lv_aload_n F.1 F.2.1 dX0_tryOne_40 rfl (lv_at hl 0 rfl) ?_
    refine lv_iconst (v := nI 2) F.1 F.2.1 dX0_tryOne_41 (by decide) ?_
    refine xp7 (v := 2) F hI dX0_tryOne_42 (fun H locs hI => ?_)
    exact x_retv F hr hlk hI (tr_fault (Or.inl (by omega))) dX0_tryOne_45
  · have hv := hp.2 (u.1 6) (by omega)
    have h13 := hv.1
    refine lv_aload_n F.1 F.2.1 dX0_tryOne_11 rfl (lv_at hl 0 rfl) ?_
    refine lv_aload_n F.1 F.2.1 dX0_tryOne_12 rfl (lv_at hl 0 rfl) ?_
    refine xg1 F hI dX0_tryOne_13 ?_
    refine lv_aload_n F.1 F.2.1 dX0_tryOne_16 rfl (lv_at hl 0 rfl) ?_
    refine xg6 (v := u.1 6) F hI rfl dX0_tryOne_17 ?_
    refine xl1 (x := u.2.1 1 (u.1 6)) F hI (by omega) rfl dX0_tryOne_20 ?_
    refine lv_aload_n F.1 F.2.1 dX0_tryOne_21 rfl (lv_at hl 0 rfl) ?_
    refine xg2 F hI dX0_tryOne_22 ?_
    refine lv_aload_n F.1 F.2.1 dX0_tryOne_25 rfl (lv_at hl 0 rfl) ?_
    refine xg6 (v := u.1 6) F hI rfl dX0_tryOne_26 ?_
    refine xl2 (x := u.2.2 2 (u.1 6)) F hI (by omega) rfl dX0_tryOne_29 ?_
    refine lv_aload_n F.1 F.2.1 dX0_tryOne_30 rfl (lv_at hl 0 rfl) ?_
    refine xg5 (v := u.1 5) F hI rfl dX0_tryOne_31 ?_
    refine x_calli (n := 3) (rest := []) (av := [.int (nI (u.2.1 1 (u.1 6))), .int (u.2.2 2 (u.1 6)), .int (nI (u.1 5))]) F hI (metX0_faults l g ad d A u (u.2.1 1 (u.1 6)) (u.1 5) (u.2.2 2 (u.1 6)) h13 h8) (lw_V q138 q140 qs4 q25 q141) (by decide +kernel) ⟨by decide, by decide⟩ ⟨rfl, rfl⟩ ⟨Nat.zero_le _, Nat.zero_le _⟩ rfl hl.1 rfl (Nat.le_of_ble_eq_true rfl) dX0_tryOne_34 (fun r34 u34 H locs hp34 hI => ?_)
    rw [hp34.1] at hI
    rcases hp34.2 with ⟨hfl, rfl⟩ | ⟨hfl, rfl⟩
    · have hfl := hfl
      refine t_if_eq (tgt := 46) F (nI_toInt (by decide)) dX0_tryOne_37 (by decide) (fun b_37 => absurd b_37 (by omega)) (fun b_37 => ?_)
      refine lv_aload_n F.1 F.2.1 dX0_tryOne_40 rfl (lv_at hl 0 rfl) ?_
      refine lv_iconst (v := nI 2) F.1 F.2.1 dX0_tryOne_41 (by decide) ?_
      refine xp7 (v := 2) F hI dX0_tryOne_42 (fun H locs hI => ?_)
      exact x_retv F hr hlk hI (tr_fault (Or.inr hfl)) dX0_tryOne_45
    · have hb : ¬ (u.1 0 ≤ u.1 6 ∨ fl (u.2.1 1 (u.1 6)) (u.2.2 2 (u.1 6)) (u.1 5)) := fun q => q.elim (fun q => by omega) hfl
      obtain ⟨n1, n2, n3, n4⟩ := nofl hv hfl h8
      obtain ⟨k, hkd⟩ : ∃ k : Nat, k = (u.2.2 2 (u.1 6)).toNatClampNeg := ⟨_, rfl⟩
      rw [← hkd] at n3 n4
      have hka : u.2.1 1 (u.1 6) ≠ 0 → u.2.1 1 (u.1 6) ≠ 13 → u.2.2 2 (u.1 6) = nI k ∧ k ≤ 31 ∧ (u.2.1 1 (u.1 6) ≤ 9 → k ≤ 7) := fun h1 h2 => by obtain ⟨k2, a1, a2, a3, -, a5, -⟩ := vOK_k hv h1 h2; rw [hkd, a5]; exact ⟨a1, a2, a3⟩
      have hk0 : u.2.1 1 (u.1 6) ≤ 3 → u.2.1 1 (u.1 6) = 0 ∨ u.2.2 2 (u.1 6) = nI k ∧ k ≤ 7 := fun h => (Nat.eq_zero_or_pos (u.2.1 1 (u.1 6))).imp (fun q => q) (fun q => ⟨(hka (by omega) (by omega)).1, (hka (by omega) (by omega)).2.2 (by omega)⟩)
      refine t_if_eq (tgt := 46) F (nI_toInt (by decide)) dX0_tryOne_37 (by decide) (fun b_37 => ?_) (fun b_37 => absurd b_37 (by omega))
      refine lv_aload_n F.1 F.2.1 dX0_tryOne_46 rfl (lv_at hl 0 rfl) ?_
      refine xg1 F hI dX0_tryOne_47 ?_
      refine lv_aload_n F.1 F.2.1 dX0_tryOne_50 rfl (lv_at hl 0 rfl) ?_
      refine xg6 (v := u.1 6) F hI rfl dX0_tryOne_51 ?_
      refine xl1 (x := u.2.1 1 (u.1 6)) F hI (by omega) rfl dX0_tryOne_54 ?_
      refine lv_istore_n (lv' := [(1, .int (nI (u.2.1 1 (u.1 6)))), (0, .ref (ad 0))]) F.1 F.2.1 dX0_tryOne_55 rfl hl (by decide) rfl (fun ls hl => ?_)
      refine lv_aload_n F.1 F.2.1 dX0_tryOne_56 rfl (lv_at hl 1 rfl) ?_
      refine xg2 F hI dX0_tryOne_57 ?_
      refine lv_aload_n F.1 F.2.1 dX0_tryOne_60 rfl (lv_at hl 1 rfl) ?_
      refine xg6 (v := u.1 6) F hI rfl dX0_tryOne_61 ?_
      refine xl2 (x := u.2.2 2 (u.1 6)) F hI (by omega) rfl dX0_tryOne_64 ?_
      refine lv_istore_n (lv' := [(2, .int (u.2.2 2 (u.1 6))), (1, .int (nI (u.2.1 1 (u.1 6)))), (0, .ref (ad 0))]) F.1 F.2.1 dX0_tryOne_65 rfl hl (by decide) rfl (fun ls hl => ?_)
      refine lv_aload_n F.1 F.2.1 dX0_tryOne_66 rfl (lv_at hl 2 rfl) ?_
      refine lv_dup F.1 F.2.1 dX0_tryOne_67 rfl ?_
      refine xg8 (v := u.1 8) F hI rfl dX0_tryOne_68 ?_
      refine lv_iconst (v := nI 1) F.1 F.2.1 dX0_tryOne_71 (by decide) ?_
      refine n_iadd F dX0_tryOne_72 ?_
      refine xp8 (v := (u.1 8) + 1) F hI dX0_tryOne_73 (fun H locs hI => ?_)
      refine lv_iload_n F.1 F.2.1 dX0_tryOne_76 rfl (lv_at hl 1 rfl) ?_
      refine lv_bipush (v := nI 13) F.1 F.2.1 dX0_tryOne_77 (by decide) ?_
      refine t_icmp_ne (tgt := 88) F (nI_toInt (by omega)) (nI_toInt (by decide)) dX0_tryOne_79 (by decide) (fun b_79 => ?_) (fun b_79 => ?_)
      · refine lv_aload_n F.1 F.2.1 dX0_tryOne_88 rfl (lv_at hl 2 rfl) ?_
        refine xg6 (v := u.1 6) F hI rfl dX0_tryOne_89 ?_
        refine lv_iconst (v := nI 1) F.1 F.2.1 dX0_tryOne_92 (by decide) ?_
        refine n_iadd F dX0_tryOne_93 ?_
        refine lv_istore_n (lv' := [(3, .int (nI ((u.1 6) + 1))), (2, .int (u.2.2 2 (u.1 6))), (1, .int (nI (u.2.1 1 (u.1 6)))), (0, .ref (ad 0))]) F.1 F.2.1 dX0_tryOne_94 rfl hl (by decide) rfl (fun ls hl => ?_)
        refine lv_iload_n F.1 F.2.1 dX0_tryOne_95 rfl (lv_at hl 2 rfl) ?_
        refine lv_bipush (v := nI 12) F.1 F.2.1 dX0_tryOne_96 (by decide) ?_
        refine t_icmp_ne (tgt := 106) F (nI_toInt (by omega)) (nI_toInt (by decide)) dX0_tryOne_98 (by decide) (fun b_98 => ?_) (fun b_98 => ?_)
        · refine lv_iload_n F.1 F.2.1 dX0_tryOne_106 rfl (lv_at hl 2 rfl) ?_
          refine lv_bipush (v := nI 10) F.1 F.2.1 dX0_tryOne_107 (by decide) ?_
          refine t_icmp_eq (tgt := 118) F (nI_toInt (by omega)) (nI_toInt (by decide)) dX0_tryOne_109 (by decide) (fun b_109 => ?_) (fun b_109 => ?_)
          · refine lv_aload_n F.1 F.2.1 dX0_tryOne_118 rfl (lv_at hl 3 rfl) ?_
            refine lv_iload_n F.1 F.2.1 dX0_tryOne_119 rfl (lv_at hl 2 rfl) ?_
            refine lv_iload_n F.1 F.2.1 dX0_tryOne_120 rfl (lv_at hl 1 rfl) ?_
            refine x_calli (n := 2) (rest := []) (av := [.int (nI (u.2.1 1 (u.1 6))), .int (u.2.2 2 (u.1 6))]) F hI (metX0_popAndBranch l g ad d A (xs u 8 ((u.1 8) + 1)) (u.2.1 1 (u.1 6)) (u.2.2 2 (u.1 6)) (by omega) (show 1 ≤ u.1 5 from n2 (by omega)) h8) (lw_V q178 q180 qs14 q25 q181) (by decide +kernel) ⟨by decide, by decide⟩ ⟨rfl, rfl⟩ ⟨Nat.zero_le _, Nat.zero_le _⟩ rfl hl.1 rfl (Nat.le_of_ble_eq_true rfl) dX0_tryOne_121 (fun r121 u121 H locs hp121 hI => ?_)
            obtain ⟨hu2, hbr⟩ := hp121
            subst hu2
            obtain ⟨ha, hk31, hk7⟩ := hka (by omega) (by omega)
            rw [ha] at hbr
            rcases hbr with ⟨hbt, rfl⟩ | ⟨hbt, rfl⟩
            · have hbt := hbt
              refine lv_istore_n (lv' := [(3, .int (nI k)), (2, .int (u.2.2 2 (u.1 6))), (1, .int (nI (u.2.1 1 (u.1 6)))), (0, .ref (ad 0))]) F.1 F.2.1 dX0_tryOne_124 rfl hl (by decide) rfl (fun ls hl => ?_)
              refine lv_goto (tgt := 148) F.1 F.2.1 dX0_tryOne_125 (by decide) ?_
              refine lv_aload_n F.1 F.2.1 dX0_tryOne_148 rfl (lv_at hl 3 rfl) ?_
              refine lv_iload_n F.1 F.2.1 dX0_tryOne_149 rfl (lv_at hl 0 rfl) ?_
              refine xp6 (v := k) F hI dX0_tryOne_150 (fun H locs hI => ?_)
              exact x_retv F hr hlk hI (tr_jz hb (by omega) (Or.inl ⟨hbt, hkd⟩)) dX0_tryOne_153
            · have hbt := hbt
              refine lv_istore_n (lv' := [(3, .int (nI (u.1 6 + 1))), (2, .int (u.2.2 2 (u.1 6))), (1, .int (nI (u.2.1 1 (u.1 6)))), (0, .ref (ad 0))]) F.1 F.2.1 dX0_tryOne_124 rfl hl (by decide) rfl (fun ls hl => ?_)
              refine lv_goto (tgt := 148) F.1 F.2.1 dX0_tryOne_125 (by decide) ?_
              refine lv_aload_n F.1 F.2.1 dX0_tryOne_148 rfl (lv_at hl 3 rfl) ?_
              refine lv_iload_n F.1 F.2.1 dX0_tryOne_149 rfl (lv_at hl 0 rfl) ?_
              refine xp6 (v := u.1 6 + 1) F hI dX0_tryOne_150 (fun H locs hI => ?_)
              exact x_retv F hr hlk hI (tr_jz hb (by omega) (Or.inr ⟨hbt, rfl⟩)) dX0_tryOne_153
          · refine lv_iload_n F.1 F.2.1 dX0_tryOne_112 rfl (lv_at hl 2 rfl) ?_
            refine lv_bipush (v := nI 11) F.1 F.2.1 dX0_tryOne_113 (by decide) ?_
            refine t_icmp_ne (tgt := 128) F (nI_toInt (by omega)) (nI_toInt (by decide)) dX0_tryOne_115 (by decide) (fun b_115 => ?_) (fun b_115 => ?_)
            · refine lv_iload_n F.1 F.2.1 dX0_tryOne_128 rfl (lv_at hl 2 rfl) ?_
              refine lv_iconst (v := nI 3) F.1 F.2.1 dX0_tryOne_129 (by decide) ?_
              refine t_icmp_gt (tgt := 142) F (nI_toInt (by omega)) (nI_toInt (by decide)) dX0_tryOne_130 (by decide) (fun b_130 => ?_) (fun b_130 => ?_)
              · obtain ⟨ha, hk31, hk7⟩ := hka (by omega) (by omega)
                rw [ha] at hl
                refine lv_aload_n F.1 F.2.1 dX0_tryOne_142 rfl (lv_at hl 3 rfl) ?_
                refine lv_iload_n F.1 F.2.1 dX0_tryOne_143 rfl (lv_at hl 2 rfl) ?_
                refine lv_iload_n F.1 F.2.1 dX0_tryOne_144 rfl (lv_at hl 1 rfl) ?_
                refine x_callv (n := 2) (rest := []) (av := [.int (nI (u.2.1 1 (u.1 6))), .int (nI k)]) F hI (metX0_combineOne l g ad d A (xs u 8 ((u.1 8) + 1)) (u.2.1 1 (u.1 6)) k (by omega) (by omega) (n4 (Or.inr ⟨by omega, by omega⟩)) h8) (lw_V q186 q188 qs16 q25 q189) (by decide +kernel) ⟨by decide, by decide⟩ ⟨rfl, rfl⟩ ⟨Nat.zero_le _, Nat.zero_le _⟩ rfl hl.1 rfl (Nat.le_of_ble_eq_true rfl) dX0_tryOne_145 (fun u145 H locs hp145 hI => ?_)
                subst hp145
                refine lv_aload_n F.1 F.2.1 dX0_tryOne_148 rfl (lv_at hl 3 rfl) ?_
                refine lv_iload_n F.1 F.2.1 dX0_tryOne_149 rfl (lv_at hl 0 rfl) ?_
                refine xp6 (v := (u.1 6) + 1) F hI dX0_tryOne_150 (fun H locs hI => ?_)
                exact x_retv F hr hlk hI (by rw [hkd]; exact tr_cb hb (by omega) (by omega)) dX0_tryOne_153
              · refine lv_aload_n F.1 F.2.1 dX0_tryOne_133 rfl (lv_at hl 3 rfl) ?_
                refine lv_iload_n F.1 F.2.1 dX0_tryOne_134 rfl (lv_at hl 2 rfl) ?_
                refine lv_iload_n F.1 F.2.1 dX0_tryOne_135 rfl (lv_at hl 1 rfl) ?_
                refine x_callv (n := 2) (rest := []) (av := [.int (nI (u.2.1 1 (u.1 6))), .int (u.2.2 2 (u.1 6))]) F hI (metX0_moveOne l g ad d A (xs u 8 ((u.1 8) + 1)) (u.2.1 1 (u.1 6)) k (u.2.2 2 (u.1 6)) (by omega) (hk0 (by omega)) h8 (fun h => n2 (Or.inl h)) n1 (fun h => n4 (Or.inl h))) (lw_V q182 q184 qs15 q25 q185) (by decide +kernel) ⟨by decide, by decide⟩ ⟨rfl, rfl⟩ ⟨Nat.zero_le _, Nat.zero_le _⟩ rfl hl.1 rfl (Nat.le_of_ble_eq_true rfl) dX0_tryOne_136 (fun u136 H locs hp136 hI => ?_)
                subst hp136
                refine lv_goto (tgt := 148) F.1 F.2.1 dX0_tryOne_139 (by decide) ?_
                refine lv_aload_n F.1 F.2.1 dX0_tryOne_148 rfl (lv_at hl 3 rfl) ?_
                refine lv_iload_n F.1 F.2.1 dX0_tryOne_149 rfl (lv_at hl 0 rfl) ?_
                refine xp6 (v := (u.1 6) + 1) F hI dX0_tryOne_150 (fun H locs hI => ?_)
                exact x_retv F hr hlk hI (by rw [hkd]; exact tr_mv hb (by omega)) dX0_tryOne_153
            · refine lv_aload_n F.1 F.2.1 dX0_tryOne_118 rfl (lv_at hl 3 rfl) ?_
              refine lv_iload_n F.1 F.2.1 dX0_tryOne_119 rfl (lv_at hl 2 rfl) ?_
              refine lv_iload_n F.1 F.2.1 dX0_tryOne_120 rfl (lv_at hl 1 rfl) ?_
              refine x_calli (n := 2) (rest := []) (av := [.int (nI (u.2.1 1 (u.1 6))), .int (u.2.2 2 (u.1 6))]) F hI (metX0_popAndBranch l g ad d A (xs u 8 ((u.1 8) + 1)) (u.2.1 1 (u.1 6)) (u.2.2 2 (u.1 6)) (by omega) (show 1 ≤ u.1 5 from n2 (by omega)) h8) (lw_V q178 q180 qs14 q25 q181) (by decide +kernel) ⟨by decide, by decide⟩ ⟨rfl, rfl⟩ ⟨Nat.zero_le _, Nat.zero_le _⟩ rfl hl.1 rfl (Nat.le_of_ble_eq_true rfl) dX0_tryOne_121 (fun r121 u121 H locs hp121 hI => ?_)
              obtain ⟨hu2, hbr⟩ := hp121
              subst hu2
              obtain ⟨ha, hk31, hk7⟩ := hka (by omega) (by omega)
              rw [ha] at hbr
              rcases hbr with ⟨hbt, rfl⟩ | ⟨hbt, rfl⟩
              · have hbt := hbt
                refine lv_istore_n (lv' := [(3, .int (nI k)), (2, .int (u.2.2 2 (u.1 6))), (1, .int (nI (u.2.1 1 (u.1 6)))), (0, .ref (ad 0))]) F.1 F.2.1 dX0_tryOne_124 rfl hl (by decide) rfl (fun ls hl => ?_)
                refine lv_goto (tgt := 148) F.1 F.2.1 dX0_tryOne_125 (by decide) ?_
                refine lv_aload_n F.1 F.2.1 dX0_tryOne_148 rfl (lv_at hl 3 rfl) ?_
                refine lv_iload_n F.1 F.2.1 dX0_tryOne_149 rfl (lv_at hl 0 rfl) ?_
                refine xp6 (v := k) F hI dX0_tryOne_150 (fun H locs hI => ?_)
                exact x_retv F hr hlk hI (tr_jz hb (by omega) (Or.inl ⟨hbt, hkd⟩)) dX0_tryOne_153
              · have hbt := hbt
                refine lv_istore_n (lv' := [(3, .int (nI (u.1 6 + 1))), (2, .int (u.2.2 2 (u.1 6))), (1, .int (nI (u.2.1 1 (u.1 6)))), (0, .ref (ad 0))]) F.1 F.2.1 dX0_tryOne_124 rfl hl (by decide) rfl (fun ls hl => ?_)
                refine lv_goto (tgt := 148) F.1 F.2.1 dX0_tryOne_125 (by decide) ?_
                refine lv_aload_n F.1 F.2.1 dX0_tryOne_148 rfl (lv_at hl 3 rfl) ?_
                refine lv_iload_n F.1 F.2.1 dX0_tryOne_149 rfl (lv_at hl 0 rfl) ?_
                refine xp6 (v := u.1 6 + 1) F hI dX0_tryOne_150 (fun H locs hI => ?_)
                exact x_retv F hr hlk hI (tr_jz hb (by omega) (Or.inr ⟨hbt, rfl⟩)) dX0_tryOne_153
        · obtain ⟨ha, hk31, hk7⟩ := hka (by omega) (by omega)
          rw [ha] at hl
          refine lv_iload_n F.1 F.2.1 dX0_tryOne_101 rfl (lv_at hl 1 rfl) ?_
          refine lv_istore_n (lv' := [(3, .int (nI k)), (2, .int (nI k)), (1, .int (nI (u.2.1 1 (u.1 6)))), (0, .ref (ad 0))]) F.1 F.2.1 dX0_tryOne_102 rfl hl (by decide) rfl (fun ls hl => ?_)
          refine lv_goto (tgt := 148) F.1 F.2.1 dX0_tryOne_103 (by decide) ?_
          refine lv_aload_n F.1 F.2.1 dX0_tryOne_148 rfl (lv_at hl 3 rfl) ?_
          refine lv_iload_n F.1 F.2.1 dX0_tryOne_149 rfl (lv_at hl 0 rfl) ?_
          refine xp6 (v := k) F hI dX0_tryOne_150 (fun H locs hI => ?_)
          exact x_retv F hr hlk hI (by rw [hkd]; exact tr_jmp hb (by omega)) dX0_tryOne_153
      · refine lv_aload_n F.1 F.2.1 dX0_tryOne_82 rfl (lv_at hl 2 rfl) ?_
        refine lv_iconst (v := nI 1) F.1 F.2.1 dX0_tryOne_83 (by decide) ?_
        refine xp7 (v := 1) F hI dX0_tryOne_84 (fun H locs hI => ?_)
        exact x_retv F hr hlk hI (tr_halt hb (by omega)) dX0_tryOne_87
end
section
set_option maxRecDepth 100000
set_option maxHeartbeats 4000000 in
theorem tl_loop {p : Program} {l : Launch} {e : Env} {s : State} {m : MethodId} {args : Array Value} {below : List Frame} {meth : Method} {c : Code} {Q : State → Prop} {g : va_G} {ad : Nat → Nat} {d : Nat → ClassId} {A : Nat → Prop} {w : XS} {b ap dp : Nat} (F : CallFix p m c cX0_translate 8 s args lw_all RX0) (kk : ∀ (v : XS) (H : Heap) (locs : List Loc) (ls : Array Slot), v.1 = w.1 → (∀ k, k ≠ 20 → v.2.1 k = w.2.1 k) → v.2.2 = w.2.2 → (∀ j, j < 8 → v.2.1 20 j = j) → xI g ad d A s v H locs → lv_has ls 8 [(4, .int (nI 8)), (0, .ref (ad 0)), (1, .int (nI b)), (2, .int (nI ap)), (3, .int (nI dp))] → W p l e ({ frames := 3, cells := 0, slots := 0, locals := 71 } : Room) s m args below meth c H locs 0 0 Q (F0 m 31 ls [])) : ∀ (k i : Nat) (v : XS) (H : Heap) (locs : List Loc) (ls : Array Slot), i + k = 8 → v.1 = w.1 → (∀ k, k ≠ 20 → v.2.1 k = w.2.1 k) → v.2.2 = w.2.2 → (∀ j, j < i → v.2.1 20 j = j) → xI g ad d A s v H locs → lv_has ls 8 [(4, .int (nI i)), (0, .ref (ad 0)), (1, .int (nI b)), (2, .int (nI ap)), (3, .int (nI dp))] → W p l e ({ frames := 3, cells := 0, slots := 0, locals := 71 } : Room) s m args below meth c H locs 0 0 Q (F0 m 8 ls []) := by
  intro k
  induction k with
  | zero =>
    intro i v H locs ls hik h1 h2 h3 h4 hI hl
    obtain rfl : i = 8 := by omega
    refine lv_iload F.1 F.2.1 dX0_translate_8 (lv_at hl 0 rfl) ?_
    refine lv_bipush (v := nI 8) F.1 F.2.1 dX0_translate_10 (by decide) ?_
    refine t_icmp_ge (tgt := 31) F (nI_toInt (by decide)) (nI_toInt (by decide)) dX0_translate_12 (by decide) (fun b_12 => ?_) (fun b_12 => absurd b_12 (by omega))
    exact kk v H locs ls h1 h2 h3 h4 hI hl
  | succ k ih =>
    intro i v H locs ls hik h1 h2 h3 h4 hI hl
    refine lv_iload F.1 F.2.1 dX0_translate_8 (lv_at hl 0 rfl) ?_
    refine lv_bipush (v := nI 8) F.1 F.2.1 dX0_translate_10 (by decide) ?_
    refine t_icmp_ge (tgt := 31) F (nI_toInt (by omega)) (nI_toInt (by decide)) dX0_translate_12 (by decide) (fun b_12 => absurd b_12 (by omega)) (fun b_12 => ?_)
    refine lv_aload_n F.1 F.2.1 dX0_translate_15 rfl (lv_at hl 1 rfl) ?_
    refine xg20 F hI dX0_translate_16 ?_
    refine lv_iload F.1 F.2.1 dX0_translate_19 (lv_at hl 0 rfl) ?_
    refine lv_iload F.1 F.2.1 dX0_translate_21 (lv_at hl 0 rfl) ?_
    refine lv_i2b (v := nI i) F.1 F.2.1 dX0_translate_23 (n_byte _ (by omega)) ?_
    refine xt20 F hI (by omega) (by omega) dX0_translate_24 (fun H locs hI => ?_)
    refine lv_iinc (v := nI (i + 1)) (lv' := [(4, .int (nI (i + 1))), (0, .ref (ad 0)), (1, .int (nI b)), (2, .int (nI ap)), (3, .int (nI dp))]) F.1 F.2.1 dX0_translate_25 hl (k := 0) rfl (n_inc _) (by decide) rfl (fun ls hl => ?_)
    refine lv_goto (tgt := 8) F.1 F.2.1 dX0_translate_28 (by decide) ?_
    exact ih (i + 1) (xn v 20 i i) H locs ls (by omega) h1 (fun j hj => by rw [← h2 j hj]; simp [xn, va_up, hj]) h3 (fun j hj => by
      by_cases e : j = i
      · subst e; simp [xn, va_up]
      · have q := h4 j (by omega); simp [xn, va_up, e, q]) hI hl
set_option maxHeartbeats 4000000 in
theorem tl_main {p : Program} {l : Launch} {e : Env} {s : State} {m : MethodId} {args : Array Value} {below : List Frame} {meth : Method} {c : Code} {Q : State → Prop} {g : va_G} {ad : Nat → Nat} {d : Nat → ClassId} {A : Nat → Prop} {w : XS} {b ap dp : Nat} (F : CallFix p m c cX0_translate 8 s args lw_all RX0) (hp : pOK (w.1 0) (w.2.1 1) (w.2.2 2)) (hc : w.1 14 ≤ 600) (kk : ∀ (v : XS) (H : Heap) (locs : List Loc) (ls : Array Slot) (dn t : Nat), t ≤ 1 → 1 ≤ dn + t → dn ≤ 12 → clP (w.1 0) (w.2.1 1) (w.2.2 2) w v dp ap (dn + t) dn → xI g ad d A s v H locs → lv_has ls 8 [(0, .ref (ad 0)), (1, .int (nI b)), (5, .int (nI dn)), (7, .int (nI t))] → W p l e ({ frames := 3, cells := 0, slots := 0, locals := 71 } : Room) s m args below meth c H locs 0 0 Q (F0 m 154 ls [])) : ∀ (k dn pp nn : Nat) (v : XS) (H : Heap) (locs : List Loc) (ls : Array Slot), dn + k = 12 → TI (w.1 0) (w.2.1 1) (w.2.2 2) w v dp ap pp dn nn → xI g ad d A s v H locs → lv_has ls 8 [(7, .int (nI 0)), (6, .int (nI 1)), (5, .int (nI dn)), (4, .int (nI pp)), (0, .ref (ad 0)), (1, .int (nI b))] → W p l e ({ frames := 3, cells := 0, slots := 0, locals := 71 } : Room) s m args below meth c H locs 0 0 Q (F0 m 43 ls []) := by
  intro k
  induction k with
  | zero =>
    intro dn pp nn v H locs ls hk hT hI hl
    have hL := hp.1
    have h19 := hT.2.2.1
    have hnn := hT.2.1
    have h14 := hT.1.1
    have hpp32 := hT.2.2.2.2.1
    have hL0 : v.1 0 = w.1 0 := hT.1.2.2.2.1 0 (by decide) (by decide)
    have hO : v.2.1 1 = w.2.1 1 := hT.1.2.2.2.2.1 1 (by decide) (by decide) (by decide) (by decide)
    have hN : v.2.2 2 = w.2.2 2 := hT.1.2.2.2.2.2 2 (by decide)
    refine lv_iload F.1 F.2.1 dX0_translate_43 (lv_at hl 1 rfl) ?_
    refine t_if_eq (tgt := 132) F (nI_toInt (by decide)) dX0_translate_45 (by decide) (fun b_45 => absurd b_45 (by omega)) (fun b_45 => ?_)
    refine lv_iload F.1 F.2.1 dX0_translate_48 (lv_at hl 2 rfl) ?_
    refine lv_bipush (v := nI 12) F.1 F.2.1 dX0_translate_50 (by decide) ?_
    refine t_icmp_ge (tgt := 132) F (nI_toInt (by omega)) (nI_toInt (by decide)) dX0_translate_52 (by decide) (fun b_52 => ?_) (fun b_52 => absurd b_52 (by omega))
    refine lv_iload F.1 F.2.1 dX0_translate_132 (lv_at hl 1 rfl) ?_
    refine t_if_eq (tgt := 154) F (nI_toInt (by decide)) dX0_translate_134 (by decide) (fun b_134 => absurd b_134 (by omega)) (fun b_134 => ?_)
    refine lv_aload_n F.1 F.2.1 dX0_translate_137 rfl (lv_at hl 4 rfl) ?_
    refine x_callv (n := 0) (rest := []) (av := []) F hI (metX0_straighten l g ad d A v h19 (by omega) hT.2.2.2.1) (lw_V q142 q144 qs5 q25 q145) (by decide +kernel) ⟨by decide, by decide⟩ ⟨rfl, rfl⟩ ⟨Nat.zero_le _, Nat.zero_le _⟩ rfl hl.1 rfl (Nat.le_of_ble_eq_true rfl) dX0_translate_138 (fun u138 H locs hp138 hI => ?_)
    have e19 := hp138.f19
    have e14 := hp138.f14
    refine lv_aload_n F.1 F.2.1 dX0_translate_141 rfl (lv_at hl 4 rfl) ?_
    refine lv_bipush (v := nI 7) F.1 F.2.1 dX0_translate_142 (by decide) ?_
    refine lv_iload F.1 F.2.1 dX0_translate_144 (lv_at hl 3 rfl) ?_
    refine lv_aload_n F.1 F.2.1 dX0_translate_146 rfl (lv_at hl 4 rfl) ?_
    refine xg19 (v := v.1 19) F hI e19 dX0_translate_147 ?_
    refine lv_iconst (v := nI 0) F.1 F.2.1 dX0_translate_150 (by decide) ?_
    refine x_callv (n := 4) (rest := []) (av := [.int (nI 7), .int (nI pp), .int (nI (v.1 19)), .int (nI 0)]) F hI (metX0_write l g ad d A u138 7 pp (v.1 19) (nI 0) (by omega) (by omega) (by omega) (show u138.1 14 + 0 < 640 by omega)) (lw_V q146 q148 qs6 q25 q149) (by decide +kernel) ⟨by decide, by decide⟩ ⟨rfl, rfl⟩ ⟨Nat.zero_le _, Nat.zero_le _⟩ rfl hl.1 rfl (Nat.le_of_ble_eq_true rfl) dX0_translate_151 (fun u151 H locs hp151 hI => ?_)
    subst hp151
    exact kk (xwr u138 7 pp (v.1 19) (nI 0)) H locs ls dn 0 (by omega) (by omega) (by omega) (cl_go hT hp138 (by omega) hc) hI (lv_sub hl [4, 5, 2, 0] rfl)
  | succ k ih =>
    intro dn pp nn v H locs ls hk hT hI hl
    have hL := hp.1
    have h19 := hT.2.2.1
    have hnn := hT.2.1
    have h14 := hT.1.1
    have hpp32 := hT.2.2.2.2.1
    have hL0 : v.1 0 = w.1 0 := hT.1.2.2.2.1 0 (by decide) (by decide)
    have hO : v.2.1 1 = w.2.1 1 := hT.1.2.2.2.2.1 1 (by decide) (by decide) (by decide) (by decide)
    have hN : v.2.2 2 = w.2.2 2 := hT.1.2.2.2.2.2 2 (by decide)
    refine lv_iload F.1 F.2.1 dX0_translate_43 (lv_at hl 1 rfl) ?_
    refine t_if_eq (tgt := 132) F (nI_toInt (by decide)) dX0_translate_45 (by decide) (fun b_45 => absurd b_45 (by omega)) (fun b_45 => ?_)
    refine lv_iload F.1 F.2.1 dX0_translate_48 (lv_at hl 2 rfl) ?_
    refine lv_bipush (v := nI 12) F.1 F.2.1 dX0_translate_50 (by decide) ?_
    refine t_icmp_ge (tgt := 132) F (nI_toInt (by omega)) (nI_toInt (by decide)) dX0_translate_52 (by decide) (fun b_52 => absurd b_52 (by omega)) (fun b_52 => ?_)
    refine lv_iload F.1 F.2.1 dX0_translate_55 (lv_at hl 3 rfl) ?_
    refine lv_aload_n F.1 F.2.1 dX0_translate_57 rfl (lv_at hl 4 rfl) ?_
    refine xg0 (v := w.1 0) F hI hL0 dX0_translate_58 ?_
    refine t_icmp_ge (tgt := 89) F (nI_toInt (by omega)) (nI_toInt (by omega)) dX0_translate_61 (by decide) (fun b_61 => ?_) (fun b_61 => ?_)
    · refine lv_aload_n F.1 F.2.1 dX0_translate_89 rfl (lv_at hl 4 rfl) ?_
      refine x_callv (n := 0) (rest := []) (av := []) F hI (metX0_straighten l g ad d A v h19 (by omega) hT.2.2.2.1) (lw_V q142 q144 qs5 q25 q145) (by decide +kernel) ⟨by decide, by decide⟩ ⟨rfl, rfl⟩ ⟨Nat.zero_le _, Nat.zero_le _⟩ rfl hl.1 rfl (Nat.le_of_ble_eq_true rfl) dX0_translate_90 (fun u90 H locs hp90 hI => ?_)
      have e19 := hp90.f19
      have e14 := hp90.f14
      refine lv_aload_n F.1 F.2.1 dX0_translate_93 rfl (lv_at hl 4 rfl) ?_
      refine lv_bipush (v := nI 11) F.1 F.2.1 dX0_translate_94 (by decide) ?_
      refine lv_iload F.1 F.2.1 dX0_translate_96 (lv_at hl 3 rfl) ?_
      refine lv_aload_n F.1 F.2.1 dX0_translate_98 rfl (lv_at hl 4 rfl) ?_
      refine xg19 (v := v.1 19) F hI e19 dX0_translate_99 ?_
      refine lv_iconst (v := nI 0) F.1 F.2.1 dX0_translate_102 (by decide) ?_
      refine x_callv (n := 4) (rest := []) (av := [.int (nI 11), .int (nI pp), .int (nI (v.1 19)), .int (nI 0)]) F hI (metX0_write l g ad d A u90 11 pp (v.1 19) (nI 0) (by omega) (by omega) (by omega) (show u90.1 14 + 0 < 640 by omega)) (lw_V q146 q148 qs6 q25 q149) (by decide +kernel) ⟨by decide, by decide⟩ ⟨rfl, rfl⟩ ⟨Nat.zero_le _, Nat.zero_le _⟩ rfl hl.1 rfl (Nat.le_of_ble_eq_true rfl) dX0_translate_103 (fun u103 H locs hp103 hI => ?_)
      subst hp103
      refine lv_iconst (v := nI 1) F.1 F.2.1 dX0_translate_106 (by decide) ?_
      refine lv_istore (lv' := [(7, .int (nI 1)), (6, .int (nI 1)), (5, .int (nI dn)), (4, .int (nI pp)), (0, .ref (ad 0)), (1, .int (nI b))]) F.1 F.2.1 dX0_translate_107 hl (by decide) rfl (fun ls hl => ?_)
      refine lv_iconst (v := nI 0) F.1 F.2.1 dX0_translate_109 (by decide) ?_
      refine lv_istore (lv' := [(6, .int (nI 0)), (7, .int (nI 1)), (5, .int (nI dn)), (4, .int (nI pp)), (0, .ref (ad 0)), (1, .int (nI b))]) F.1 F.2.1 dX0_translate_110 hl (by decide) rfl (fun ls hl => ?_)
      refine lv_goto (tgt := 43) F.1 F.2.1 dX0_translate_112 (by decide) ?_
      refine lv_iload F.1 F.2.1 dX0_translate_43 (lv_at hl 0 rfl) ?_
      refine t_if_eq (tgt := 132) F (nI_toInt (by decide)) dX0_translate_45 (by decide) (fun b_45 => ?_) (fun b_45 => absurd b_45 (by omega))
      refine lv_iload F.1 F.2.1 dX0_translate_132 (lv_at hl 0 rfl) ?_
      refine t_if_eq (tgt := 154) F (nI_toInt (by decide)) dX0_translate_134 (by decide) (fun b_134 => ?_) (fun b_134 => absurd b_134 (by omega))
      exact kk (xwr u90 11 pp (v.1 19) (nI 0)) H locs ls dn 1 (by omega) (by omega) (by omega) (cl_trap hT hp90 (Or.inl (by omega)) (by omega) hc) hI (lv_sub hl [4, 5, 2, 1] rfl)
    · have hv := hp.2 pp (by omega)
      have h13 := hv.1
      refine lv_aload_n F.1 F.2.1 dX0_translate_64 rfl (lv_at hl 4 rfl) ?_
      refine lv_aload_n F.1 F.2.1 dX0_translate_65 rfl (lv_at hl 4 rfl) ?_
      refine xg1 F hI dX0_translate_66 ?_
      refine lv_iload F.1 F.2.1 dX0_translate_69 (lv_at hl 3 rfl) ?_
      refine xl1 (x := w.2.1 1 pp) F hI (by omega) (by rw [hO]) dX0_translate_71 ?_
      refine lv_aload_n F.1 F.2.1 dX0_translate_72 rfl (lv_at hl 4 rfl) ?_
      refine xg2 F hI dX0_translate_73 ?_
      refine lv_iload F.1 F.2.1 dX0_translate_76 (lv_at hl 3 rfl) ?_
      refine xl2 (x := w.2.2 2 pp) F hI (by omega) (by rw [hN]) dX0_translate_78 ?_
      refine lv_aload_n F.1 F.2.1 dX0_translate_79 rfl (lv_at hl 4 rfl) ?_
      refine xg19 (v := v.1 19) F hI rfl dX0_translate_80 ?_
      refine x_calli (n := 3) (rest := []) (av := [.int (nI (w.2.1 1 pp)), .int (w.2.2 2 pp), .int (nI (v.1 19))]) F hI (metX0_faults l g ad d A v (w.2.1 1 pp) (v.1 19) (w.2.2 2 pp) h13 h19) (lw_V q138 q140 qs4 q25 q141) (by decide +kernel) ⟨by decide, by decide⟩ ⟨rfl, rfl⟩ ⟨Nat.zero_le _, Nat.zero_le _⟩ rfl hl.1 rfl (Nat.le_of_ble_eq_true rfl) dX0_translate_83 (fun r83 u83 H locs hp83 hI => ?_)
      rw [hp83.1] at hI
      rcases hp83.2 with ⟨hfl, rfl⟩ | ⟨hfl, rfl⟩
      · have hfl := hfl
        refine t_if_eq (tgt := 115) F (nI_toInt (by decide)) dX0_translate_86 (by decide) (fun b_86 => absurd b_86 (by omega)) (fun b_86 => ?_)
        refine lv_aload_n F.1 F.2.1 dX0_translate_89 rfl (lv_at hl 4 rfl) ?_
        refine x_callv (n := 0) (rest := []) (av := []) F hI (metX0_straighten l g ad d A v h19 (by omega) hT.2.2.2.1) (lw_V q142 q144 qs5 q25 q145) (by decide +kernel) ⟨by decide, by decide⟩ ⟨rfl, rfl⟩ ⟨Nat.zero_le _, Nat.zero_le _⟩ rfl hl.1 rfl (Nat.le_of_ble_eq_true rfl) dX0_translate_90 (fun u90 H locs hp90 hI => ?_)
        have e19 := hp90.f19
        have e14 := hp90.f14
        refine lv_aload_n F.1 F.2.1 dX0_translate_93 rfl (lv_at hl 4 rfl) ?_
        refine lv_bipush (v := nI 11) F.1 F.2.1 dX0_translate_94 (by decide) ?_
        refine lv_iload F.1 F.2.1 dX0_translate_96 (lv_at hl 3 rfl) ?_
        refine lv_aload_n F.1 F.2.1 dX0_translate_98 rfl (lv_at hl 4 rfl) ?_
        refine xg19 (v := v.1 19) F hI e19 dX0_translate_99 ?_
        refine lv_iconst (v := nI 0) F.1 F.2.1 dX0_translate_102 (by decide) ?_
        refine x_callv (n := 4) (rest := []) (av := [.int (nI 11), .int (nI pp), .int (nI (v.1 19)), .int (nI 0)]) F hI (metX0_write l g ad d A u90 11 pp (v.1 19) (nI 0) (by omega) (by omega) (by omega) (show u90.1 14 + 0 < 640 by omega)) (lw_V q146 q148 qs6 q25 q149) (by decide +kernel) ⟨by decide, by decide⟩ ⟨rfl, rfl⟩ ⟨Nat.zero_le _, Nat.zero_le _⟩ rfl hl.1 rfl (Nat.le_of_ble_eq_true rfl) dX0_translate_103 (fun u103 H locs hp103 hI => ?_)
        subst hp103
        refine lv_iconst (v := nI 1) F.1 F.2.1 dX0_translate_106 (by decide) ?_
        refine lv_istore (lv' := [(7, .int (nI 1)), (6, .int (nI 1)), (5, .int (nI dn)), (4, .int (nI pp)), (0, .ref (ad 0)), (1, .int (nI b))]) F.1 F.2.1 dX0_translate_107 hl (by decide) rfl (fun ls hl => ?_)
        refine lv_iconst (v := nI 0) F.1 F.2.1 dX0_translate_109 (by decide) ?_
        refine lv_istore (lv' := [(6, .int (nI 0)), (7, .int (nI 1)), (5, .int (nI dn)), (4, .int (nI pp)), (0, .ref (ad 0)), (1, .int (nI b))]) F.1 F.2.1 dX0_translate_110 hl (by decide) rfl (fun ls hl => ?_)
        refine lv_goto (tgt := 43) F.1 F.2.1 dX0_translate_112 (by decide) ?_
        refine lv_iload F.1 F.2.1 dX0_translate_43 (lv_at hl 0 rfl) ?_
        refine t_if_eq (tgt := 132) F (nI_toInt (by decide)) dX0_translate_45 (by decide) (fun b_45 => ?_) (fun b_45 => absurd b_45 (by omega))
        refine lv_iload F.1 F.2.1 dX0_translate_132 (lv_at hl 0 rfl) ?_
        refine t_if_eq (tgt := 154) F (nI_toInt (by decide)) dX0_translate_134 (by decide) (fun b_134 => ?_) (fun b_134 => absurd b_134 (by omega))
        exact kk (xwr u90 11 pp (v.1 19) (nI 0)) H locs ls dn 1 (by omega) (by omega) (by omega) (cl_trap hT hp90 (Or.inr hfl) (by omega) hc) hI (lv_sub hl [4, 5, 2, 1] rfl)
      · have hfl := hfl
        refine t_if_eq (tgt := 115) F (nI_toInt (by decide)) dX0_translate_86 (by decide) (fun b_86 => ?_) (fun b_86 => absurd b_86 (by omega))
        refine lv_iinc (v := nI (dn + 1)) (lv' := [(5, .int (nI (dn + 1))), (7, .int (nI 0)), (6, .int (nI 1)), (4, .int (nI pp)), (0, .ref (ad 0)), (1, .int (nI b))]) F.1 F.2.1 dX0_translate_115 hl (k := 2) rfl (n_inc _) (by decide) rfl (fun ls hl => ?_)
        refine lv_aload_n F.1 F.2.1 dX0_translate_118 rfl (lv_at hl 4 rfl) ?_
        refine lv_iload F.1 F.2.1 dX0_translate_119 (lv_at hl 3 rfl) ?_
        refine x_calli (n := 1) (rest := []) (av := [.int (nI pp)]) F hI (metX0_translateOne l g ad d A v pp (by omega) (by omega) (by rw [hO, hN]; exact hv) (by rw [hO, hN]; exact hfl) h19 (by omega) hT.2.2.2.1) (lw_V q150 q152 qs7 q25 q153) (by decide +kernel) ⟨by decide, by decide⟩ ⟨rfl, rfl⟩ ⟨Nat.zero_le _, Nat.zero_le _⟩ rfl hl.1 rfl (Nat.le_of_ble_eq_true rfl) dX0_translate_121 (fun r121 u121 H locs hp121 hI => ?_)
        rw [hO, hN] at hp121
        rcases cl_one hT (by omega) hL hv hfl (by omega) hc hp121 with ⟨rfl, n', hT'⟩ | ⟨rfl, hcl⟩
        · have hT' := hT'
          refine lv_istore (lv' := [(6, .int (nI 1)), (5, .int (nI (dn + 1))), (7, .int (nI 0)), (4, .int (nI pp)), (0, .ref (ad 0)), (1, .int (nI b))]) F.1 F.2.1 dX0_translate_124 hl (by decide) rfl (fun ls hl => ?_)
          refine lv_iinc (v := nI (pp + 1)) (lv' := [(4, .int (nI (pp + 1))), (6, .int (nI 1)), (5, .int (nI (dn + 1))), (7, .int (nI 0)), (0, .ref (ad 0)), (1, .int (nI b))]) F.1 F.2.1 dX0_translate_126 hl (k := 3) rfl (n_inc _) (by decide) rfl (fun ls hl => ?_)
          refine lv_goto (tgt := 43) F.1 F.2.1 dX0_translate_129 (by decide) ?_
          exact ih (dn + 1) (pp + 1) n' u121 H locs ls (by omega) hT' hI (lv_sub hl [3, 1, 2, 0, 4, 5] rfl)
        · have hcl := hcl
          refine lv_istore (lv' := [(6, .int (nI 0)), (5, .int (nI (dn + 1))), (7, .int (nI 0)), (4, .int (nI pp)), (0, .ref (ad 0)), (1, .int (nI b))]) F.1 F.2.1 dX0_translate_124 hl (by decide) rfl (fun ls hl => ?_)
          refine lv_iinc (v := nI (pp + 1)) (lv' := [(4, .int (nI (pp + 1))), (6, .int (nI 0)), (5, .int (nI (dn + 1))), (7, .int (nI 0)), (0, .ref (ad 0)), (1, .int (nI b))]) F.1 F.2.1 dX0_translate_126 hl (k := 3) rfl (n_inc _) (by decide) rfl (fun ls hl => ?_)
          refine lv_goto (tgt := 43) F.1 F.2.1 dX0_translate_129 (by decide) ?_
          refine lv_iload F.1 F.2.1 dX0_translate_43 (lv_at hl 1 rfl) ?_
          refine t_if_eq (tgt := 132) F (nI_toInt (by decide)) dX0_translate_45 (by decide) (fun b_45 => ?_) (fun b_45 => absurd b_45 (by omega))
          refine lv_iload F.1 F.2.1 dX0_translate_132 (lv_at hl 1 rfl) ?_
          refine t_if_eq (tgt := 154) F (nI_toInt (by decide)) dX0_translate_134 (by decide) (fun b_134 => ?_) (fun b_134 => absurd b_134 (by omega))
          exact kk u121 H locs ls (dn + 1) 0 (by omega) (by omega) (by omega) hcl hI (lv_sub hl [4, 5, 2, 3] rfl)
set_option maxHeartbeats 4000000 in
set_option maxRecDepth 100000 in
theorem metX0_translate (l : Launch) (g : va_G) (ad : Nat → Nat) (d : Nat → ClassId) (A : Nat → Prop) (u : XS) (b ap dp : Nat) (hp : pOK (u.1 0) (u.2.1 1) (u.2.2 2)) (hb : b < 48) (ha : ap ≤ 32) (hd : dp ≤ 8) (hc : u.1 14 ≤ 600) : Met l yX0_translate (ws_ yX0_translate cX0_translate 8 none) ({ frames := 3, cells := 0, slots := 0, locals := 71 }) (xPc g ad d A u [.int (nI b), .int (nI ap), .int (nI dp)]) (xQv g ad d A (fun u2 => trP (u.1 0) (u.2.1 1) (u.2.2 2) u u2 b dp ap)) 0 0 A := by
  refine x_met (by decide) rfl (Nat.le_of_ble_eq_true rfl) ?_
  intro p e s m below meth c ls F hr hlk hI hl
  have hl : lv_has ls 8 [(0, .ref (ad 0)), (1, .int (nI b)), (2, .int (nI ap)), (3, .int (nI dp))] := hl
  refine lv_aload_n F.1 F.2.1 dX0_translate_0 rfl (lv_at hl 0 rfl) ?_
  refine lv_iload_n F.1 F.2.1 dX0_translate_1 rfl (lv_at hl 3 rfl) ?_
  refine xp19 (v := dp) F hI dX0_translate_2 (fun H locs hI => ?_)
  refine lv_iconst (v := nI 0) F.1 F.2.1 dX0_translate_5 (by decide) ?_
  refine lv_istore (lv' := [(4, .int (nI 0)), (0, .ref (ad 0)), (1, .int (nI b)), (2, .int (nI ap)), (3, .int (nI dp))]) F.1 F.2.1 dX0_translate_6 hl (by decide) rfl (fun ls hl => ?_)
  refine tl_loop (w := xs u 19 dp) (b := b) (ap := ap) (dp := dp) F (fun v H locs ls h1 h2 h3 h4 hI hl => ?_) 8 0 (xs u 19 dp) _ _ ls rfl rfl (fun _ _ => rfl) rfl (fun _ h => absurd h (by omega)) hI (lv_sub hl [0, 1, 2, 3, 4] rfl)
  have g1 : ∀ k, k ≠ 19 → v.1 k = u.1 k := fun k hk => by rw [h1]; simp [xs, va_up, hk]
  have g0 : v.1 0 = u.1 0 := g1 0 (by decide)
  have gO : v.2.1 1 = u.2.1 1 := h2 1 (by decide)
  have gN : v.2.2 2 = u.2.2 2 := by rw [h3]; rfl
  have g14 : v.1 14 = u.1 14 := g1 14 (by decide)
  have g19 : v.1 19 = dp := by rw [h1]; rfl
  refine lv_iload_n F.1 F.2.1 dX0_translate_31 rfl (lv_at hl 3 rfl) ?_
  refine lv_istore (lv' := [(4, .int (nI ap)), (0, .ref (ad 0)), (1, .int (nI b)), (2, .int (nI ap)), (3, .int (nI dp))]) F.1 F.2.1 dX0_translate_32 hl (by decide) rfl (fun ls hl => ?_)
  refine lv_iconst (v := nI 0) F.1 F.2.1 dX0_translate_34 (by decide) ?_
  refine lv_istore (lv' := [(5, .int (nI 0)), (4, .int (nI ap)), (0, .ref (ad 0)), (1, .int (nI b)), (2, .int (nI ap)), (3, .int (nI dp))]) F.1 F.2.1 dX0_translate_35 hl (by decide) rfl (fun ls hl => ?_)
  refine lv_iconst (v := nI 1) F.1 F.2.1 dX0_translate_37 (by decide) ?_
  refine lv_istore (lv' := [(6, .int (nI 1)), (5, .int (nI 0)), (4, .int (nI ap)), (0, .ref (ad 0)), (1, .int (nI b)), (2, .int (nI ap)), (3, .int (nI dp))]) F.1 F.2.1 dX0_translate_38 hl (by decide) rfl (fun ls hl => ?_)
  refine lv_iconst (v := nI 0) F.1 F.2.1 dX0_translate_40 (by decide) ?_
  refine lv_istore (lv' := [(7, .int (nI 0)), (6, .int (nI 1)), (5, .int (nI 0)), (4, .int (nI ap)), (0, .ref (ad 0)), (1, .int (nI b)), (2, .int (nI ap)), (3, .int (nI dp))]) F.1 F.2.1 dX0_translate_41 hl (by decide) rfl (fun ls hl => ?_)
  refine tl_main (w := v) (b := b) (ap := ap) (dp := dp) F (by rw [g0, gO, gN]; exact hp) (by omega) (fun v2 H locs ls dn t ht1 ht2 hdn hcl hI hl => ?_) 12 0 ap 0 v _ _ ls rfl (TI_0 g19 hd ha h4) hI (lv_sub hl [0, 1, 2, 3, 4, 5] rfl)
  rw [g0, gO, gN] at hcl
  obtain rfl | rfl : t = 0 ∨ t = 1 := by omega
  · have hcl := hcl
    refine lv_aload_n F.1 F.2.1 dX0_translate_154 rfl (lv_at hl 0 rfl) ?_
    refine xg13 F hI dX0_translate_155 ?_
    refine lv_iload_n F.1 F.2.1 dX0_translate_158 rfl (lv_at hl 1 rfl) ?_
    refine lv_iload F.1 F.2.1 dX0_translate_159 (lv_at hl 2 rfl) ?_
    refine lv_i2b (v := nI dn) F.1 F.2.1 dX0_translate_161 (n_byte _ (by omega)) ?_
    refine xt13 F hI (by omega) (by omega) dX0_translate_162 (fun H locs hI => ?_)
    refine lv_aload_n F.1 F.2.1 dX0_translate_163 rfl (lv_at hl 0 rfl) ?_
    refine xg12 F hI dX0_translate_164 ?_
    refine lv_iload_n F.1 F.2.1 dX0_translate_167 rfl (lv_at hl 1 rfl) ?_
    refine lv_iload F.1 F.2.1 dX0_translate_168 (lv_at hl 3 rfl) ?_
    refine t_if_eq (tgt := 180) F (nI_toInt (by decide)) dX0_translate_170 (by decide) (fun b_170 => ?_) (fun b_170 => absurd b_170 (by omega))
    refine lv_iload F.1 F.2.1 dX0_translate_180 (lv_at hl 2 rfl) ?_
    refine lv_i2b (v := nI dn) F.1 F.2.1 dX0_translate_182 (n_byte _ (by omega)) ?_
    refine xt12 F hI (by omega) (by omega) dX0_translate_183 (fun H locs hI => ?_)
    exact x_retv F hr hlk hI (trP_mk g1 (fun k hk => h2 k hk) (by rw [h3]; rfl) hcl (by omega) (by omega) hdn) dX0_translate_184
  · have hcl := hcl
    refine lv_aload_n F.1 F.2.1 dX0_translate_154 rfl (lv_at hl 0 rfl) ?_
    refine xg13 F hI dX0_translate_155 ?_
    refine lv_iload_n F.1 F.2.1 dX0_translate_158 rfl (lv_at hl 1 rfl) ?_
    refine lv_iload F.1 F.2.1 dX0_translate_159 (lv_at hl 2 rfl) ?_
    refine lv_i2b (v := nI dn) F.1 F.2.1 dX0_translate_161 (n_byte _ (by omega)) ?_
    refine xt13 F hI (by omega) (by omega) dX0_translate_162 (fun H locs hI => ?_)
    refine lv_aload_n F.1 F.2.1 dX0_translate_163 rfl (lv_at hl 0 rfl) ?_
    refine xg12 F hI dX0_translate_164 ?_
    refine lv_iload_n F.1 F.2.1 dX0_translate_167 rfl (lv_at hl 1 rfl) ?_
    refine lv_iload F.1 F.2.1 dX0_translate_168 (lv_at hl 3 rfl) ?_
    refine t_if_eq (tgt := 180) F (nI_toInt (by decide)) dX0_translate_170 (by decide) (fun b_170 => absurd b_170 (by omega)) (fun b_170 => ?_)
    refine lv_iload F.1 F.2.1 dX0_translate_173 (lv_at hl 2 rfl) ?_
    refine lv_iconst (v := nI 1) F.1 F.2.1 dX0_translate_175 (by decide) ?_
    refine n_iadd F dX0_translate_176 ?_
    refine lv_goto (tgt := 182) F.1 F.2.1 dX0_translate_177 (by decide) ?_
    refine lv_i2b (v := nI (dn + 1)) F.1 F.2.1 dX0_translate_182 (n_byte _ (by omega)) ?_
    refine xt12 F hI (by omega) (by omega) dX0_translate_183 (fun H locs hI => ?_)
    exact x_retv F hr hlk hI (trP_mk g1 (fun k hk => h2 k hk) (by rw [h3]; rfl) hcl (by omega) (by omega) hdn) dX0_translate_184
end
section
set_option maxRecDepth 100000
set_option maxHeartbeats 4000000 in
set_option maxRecDepth 100000 in
theorem metX0_blockAt (l : Launch) (g : va_G) (ad : Nat → Nat) (d : Nat → ClassId) (A : Nat → Prop) (u : XS) (ap dp : Nat) (hp : pOK (u.1 0) (u.2.1 1) (u.2.2 2)) (hc : cOK u) (ha : ap ≤ 32) (hd : dp ≤ 8) : Met l yX0_blockAt (ws_ yX0_blockAt cX0_blockAt 5 (some .int)) ({ frames := 4, cells := 0, slots := 0, locals := 98 }) (xPc g ad d A u [.int (nI ap), .int (nI dp)]) (xQi g ad d A (fun r u2 => ∃ b, r = nI b ∧ b < 48 ∧ cOK u2 ∧ tfr u u2 ∧ bOK u2 b dp ap)) 0 0 A := by
  refine x_met (by decide) rfl (Nat.le_of_ble_eq_true rfl) ?_
  intro p e s m below meth c ls F hr hlk hI hl
  have hl : lv_has ls 5 [(0, .ref (ad 0)), (1, .int (nI ap)), (2, .int (nI dp))] := hl
  have hc48 := hc.1
  have hc640 := hc.2.1
  rcases hc.2.2 ap dp ha hd with hneg | ⟨b, hb, hbe, hbk⟩
  · have hneg := hneg
    refine lv_bipush (v := nI 9) F.1 F.2.1 dX0_blockAt_0 (by decide) ?_
    refine lv_iload_n F.1 F.2.1 dX0_blockAt_2 rfl (lv_at hl 1 rfl) ?_
    refine n_imul F dX0_blockAt_3 ?_
    refine lv_iload_n F.1 F.2.1 dX0_blockAt_4 rfl (lv_at hl 2 rfl) ?_
    refine n_iadd F dX0_blockAt_5 ?_
    refine lv_istore_n (lv' := [(3, .int (nI ((9 * ap) + dp))), (0, .ref (ad 0)), (1, .int (nI ap)), (2, .int (nI dp))]) F.1 F.2.1 dX0_blockAt_6 rfl hl (by decide) rfl (fun ls hl => ?_)
    refine lv_aload_n F.1 F.2.1 dX0_blockAt_7 rfl (lv_at hl 1 rfl) ?_
    refine xg9 F hI dX0_blockAt_8 ?_
    refine lv_iload_n F.1 F.2.1 dX0_blockAt_11 rfl (lv_at hl 0 rfl) ?_
    refine xl9 (x := (-1)) F hI (by omega) hneg dX0_blockAt_12 ?_
    refine t_if_lt (tgt := 23) F (show (-1 : Int32).toInt = -1 by decide) dX0_blockAt_13 (by decide) (fun b_13 => ?_) (fun b_13 => absurd b_13 (by omega))
    refine lv_aload_n F.1 F.2.1 dX0_blockAt_23 rfl (lv_at hl 1 rfl) ?_
    refine xg10 (v := u.1 10) F hI rfl dX0_blockAt_24 ?_
    refine lv_bipush (v := nI 48) F.1 F.2.1 dX0_blockAt_27 (by decide) ?_
    refine t_icmp_ge (tgt := 42) F (nI_toInt (by omega)) (nI_toInt (by decide)) dX0_blockAt_29 (by decide) (fun b_29 => ?_) (fun b_29 => ?_)
    · refine lv_aload_n F.1 F.2.1 dX0_blockAt_42 rfl (lv_at hl 1 rfl) ?_
      refine x_callv (n := 0) (rest := []) (av := []) F hI (metX0_forgetBlocks l g ad d A u) (lw_V q35 q37 qs0 q25 q38) (by decide +kernel) ⟨by decide, by decide⟩ ⟨rfl, rfl⟩ ⟨Nat.zero_le _, Nat.zero_le _⟩ rfl hl.1 rfl (Nat.le_of_ble_eq_true rfl) dX0_blockAt_43 (fun u43 H locs hp43 hI => ?_)
      have hfg : fgP u u43 := hp43
      obtain ⟨hcv, hfv, e10, e14⟩ := hfg.c
      have hpv : pOK (u43.1 0) (u43.2.1 1) (u43.2.2 2) := by rw [hfv.1, hfv.2.2.2.2.2.1, hfv.2.2.2.2.2.2.1]; exact hp
      have h10 : u43.1 10 < 48 := by omega
      have h14 : u43.1 14 ≤ 600 := by omega
      refine lv_aload_n F.1 F.2.1 dX0_blockAt_46 rfl (lv_at hl 1 rfl) ?_
      refine xg10 (v := u43.1 10) F hI rfl dX0_blockAt_47 ?_
      refine lv_istore (lv' := [(4, .int (nI (u43.1 10))), (3, .int (nI ((9 * ap) + dp))), (0, .ref (ad 0)), (1, .int (nI ap)), (2, .int (nI dp))]) F.1 F.2.1 dX0_blockAt_50 hl (by decide) rfl (fun ls hl => ?_)
      refine lv_aload_n F.1 F.2.1 dX0_blockAt_52 rfl (lv_at hl 2 rfl) ?_
      refine lv_dup F.1 F.2.1 dX0_blockAt_53 rfl ?_
      refine xg10 (v := u43.1 10) F hI rfl dX0_blockAt_54 ?_
      refine lv_iconst (v := nI 1) F.1 F.2.1 dX0_blockAt_57 (by decide) ?_
      refine n_iadd F dX0_blockAt_58 ?_
      refine xp10 (v := (u43.1 10) + 1) F hI dX0_blockAt_59 (fun H locs hI => ?_)
      refine lv_aload_n F.1 F.2.1 dX0_blockAt_62 rfl (lv_at hl 2 rfl) ?_
      refine xg9 F hI dX0_blockAt_63 ?_
      refine lv_iload_n F.1 F.2.1 dX0_blockAt_66 rfl (lv_at hl 1 rfl) ?_
      refine lv_iload F.1 F.2.1 dX0_blockAt_67 (lv_at hl 0 rfl) ?_
      refine lv_i2s (v := nI (u43.1 10)) F.1 F.2.1 dX0_blockAt_69 (n_short _ (by omega)) ?_
      refine xt9 (x := nI (u43.1 10)) F hI (by omega) (n_short _ (by omega)) dX0_blockAt_70 (fun H locs hI => ?_)
      refine lv_aload_n F.1 F.2.1 dX0_blockAt_71 rfl (lv_at hl 2 rfl) ?_
      refine xg11 F hI dX0_blockAt_72 ?_
      refine lv_iload F.1 F.2.1 dX0_blockAt_75 (lv_at hl 0 rfl) ?_
      refine lv_aload_n F.1 F.2.1 dX0_blockAt_77 rfl (lv_at hl 2 rfl) ?_
      refine xg14 (v := u43.1 14) F hI rfl dX0_blockAt_78 ?_
      refine lv_i2s (v := nI (u43.1 14)) F.1 F.2.1 dX0_blockAt_81 (n_short _ (by omega)) ?_
      refine xt11 F hI (by omega) (by omega) dX0_blockAt_82 (fun H locs hI => ?_)
      refine lv_aload_n F.1 F.2.1 dX0_blockAt_83 rfl (lv_at hl 2 rfl) ?_
      refine lv_iload F.1 F.2.1 dX0_blockAt_84 (lv_at hl 0 rfl) ?_
      refine lv_iload_n F.1 F.2.1 dX0_blockAt_86 rfl (lv_at hl 3 rfl) ?_
      refine lv_iload_n F.1 F.2.1 dX0_blockAt_87 rfl (lv_at hl 4 rfl) ?_
      refine x_callv (n := 3) (rest := []) (av := [.int (nI (u43.1 10)), .int (nI ap), .int (nI dp)]) F hI (metX0_translate l g ad d A (xn (xz (xs u43 10 ((u43.1 10) + 1)) 9 ((9 * ap) + dp) (nI (u43.1 10))) 11 (u43.1 10) (u43.1 14)) (u43.1 10) ap dp hpv h10 ha hd h14) (lw_V q134 q136 qs3 q25 q137) (by decide +kernel) ⟨by decide, by decide⟩ ⟨rfl, rfl⟩ ⟨Nat.zero_le _, Nat.zero_le _⟩ rfl hl.1 rfl (Nat.le_of_ble_eq_true rfl) dX0_blockAt_88 (fun u88 H locs hp88 hI => ?_)
      obtain ⟨c1, c2, c3⟩ := blk_new hcv ha hd h10 hp88
      refine lv_iload F.1 F.2.1 dX0_blockAt_91 (lv_at hl 0 rfl) ?_
      exact x_reti F hr hlk hI (⟨u43.1 10, rfl, h10, c1, hfv.tr c2, c3⟩) dX0_blockAt_93
    · refine lv_aload_n F.1 F.2.1 dX0_blockAt_32 rfl (lv_at hl 1 rfl) ?_
      refine xg14 (v := u.1 14) F hI rfl dX0_blockAt_33 ?_
      refine lv_sipush (v := nI 600) F.1 F.2.1 dX0_blockAt_36 (by decide) ?_
      refine t_icmp_le (tgt := 46) F (nI_toInt (by omega)) (nI_toInt (by decide)) dX0_blockAt_39 (by decide) (fun b_39 => ?_) (fun b_39 => ?_)
      · have hcv := hc
        have hfv := tfr.rf u
        have hpv := hp
        have h10 : u.1 10 < 48 := by omega
        have h14 : u.1 14 ≤ 600 := by omega
        refine lv_aload_n F.1 F.2.1 dX0_blockAt_46 rfl (lv_at hl 1 rfl) ?_
        refine xg10 (v := u.1 10) F hI rfl dX0_blockAt_47 ?_
        refine lv_istore (lv' := [(4, .int (nI (u.1 10))), (3, .int (nI ((9 * ap) + dp))), (0, .ref (ad 0)), (1, .int (nI ap)), (2, .int (nI dp))]) F.1 F.2.1 dX0_blockAt_50 hl (by decide) rfl (fun ls hl => ?_)
        refine lv_aload_n F.1 F.2.1 dX0_blockAt_52 rfl (lv_at hl 2 rfl) ?_
        refine lv_dup F.1 F.2.1 dX0_blockAt_53 rfl ?_
        refine xg10 (v := u.1 10) F hI rfl dX0_blockAt_54 ?_
        refine lv_iconst (v := nI 1) F.1 F.2.1 dX0_blockAt_57 (by decide) ?_
        refine n_iadd F dX0_blockAt_58 ?_
        refine xp10 (v := (u.1 10) + 1) F hI dX0_blockAt_59 (fun H locs hI => ?_)
        refine lv_aload_n F.1 F.2.1 dX0_blockAt_62 rfl (lv_at hl 2 rfl) ?_
        refine xg9 F hI dX0_blockAt_63 ?_
        refine lv_iload_n F.1 F.2.1 dX0_blockAt_66 rfl (lv_at hl 1 rfl) ?_
        refine lv_iload F.1 F.2.1 dX0_blockAt_67 (lv_at hl 0 rfl) ?_
        refine lv_i2s (v := nI (u.1 10)) F.1 F.2.1 dX0_blockAt_69 (n_short _ (by omega)) ?_
        refine xt9 (x := nI (u.1 10)) F hI (by omega) (n_short _ (by omega)) dX0_blockAt_70 (fun H locs hI => ?_)
        refine lv_aload_n F.1 F.2.1 dX0_blockAt_71 rfl (lv_at hl 2 rfl) ?_
        refine xg11 F hI dX0_blockAt_72 ?_
        refine lv_iload F.1 F.2.1 dX0_blockAt_75 (lv_at hl 0 rfl) ?_
        refine lv_aload_n F.1 F.2.1 dX0_blockAt_77 rfl (lv_at hl 2 rfl) ?_
        refine xg14 (v := u.1 14) F hI rfl dX0_blockAt_78 ?_
        refine lv_i2s (v := nI (u.1 14)) F.1 F.2.1 dX0_blockAt_81 (n_short _ (by omega)) ?_
        refine xt11 F hI (by omega) (by omega) dX0_blockAt_82 (fun H locs hI => ?_)
        refine lv_aload_n F.1 F.2.1 dX0_blockAt_83 rfl (lv_at hl 2 rfl) ?_
        refine lv_iload F.1 F.2.1 dX0_blockAt_84 (lv_at hl 0 rfl) ?_
        refine lv_iload_n F.1 F.2.1 dX0_blockAt_86 rfl (lv_at hl 3 rfl) ?_
        refine lv_iload_n F.1 F.2.1 dX0_blockAt_87 rfl (lv_at hl 4 rfl) ?_
        refine x_callv (n := 3) (rest := []) (av := [.int (nI (u.1 10)), .int (nI ap), .int (nI dp)]) F hI (metX0_translate l g ad d A (xn (xz (xs u 10 ((u.1 10) + 1)) 9 ((9 * ap) + dp) (nI (u.1 10))) 11 (u.1 10) (u.1 14)) (u.1 10) ap dp hpv h10 ha hd h14) (lw_V q134 q136 qs3 q25 q137) (by decide +kernel) ⟨by decide, by decide⟩ ⟨rfl, rfl⟩ ⟨Nat.zero_le _, Nat.zero_le _⟩ rfl hl.1 rfl (Nat.le_of_ble_eq_true rfl) dX0_blockAt_88 (fun u88 H locs hp88 hI => ?_)
        obtain ⟨c1, c2, c3⟩ := blk_new hcv ha hd h10 hp88
        refine lv_iload F.1 F.2.1 dX0_blockAt_91 (lv_at hl 0 rfl) ?_
        exact x_reti F hr hlk hI (⟨u.1 10, rfl, h10, c1, hfv.tr c2, c3⟩) dX0_blockAt_93
      · refine lv_aload_n F.1 F.2.1 dX0_blockAt_42 rfl (lv_at hl 1 rfl) ?_
        refine x_callv (n := 0) (rest := []) (av := []) F hI (metX0_forgetBlocks l g ad d A u) (lw_V q35 q37 qs0 q25 q38) (by decide +kernel) ⟨by decide, by decide⟩ ⟨rfl, rfl⟩ ⟨Nat.zero_le _, Nat.zero_le _⟩ rfl hl.1 rfl (Nat.le_of_ble_eq_true rfl) dX0_blockAt_43 (fun u43 H locs hp43 hI => ?_)
        have hfg : fgP u u43 := hp43
        obtain ⟨hcv, hfv, e10, e14⟩ := hfg.c
        have hpv : pOK (u43.1 0) (u43.2.1 1) (u43.2.2 2) := by rw [hfv.1, hfv.2.2.2.2.2.1, hfv.2.2.2.2.2.2.1]; exact hp
        have h10 : u43.1 10 < 48 := by omega
        have h14 : u43.1 14 ≤ 600 := by omega
        refine lv_aload_n F.1 F.2.1 dX0_blockAt_46 rfl (lv_at hl 1 rfl) ?_
        refine xg10 (v := u43.1 10) F hI rfl dX0_blockAt_47 ?_
        refine lv_istore (lv' := [(4, .int (nI (u43.1 10))), (3, .int (nI ((9 * ap) + dp))), (0, .ref (ad 0)), (1, .int (nI ap)), (2, .int (nI dp))]) F.1 F.2.1 dX0_blockAt_50 hl (by decide) rfl (fun ls hl => ?_)
        refine lv_aload_n F.1 F.2.1 dX0_blockAt_52 rfl (lv_at hl 2 rfl) ?_
        refine lv_dup F.1 F.2.1 dX0_blockAt_53 rfl ?_
        refine xg10 (v := u43.1 10) F hI rfl dX0_blockAt_54 ?_
        refine lv_iconst (v := nI 1) F.1 F.2.1 dX0_blockAt_57 (by decide) ?_
        refine n_iadd F dX0_blockAt_58 ?_
        refine xp10 (v := (u43.1 10) + 1) F hI dX0_blockAt_59 (fun H locs hI => ?_)
        refine lv_aload_n F.1 F.2.1 dX0_blockAt_62 rfl (lv_at hl 2 rfl) ?_
        refine xg9 F hI dX0_blockAt_63 ?_
        refine lv_iload_n F.1 F.2.1 dX0_blockAt_66 rfl (lv_at hl 1 rfl) ?_
        refine lv_iload F.1 F.2.1 dX0_blockAt_67 (lv_at hl 0 rfl) ?_
        refine lv_i2s (v := nI (u43.1 10)) F.1 F.2.1 dX0_blockAt_69 (n_short _ (by omega)) ?_
        refine xt9 (x := nI (u43.1 10)) F hI (by omega) (n_short _ (by omega)) dX0_blockAt_70 (fun H locs hI => ?_)
        refine lv_aload_n F.1 F.2.1 dX0_blockAt_71 rfl (lv_at hl 2 rfl) ?_
        refine xg11 F hI dX0_blockAt_72 ?_
        refine lv_iload F.1 F.2.1 dX0_blockAt_75 (lv_at hl 0 rfl) ?_
        refine lv_aload_n F.1 F.2.1 dX0_blockAt_77 rfl (lv_at hl 2 rfl) ?_
        refine xg14 (v := u43.1 14) F hI rfl dX0_blockAt_78 ?_
        refine lv_i2s (v := nI (u43.1 14)) F.1 F.2.1 dX0_blockAt_81 (n_short _ (by omega)) ?_
        refine xt11 F hI (by omega) (by omega) dX0_blockAt_82 (fun H locs hI => ?_)
        refine lv_aload_n F.1 F.2.1 dX0_blockAt_83 rfl (lv_at hl 2 rfl) ?_
        refine lv_iload F.1 F.2.1 dX0_blockAt_84 (lv_at hl 0 rfl) ?_
        refine lv_iload_n F.1 F.2.1 dX0_blockAt_86 rfl (lv_at hl 3 rfl) ?_
        refine lv_iload_n F.1 F.2.1 dX0_blockAt_87 rfl (lv_at hl 4 rfl) ?_
        refine x_callv (n := 3) (rest := []) (av := [.int (nI (u43.1 10)), .int (nI ap), .int (nI dp)]) F hI (metX0_translate l g ad d A (xn (xz (xs u43 10 ((u43.1 10) + 1)) 9 ((9 * ap) + dp) (nI (u43.1 10))) 11 (u43.1 10) (u43.1 14)) (u43.1 10) ap dp hpv h10 ha hd h14) (lw_V q134 q136 qs3 q25 q137) (by decide +kernel) ⟨by decide, by decide⟩ ⟨rfl, rfl⟩ ⟨Nat.zero_le _, Nat.zero_le _⟩ rfl hl.1 rfl (Nat.le_of_ble_eq_true rfl) dX0_blockAt_88 (fun u88 H locs hp88 hI => ?_)
        obtain ⟨c1, c2, c3⟩ := blk_new hcv ha hd h10 hp88
        refine lv_iload F.1 F.2.1 dX0_blockAt_91 (lv_at hl 0 rfl) ?_
        exact x_reti F hr hlk hI (⟨u43.1 10, rfl, h10, c1, hfv.tr c2, c3⟩) dX0_blockAt_93
  · have hb48 := hbk.1
    refine lv_bipush (v := nI 9) F.1 F.2.1 dX0_blockAt_0 (by decide) ?_
    refine lv_iload_n F.1 F.2.1 dX0_blockAt_2 rfl (lv_at hl 1 rfl) ?_
    refine n_imul F dX0_blockAt_3 ?_
    refine lv_iload_n F.1 F.2.1 dX0_blockAt_4 rfl (lv_at hl 2 rfl) ?_
    refine n_iadd F dX0_blockAt_5 ?_
    refine lv_istore_n (lv' := [(3, .int (nI ((9 * ap) + dp))), (0, .ref (ad 0)), (1, .int (nI ap)), (2, .int (nI dp))]) F.1 F.2.1 dX0_blockAt_6 rfl hl (by decide) rfl (fun ls hl => ?_)
    refine lv_aload_n F.1 F.2.1 dX0_blockAt_7 rfl (lv_at hl 1 rfl) ?_
    refine xg9 F hI dX0_blockAt_8 ?_
    refine lv_iload_n F.1 F.2.1 dX0_blockAt_11 rfl (lv_at hl 0 rfl) ?_
    refine xl9 (x := nI b) F hI (by omega) hbe dX0_blockAt_12 ?_
    refine t_if_lt (tgt := 23) F (nI_toInt (by omega)) dX0_blockAt_13 (by decide) (fun b_13 => absurd b_13 (by omega)) (fun b_13 => ?_)
    refine lv_aload_n F.1 F.2.1 dX0_blockAt_16 rfl (lv_at hl 1 rfl) ?_
    refine xg9 F hI dX0_blockAt_17 ?_
    refine lv_iload_n F.1 F.2.1 dX0_blockAt_20 rfl (lv_at hl 0 rfl) ?_
    refine xl9 (x := nI b) F hI (by omega) hbe dX0_blockAt_21 ?_
    exact x_reti F hr hlk hI (⟨b, rfl, hb48, hc, tfr.rf u, hbk⟩) dX0_blockAt_22
set_option maxHeartbeats 4000000 in
theorem run_loop {p : Program} {l : Launch} {e : Env} {s : State} {m : MethodId} {args : Array Value} {below : List Frame} {meth : Method} {c : Code} {Q : State → Prop} {g : va_G} {ad : Nat → Nat} {d : Nat → ClassId} {A : Nat → Prop} {u : XS} {T : TS} (F : CallFix p m c cX0_run 4 s args lw_all RX0) (hp : pOK (u.1 0) (u.2.1 1) (u.2.2 2)) (kk : ∀ (v : XS) (H : Heap) (locs : List Loc) (ls : Array Slot), eqT (abX v) T → cOK v → tOK (abX v) → v.1 0 = u.1 0 → v.2.1 1 = u.2.1 1 → v.2.2 2 = u.2.2 2 → xI g ad d A s v H locs → lv_has ls 4 [(0, .ref (ad 0))] → W p l e ({ frames := 5, cells := 0, slots := 0, locals := 122 } : Room) s m args below meth c H locs 0 0 Q (F0 m 104 ls [])) : ∀ (k rest : Nat) (v : XS) (H : Heap) (locs : List Loc) (ls : Array Slot), rest ≤ k → rest ≤ 200 → eqT (runT (u.1 0) (u.2.1 1) (u.2.2 2) rest (abX v)) T → cOK v → tOK (abX v) → v.1 0 = u.1 0 → v.2.1 1 = u.2.1 1 → v.2.2 2 = u.2.2 2 → xI g ad d A s v H locs → lv_has ls 4 [(2, .int (nI rest)), (0, .ref (ad 0))] → W p l e ({ frames := 5, cells := 0, slots := 0, locals := 122 } : Room) s m args below meth c H locs 0 0 Q (F0 m 23 ls []) := by
  intro k
  induction k with
  | zero =>
    intro rest v H locs ls hr h200 hT hc ht g0 gO gN hI hl
    obtain rfl : rest = 0 := by omega
    refine lv_iload_n F.1 F.2.1 dX0_run_23 rfl (lv_at hl 0 rfl) ?_
    refine t_if_le (tgt := 104) F (nI_toInt (by decide)) dX0_run_24 (by decide) (fun b_24 => ?_) (fun b_24 => absurd b_24 (by omega))
    exact kk v H locs ls hT hc ht g0 gO gN hI (lv_sub hl [1] rfl)
  | succ k ih =>
    intro rest v H locs ls hr h200 hT hc ht g0 gO gN hI hl
    have hst : v.1 7 ≤ 2 := ht.2.2
    have h32 : v.1 6 ≤ 32 := ht.2.1
    have h8 : v.1 5 ≤ 8 := ht.1
    refine lv_iload_n F.1 F.2.1 dX0_run_23 rfl (lv_at hl 0 rfl) ?_
    refine t_if_le (tgt := 104) F (nI_toInt (by omega)) dX0_run_24 (by decide) (fun b_24 => ?_) (fun b_24 => ?_)
    · exact kk v H locs ls (by rw [show rest = 0 by omega] at hT; exact hT) hc ht g0 gO gN hI (lv_sub hl [1] rfl)
    · refine lv_aload_n F.1 F.2.1 dX0_run_27 rfl (lv_at hl 1 rfl) ?_
      refine xg7 (v := v.1 7) F hI rfl dX0_run_28 ?_
      refine t_if_ne (tgt := 104) F (nI_toInt (by omega)) dX0_run_31 (by decide) (fun b_31 => ?_) (fun b_31 => ?_)
      · exact kk v H locs ls (by rw [runT_stop rest (show (abX v).2.2.2.2.2 ≠ 0 from show v.1 7 ≠ 0 by omega)] at hT; exact hT) hc ht g0 gO gN hI (lv_sub hl [1] rfl)
      · refine lv_aload_n F.1 F.2.1 dX0_run_34 rfl (lv_at hl 1 rfl) ?_
        refine lv_aload_n F.1 F.2.1 dX0_run_35 rfl (lv_at hl 1 rfl) ?_
        refine xg6 (v := v.1 6) F hI rfl dX0_run_36 ?_
        refine lv_aload_n F.1 F.2.1 dX0_run_39 rfl (lv_at hl 1 rfl) ?_
        refine xg5 (v := v.1 5) F hI rfl dX0_run_40 ?_
        refine x_calli (n := 2) (rest := []) (av := [.int (nI (v.1 6)), .int (nI (v.1 5))]) F hI (metX0_blockAt l g ad d A v (v.1 6) (v.1 5) (by rw [g0, gO, gN]; exact hp) hc h32 h8) (lw_V q130 q132 qs2 q25 q133) (by decide +kernel) ⟨by decide, by decide⟩ ⟨rfl, rfl⟩ ⟨Nat.zero_le _, Nat.zero_le _⟩ rfl hl.1 rfl (Nat.le_of_ble_eq_true rfl) dX0_run_43 (fun r43 u43 H locs hp43 hI => ?_)
        obtain ⟨b, rfl, hb48, hcw, hfr, hbk⟩ := hp43
        have q0 : u43.1 0 = u.1 0 := hfr.1.trans g0
        have qO : u43.2.1 1 = u.2.1 1 := hfr.2.2.2.2.2.1.trans gO
        have qN : u43.2.2 2 = u.2.2 2 := hfr.2.2.2.2.2.2.1.trans gN
        have q5 : u43.1 5 = v.1 5 := hfr.2.1
        have q6 : u43.1 6 = v.1 6 := hfr.2.2.1
        have q7 : u43.1 7 = 0 := by rw [hfr.2.2.2.1]; omega
        have hab := hfr.ab
        have hpw : pOK (u43.1 0) (u43.2.1 1) (u43.2.2 2) := by rw [q0, qO, qN]; exact hp
        obtain ⟨hb1, hb13, hb12⟩ := hbk.2.1
        obtain ⟨nb, nb1, nb2, nb3, nb4⟩ := id hbk.2.2
        have h640 := hcw.2.1
        rw [← hab] at hT ht
        refine lv_istore_n (lv' := [(3, .int (nI b)), (2, .int (nI rest)), (0, .ref (ad 0))]) F.1 F.2.1 dX0_run_46 rfl hl (by decide) rfl (fun ls hl => ?_)
        refine lv_aload_n F.1 F.2.1 dX0_run_47 rfl (lv_at hl 2 rfl) ?_
        refine xg12 F hI dX0_run_48 ?_
        refine lv_iload_n F.1 F.2.1 dX0_run_51 rfl (lv_at hl 0 rfl) ?_
        refine xl12 (x := u43.2.1 12 b) F hI (by omega) rfl dX0_run_52 ?_
        refine lv_iload_n F.1 F.2.1 dX0_run_53 rfl (lv_at hl 1 rfl) ?_
        refine t_icmp_gt (tgt := 94) F (nI_toInt (by omega)) (nI_toInt (by omega)) dX0_run_54 (by decide) (fun b_54 => ?_) (fun b_54 => ?_)
        · refine lv_iinc (v := nI (rest - 1)) (lv' := [(2, .int (nI (rest - 1))), (3, .int (nI b)), (0, .ref (ad 0))]) F.1 F.2.1 dX0_run_94 hl (k := 1) rfl (n_dec (by omega)) (by decide) rfl (fun ls hl => ?_)
          refine lv_aload_n F.1 F.2.1 dX0_run_97 rfl (lv_at hl 2 rfl) ?_
          refine x_callv (n := 0) (rest := []) (av := []) F hI (metX0_tryOne l g ad d A u43 hpw (by omega) (by omega)) (lw_V q174 q176 qs13 q25 q177) (by decide +kernel) ⟨by decide, by decide⟩ ⟨rfl, rfl⟩ ⟨Nat.zero_le _, Nat.zero_le _⟩ rfl hl.1 rfl (Nat.le_of_ble_eq_true rfl) dX0_run_98 (fun u98 H locs hp98 hI => ?_)
          obtain ⟨hx1, hm⟩ := hp98
          rw [q0, qO, qN] at hx1
          have hbl : eqT (abX u98) (runT (u.1 0) (u.2.1 1) (u.2.2 2) 1 (abX u43)) := by rw [runT_1 (show (abX u43).2.2.2.2.2 = 0 from q7), ← hx1]; exact eqT.rf _
          refine lv_goto (tgt := 23) F.1 F.2.1 dX0_run_101 (by decide) ?_
          exact ih (rest - 1) u98 H locs ls (by omega) (by omega) (run_more hp (by omega) ht hbl hT) (cOK_mch hm hcw) (tOK_eq hbl.sy (runT_ok hp _ ht)) ((hm.1 0 (by decide) (by decide) (by decide) (by decide)).trans q0) (by rw [hm.2.1]; exact qO) (by rw [hm.2.2 2 (by decide) (by decide)]; exact qN) hI (lv_sub hl [0, 2] rfl)
        · refine lv_iload_n F.1 F.2.1 dX0_run_57 rfl (lv_at hl 1 rfl) ?_
          refine lv_aload_n F.1 F.2.1 dX0_run_58 rfl (lv_at hl 2 rfl) ?_
          refine xg12 F hI dX0_run_59 ?_
          refine lv_iload_n F.1 F.2.1 dX0_run_62 rfl (lv_at hl 0 rfl) ?_
          refine xl12 (x := u43.2.1 12 b) F hI (by omega) rfl dX0_run_63 ?_
          refine n_isub F (by omega) dX0_run_64 ?_
          refine lv_istore_n (lv' := [(2, .int (nI (rest - (u43.2.1 12 b)))), (3, .int (nI b)), (0, .ref (ad 0))]) F.1 F.2.1 dX0_run_65 rfl hl (by decide) rfl (fun ls hl => ?_)
          refine lv_aload_n F.1 F.2.1 dX0_run_66 rfl (lv_at hl 2 rfl) ?_
          refine lv_dup F.1 F.2.1 dX0_run_67 rfl ?_
          refine xg8 (v := u43.1 8) F hI rfl dX0_run_68 ?_
          refine lv_aload_n F.1 F.2.1 dX0_run_71 rfl (lv_at hl 2 rfl) ?_
          refine xg13 F hI dX0_run_72 ?_
          refine lv_iload_n F.1 F.2.1 dX0_run_75 rfl (lv_at hl 1 rfl) ?_
          refine xl13 (x := u43.2.1 13 b) F hI (by omega) rfl dX0_run_76 ?_
          refine n_iadd F dX0_run_77 ?_
          refine xp8 (v := (u43.1 8) + (u43.2.1 13 b)) F hI dX0_run_78 (fun H locs hI => ?_)
          refine lv_aload_n F.1 F.2.1 dX0_run_81 rfl (lv_at hl 2 rfl) ?_
          refine lv_aload_n F.1 F.2.1 dX0_run_82 rfl (lv_at hl 2 rfl) ?_
          refine xg11 F hI dX0_run_83 ?_
          refine lv_iload_n F.1 F.2.1 dX0_run_86 rfl (lv_at hl 1 rfl) ?_
          refine xl11 (x := u43.2.1 11 b) F hI (by omega) rfl dX0_run_87 ?_
          refine x_callv (n := 1) (rest := []) (av := [.int (nI (u43.2.1 11 b))]) F hI (metX0_execute l g ad d A (xs u43 8 ((u43.1 8) + (u43.2.1 13 b))) (u43.2.1 11 b) nb nb1 hcw.2.1 nb2 nb3) (lw_V q166 q168 qs11 q25 q169) (by decide +kernel) ⟨by decide, by decide⟩ ⟨rfl, rfl⟩ ⟨Nat.zero_le _, Nat.zero_le _⟩ rfl hl.1 rfl (Nat.le_of_ble_eq_true rfl) dX0_run_88 (fun u88 H locs hp88 hI => ?_)
          obtain ⟨hx1, hx2⟩ := hp88
          have hm : mch u43 u88 := ((mch.rf u43).fld (by decide)).tr hx2
          have hbl := run_blk hbk.2.2 nb4 hx1 q7 q5 q6
          rw [q0, qO, qN] at hbl
          refine lv_goto (tgt := 101) F.1 F.2.1 dX0_run_91 (by decide) ?_
          refine lv_goto (tgt := 23) F.1 F.2.1 dX0_run_101 (by decide) ?_
          exact ih (rest - u43.2.1 12 b) u88 H locs ls (by omega) (by omega) (run_more hp (by omega) ht hbl hT) (cOK_mch hm hcw) (tOK_eq hbl.sy (runT_ok hp _ ht)) ((hm.1 0 (by decide) (by decide) (by decide) (by decide)).trans q0) (by rw [hm.2.1]; exact qO) (by rw [hm.2.2 2 (by decide) (by decide)]; exact qN) hI (lv_sub hl [0, 2] rfl)
set_option maxHeartbeats 4000000 in
set_option maxRecDepth 100000 in
theorem metX0_run (l : Launch) (g : va_G) (ad : Nat → Nat) (d : Nat → ClassId) (A : Nat → Prop) (u : XS) (a : Int32) (hp : pOK (u.1 0) (u.2.1 1) (u.2.2 2)) (hc : cOK u) (ht : tOK (abX u)) : Met l yX0_run (ws_ yX0_run cX0_run 4 (some .int)) ({ frames := 5, cells := 0, slots := 0, locals := 122 }) (xPc g ad d A u [.int a]) (xQi g ad d A (fun r u2 => r = nI (u2.1 7) ∧ eqT (abX u2) (runT (u.1 0) (u.2.1 1) (u.2.2 2) (nc a) (abX u)) ∧ cOK u2 ∧ tOK (abX u2) ∧ u2.1 0 = u.1 0 ∧ u2.2.1 1 = u.2.1 1 ∧ u2.2.2 2 = u.2.2 2)) 0 0 A := by
  refine x_met (by decide) rfl (Nat.le_of_ble_eq_true rfl) ?_
  intro p e s m below meth c ls F hr hlk hI hl
  have hl : lv_has ls 4 [(0, .ref (ad 0)), (1, .int a)] := hl
  refine lv_iload_n F.1 F.2.1 dX0_run_0 rfl (lv_at hl 1 rfl) ?_
  refine t_if_ge (tgt := 8) F rfl dX0_run_1 (by decide) (fun b_1 => ?_) (fun b_1 => ?_)
  · refine lv_iload_n F.1 F.2.1 dX0_run_8 rfl (lv_at hl 1 rfl) ?_
    refine lv_sipush (v := nI 200) F.1 F.2.1 dX0_run_9 (by decide) ?_
    refine t_icmp_le (tgt := 21) F rfl (nI_toInt (by decide)) dX0_run_12 (by decide) (fun b_12 => ?_) (fun b_12 => ?_)
    · obtain ⟨k, rfl, hk, hk31⟩ := n_of a (by omega)
      refine lv_iload_n F.1 F.2.1 dX0_run_21 rfl (lv_at hl 1 rfl) ?_
      refine lv_istore_n (lv' := [(2, .int (nI k)), (0, .ref (ad 0)), (1, .int (nI k))]) F.1 F.2.1 dX0_run_22 rfl hl (by decide) rfl (fun ls hl => ?_)
      have hnc : nc (nI k) = k := nc_mid (by omega)
      refine run_loop (u := u) (T := runT (u.1 0) (u.2.1 1) (u.2.2 2) k (abX u)) F hp (fun v H locs ls hT hc2 ht2 g0 gO gN hI hl => ?_) k k u _ _ ls (Nat.le_refl _) (by omega) (eqT.rf _) hc ht rfl rfl rfl hI (lv_sub hl [0, 1] rfl)
      refine lv_aload_n F.1 F.2.1 dX0_run_104 rfl (lv_at hl 0 rfl) ?_
      refine xg7 (v := v.1 7) F hI rfl dX0_run_105 ?_
      exact x_reti F hr hlk hI (⟨rfl, by rw [hnc]; exact hT, hc2, ht2, g0, gO, gN⟩) dX0_run_108
    · refine lv_sipush (v := nI 200) F.1 F.2.1 dX0_run_15 (by decide) ?_
      refine lv_goto (tgt := 22) F.1 F.2.1 dX0_run_18 (by decide) ?_
      refine lv_istore_n (lv' := [(2, .int (nI 200)), (0, .ref (ad 0)), (1, .int a)]) F.1 F.2.1 dX0_run_22 rfl hl (by decide) rfl (fun ls hl => ?_)
      have hnc : nc a = 200 := nc_big (by omega)
      refine run_loop (u := u) (T := runT (u.1 0) (u.2.1 1) (u.2.2 2) 200 (abX u)) F hp (fun v H locs ls hT hc2 ht2 g0 gO gN hI hl => ?_) 200 200 u _ _ ls (Nat.le_refl _) (by omega) (eqT.rf _) hc ht rfl rfl rfl hI (lv_sub hl [0, 1] rfl)
      refine lv_aload_n F.1 F.2.1 dX0_run_104 rfl (lv_at hl 0 rfl) ?_
      refine xg7 (v := v.1 7) F hI rfl dX0_run_105 ?_
      exact x_reti F hr hlk hI (⟨rfl, by rw [hnc]; exact hT, hc2, ht2, g0, gO, gN⟩) dX0_run_108
  · refine lv_iconst (v := nI 0) F.1 F.2.1 dX0_run_4 (by decide) ?_
    refine lv_goto (tgt := 22) F.1 F.2.1 dX0_run_5 (by decide) ?_
    refine lv_istore_n (lv' := [(2, .int (nI 0)), (0, .ref (ad 0)), (1, .int a)]) F.1 F.2.1 dX0_run_22 rfl hl (by decide) rfl (fun ls hl => ?_)
    have hnc : nc a = 0 := nc_neg (by omega)
    refine run_loop (u := u) (T := runT (u.1 0) (u.2.1 1) (u.2.2 2) 0 (abX u)) F hp (fun v H locs ls hT hc2 ht2 g0 gO gN hI hl => ?_) 0 0 u _ _ ls (Nat.le_refl _) (by omega) (eqT.rf _) hc ht rfl rfl rfl hI (lv_sub hl [0, 1] rfl)
    refine lv_aload_n F.1 F.2.1 dX0_run_104 rfl (lv_at hl 0 rfl) ?_
    refine xg7 (v := v.1 7) F hI rfl dX0_run_105 ?_
    exact x_reti F hr hlk hI (⟨rfl, by rw [hnc]; exact hT, hc2, ht2, g0, gO, gN⟩) dX0_run_108
end
section
set_option maxRecDepth 100000
set_option maxHeartbeats 4000000 in
set_option maxRecDepth 100000 in
theorem metX0_emit (l : Launch) (g : va_G) (ad : Nat → Nat) (d : Nat → ClassId) (A : Nat → Prop) (u : XS) (o a : Int32) (hL : u.1 0 ≤ 32) : Met l yX0_emit (ws_ yX0_emit cX0_emit 3 (some .int)) ({ frames := 1, cells := 0, slots := 0, locals := 22 }) (xPc g ad d A u [.int o, .int a]) (xQi g ad d A (fun r u2 => (32 ≤ u.1 0 ∧ r = -2 ∧ u2 = u) ∨ (u.1 0 < 32 ∧ ¬ vI o a ∧ r = -1 ∧ u2 = u) ∨ (u.1 0 < 32 ∧ vI o a ∧ ∃ k : Nat, k ≤ 13 ∧ o = nI k ∧ fgP (xs (xz (xn u 1 (u.1 0) k) 2 (u.1 0) a) 0 (u.1 0 + 1)) u2 ∧ r = nI (u.1 0 + 1)))) 0 0 A := by
  refine x_met (by decide) rfl (Nat.le_of_ble_eq_true rfl) ?_
  intro p e s m below meth c ls F hr hlk hI hl
  have hl : lv_has ls 3 [(0, .ref (ad 0)), (1, .int o), (2, .int a)] := hl
  refine lv_aload_n F.1 F.2.1 dX0_emit_0 rfl (lv_at hl 0 rfl) ?_
  refine xg0 (v := u.1 0) F hI rfl dX0_emit_1 ?_
  refine lv_bipush (v := nI 32) F.1 F.2.1 dX0_emit_4 (by decide) ?_
  refine t_icmp_lt (tgt := 12) F (nI_toInt (by omega)) (nI_toInt (by decide)) dX0_emit_6 (by decide) (fun b_6 => ?_) (fun b_6 => ?_)
  · refine lv_aload_n F.1 F.2.1 dX0_emit_12 rfl (lv_at hl 0 rfl) ?_
    refine lv_iload_n F.1 F.2.1 dX0_emit_13 rfl (lv_at hl 1 rfl) ?_
    refine lv_iload_n F.1 F.2.1 dX0_emit_14 rfl (lv_at hl 2 rfl) ?_
    refine x_calli (n := 2) (rest := []) (av := [.int o, .int a]) F hI (metX0_isInstruction l g ad d A u o a) (lw_V q110 q112 qs1 q25 q113) (by decide +kernel) ⟨by decide, by decide⟩ ⟨rfl, rfl⟩ ⟨Nat.zero_le _, Nat.zero_le _⟩ rfl hl.1 rfl (Nat.le_of_ble_eq_true rfl) dX0_emit_15 (fun r15 u15 H locs hp15 hI => ?_)
    rw [hp15.1] at hI
    rcases hp15.2 with ⟨hvi, rfl⟩ | ⟨hvi, rfl⟩
    · obtain ⟨ko, rfl, hko, hko31⟩ := n_of o hvi.1
      have hko13 := hvi.2.1
      refine t_if_ne (tgt := 23) F (nI_toInt (by decide)) dX0_emit_18 (by decide) (fun b_18 => ?_) (fun b_18 => absurd b_18 (by omega))
      refine lv_aload_n F.1 F.2.1 dX0_emit_23 rfl (lv_at hl 0 rfl) ?_
      refine xg1 F hI dX0_emit_24 ?_
      refine lv_aload_n F.1 F.2.1 dX0_emit_27 rfl (lv_at hl 0 rfl) ?_
      refine xg0 (v := u.1 0) F hI rfl dX0_emit_28 ?_
      refine lv_iload_n F.1 F.2.1 dX0_emit_31 rfl (lv_at hl 1 rfl) ?_
      refine lv_i2b (v := nI ko) F.1 F.2.1 dX0_emit_32 (n_byte _ (by omega)) ?_
      refine xt1 F hI (by omega) (by omega) dX0_emit_33 (fun H locs hI => ?_)
      refine lv_aload_n F.1 F.2.1 dX0_emit_34 rfl (lv_at hl 0 rfl) ?_
      refine xg2 F hI dX0_emit_35 ?_
      refine lv_aload_n F.1 F.2.1 dX0_emit_38 rfl (lv_at hl 0 rfl) ?_
      refine xg0 (v := u.1 0) F hI rfl dX0_emit_39 ?_
      refine lv_iload_n F.1 F.2.1 dX0_emit_42 rfl (lv_at hl 2 rfl) ?_
      refine xt2 (x := a) F hI (by omega) dX0_emit_43 (fun H locs hI => ?_)
      refine lv_aload_n F.1 F.2.1 dX0_emit_44 rfl (lv_at hl 0 rfl) ?_
      refine lv_dup F.1 F.2.1 dX0_emit_45 rfl ?_
      refine xg0 (v := u.1 0) F hI rfl dX0_emit_46 ?_
      refine lv_iconst (v := nI 1) F.1 F.2.1 dX0_emit_49 (by decide) ?_
      refine n_iadd F dX0_emit_50 ?_
      refine xp0 (v := (u.1 0) + 1) F hI dX0_emit_51 (fun H locs hI => ?_)
      refine lv_aload_n F.1 F.2.1 dX0_emit_54 rfl (lv_at hl 0 rfl) ?_
      refine x_callv (n := 0) (rest := []) (av := []) F hI (metX0_forgetBlocks l g ad d A (xs (xz (xn u 1 (u.1 0) ko) 2 (u.1 0) a) 0 ((u.1 0) + 1))) (lw_V q35 q37 qs0 q25 q38) (by decide +kernel) ⟨by decide, by decide⟩ ⟨rfl, rfl⟩ ⟨Nat.zero_le _, Nat.zero_le _⟩ rfl hl.1 rfl (Nat.le_of_ble_eq_true rfl) dX0_emit_55 (fun u55 H locs hp55 hI => ?_)
      have e0 : u55.1 0 = (u.1 0) + 1 := hp55.1 0
      refine lv_aload_n F.1 F.2.1 dX0_emit_58 rfl (lv_at hl 0 rfl) ?_
      refine xg0 (v := (u.1 0) + 1) F hI e0 dX0_emit_59 ?_
      exact x_reti F hr hlk hI (Or.inr (Or.inr ⟨by omega, hvi, ko, by omega, rfl, hp55, rfl⟩)) dX0_emit_62
    · have hvi := hvi
      refine t_if_ne (tgt := 23) F (nI_toInt (by decide)) dX0_emit_18 (by decide) (fun b_18 => absurd b_18 (by omega)) (fun b_18 => ?_)
      refine lv_iconst (v := (-1)) F.1 F.2.1 dX0_emit_21 (by decide) ?_
      exact x_reti F hr hlk hI (Or.inr (Or.inl ⟨by omega, hvi, rfl, rfl⟩)) dX0_emit_22
  · refine lv_bipush (v := (-2)) F.1 F.2.1 dX0_emit_9 (by decide) ?_
    exact x_reti F hr hlk hI (Or.inl ⟨by omega, rfl, rfl⟩) dX0_emit_11
set_option maxHeartbeats 4000000 in
set_option maxRecDepth 100000 in
theorem metX0_patch (l : Launch) (g : va_G) (ad : Nat → Nat) (d : Nat → ClassId) (A : Nat → Prop) (u : XS) (x o a : Int32) (hL : u.1 0 ≤ 32) : Met l yX0_patch (ws_ yX0_patch cX0_patch 4 (some .int)) ({ frames := 1, cells := 0, slots := 0, locals := 22 }) (xPc g ad d A u [.int x, .int o, .int a]) (xQi g ad d A (fun r u2 => (((x.toInt < 0 ∨ (u.1 0 : Int) ≤ x.toInt) ∨ ¬ vI o a) ∧ r = -1 ∧ u2 = u) ∨ (∃ q : Nat, q < u.1 0 ∧ x = nI q ∧ vI o a ∧ ∃ k : Nat, k ≤ 13 ∧ o = nI k ∧ fgP (xz (xn u 1 q k) 2 q a) u2 ∧ r = nI (u.1 0)))) 0 0 A := by
  refine x_met (by decide) rfl (Nat.le_of_ble_eq_true rfl) ?_
  intro p e s m below meth c ls F hr hlk hI hl
  have hl : lv_has ls 4 [(0, .ref (ad 0)), (1, .int x), (2, .int o), (3, .int a)] := hl
  refine lv_iload_n F.1 F.2.1 dX0_patch_0 rfl (lv_at hl 1 rfl) ?_
  refine t_if_lt (tgt := 21) F rfl dX0_patch_1 (by decide) (fun b_1 => ?_) (fun b_1 => ?_)
  · refine lv_iconst (v := (-1)) F.1 F.2.1 dX0_patch_21 (by decide) ?_
    exact x_reti F hr hlk hI (Or.inl ⟨Or.inl (by omega), rfl, rfl⟩) dX0_patch_22
  · refine lv_iload_n F.1 F.2.1 dX0_patch_4 rfl (lv_at hl 1 rfl) ?_
    refine lv_aload_n F.1 F.2.1 dX0_patch_5 rfl (lv_at hl 0 rfl) ?_
    refine xg0 (v := u.1 0) F hI rfl dX0_patch_6 ?_
    refine t_icmp_ge (tgt := 21) F rfl (nI_toInt (by omega)) dX0_patch_9 (by decide) (fun b_9 => ?_) (fun b_9 => ?_)
    · refine lv_iconst (v := (-1)) F.1 F.2.1 dX0_patch_21 (by decide) ?_
      exact x_reti F hr hlk hI (Or.inl ⟨Or.inl (by omega), rfl, rfl⟩) dX0_patch_22
    · refine lv_aload_n F.1 F.2.1 dX0_patch_12 rfl (lv_at hl 0 rfl) ?_
      refine lv_iload_n F.1 F.2.1 dX0_patch_13 rfl (lv_at hl 2 rfl) ?_
      refine lv_iload_n F.1 F.2.1 dX0_patch_14 rfl (lv_at hl 3 rfl) ?_
      refine x_calli (n := 2) (rest := []) (av := [.int o, .int a]) F hI (metX0_isInstruction l g ad d A u o a) (lw_V q110 q112 qs1 q25 q113) (by decide +kernel) ⟨by decide, by decide⟩ ⟨rfl, rfl⟩ ⟨Nat.zero_le _, Nat.zero_le _⟩ rfl hl.1 rfl (Nat.le_of_ble_eq_true rfl) dX0_patch_15 (fun r15 u15 H locs hp15 hI => ?_)
      rw [hp15.1] at hI
      rcases hp15.2 with ⟨hvi, rfl⟩ | ⟨hvi, rfl⟩
      · obtain ⟨ko, rfl, hko, hko31⟩ := n_of o hvi.1
        have hko13 := hvi.2.1
        refine t_if_ne (tgt := 23) F (nI_toInt (by decide)) dX0_patch_18 (by decide) (fun b_18 => ?_) (fun b_18 => absurd b_18 (by omega))
        obtain ⟨ki, rfl, hki, hki31⟩ := n_of x (by omega)
        refine lv_aload_n F.1 F.2.1 dX0_patch_23 rfl (lv_at hl 0 rfl) ?_
        refine xg1 F hI dX0_patch_24 ?_
        refine lv_iload_n F.1 F.2.1 dX0_patch_27 rfl (lv_at hl 1 rfl) ?_
        refine lv_iload_n F.1 F.2.1 dX0_patch_28 rfl (lv_at hl 2 rfl) ?_
        refine lv_i2b (v := nI ko) F.1 F.2.1 dX0_patch_29 (n_byte _ (by omega)) ?_
        refine xt1 F hI (by omega) (by omega) dX0_patch_30 (fun H locs hI => ?_)
        refine lv_aload_n F.1 F.2.1 dX0_patch_31 rfl (lv_at hl 0 rfl) ?_
        refine xg2 F hI dX0_patch_32 ?_
        refine lv_iload_n F.1 F.2.1 dX0_patch_35 rfl (lv_at hl 1 rfl) ?_
        refine lv_iload_n F.1 F.2.1 dX0_patch_36 rfl (lv_at hl 3 rfl) ?_
        refine xt2 (x := a) F hI (by omega) dX0_patch_37 (fun H locs hI => ?_)
        refine lv_aload_n F.1 F.2.1 dX0_patch_38 rfl (lv_at hl 0 rfl) ?_
        refine x_callv (n := 0) (rest := []) (av := []) F hI (metX0_forgetBlocks l g ad d A (xz (xn u 1 ki ko) 2 ki a)) (lw_V q35 q37 qs0 q25 q38) (by decide +kernel) ⟨by decide, by decide⟩ ⟨rfl, rfl⟩ ⟨Nat.zero_le _, Nat.zero_le _⟩ rfl hl.1 rfl (Nat.le_of_ble_eq_true rfl) dX0_patch_39 (fun u39 H locs hp39 hI => ?_)
        have e0 : u39.1 0 = u.1 0 := hp39.1 0
        refine lv_aload_n F.1 F.2.1 dX0_patch_42 rfl (lv_at hl 0 rfl) ?_
        refine xg0 (v := u.1 0) F hI e0 dX0_patch_43 ?_
        exact x_reti F hr hlk hI (Or.inr ⟨ki, by omega, rfl, hvi, ko, by omega, rfl, hp39, rfl⟩) dX0_patch_46
      · have hvi := hvi
        refine t_if_ne (tgt := 23) F (nI_toInt (by decide)) dX0_patch_18 (by decide) (fun b_18 => absurd b_18 (by omega)) (fun b_18 => ?_)
        refine lv_iconst (v := (-1)) F.1 F.2.1 dX0_patch_21 (by decide) ?_
        exact x_reti F hr hlk hI (Or.inl ⟨Or.inr hvi, rfl, rfl⟩) dX0_patch_22
end
section
set_option maxRecDepth 100000
set_option maxHeartbeats 4000000 in
set_option maxRecDepth 100000 in
theorem metX1_needs (l : Launch) (g : va_G) (ad : Nat → Nat) (d : Nat → ClassId) (A : Nat → Prop) (u : XS) (o k : Nat) (a : Int32) (ho : o ≤ 13) (hk : (o = 1 ∨ 4 ≤ o ∧ o ≤ 9) → a = nI k) : Met l yX1_needs (ws_ yX1_needs cX1_needs 3 (some .int)) ({ frames := 0, cells := 0, slots := 0, locals := 0 }) (mPc g ad d A u [.int (nI o), .int a]) (mQi g ad d A (fun r u2 => u2 = u ∧ ((o = 0 ∨ o = 2 ∨ o = 12 ∨ o = 13) ∧ r = nI 0 ∨ (o = 3 ∨ o = 10 ∨ o = 11) ∧ r = nI 1 ∨ (o = 1 ∨ 4 ≤ o ∧ o ≤ 9) ∧ r = nI (k + 1)))) 0 0 A := by
  refine m_met (by decide) rfl (Nat.le_of_ble_eq_true rfl) ?_
  intro p e s m below meth c ls F hr hlk hI hl
  have hl : lv_has ls 3 [(0, .ref (ad 0)), (1, .int (nI o)), (2, .int a)] := hl
  refine lv_iload_n F.1 F.2.1 dX1_needs_0 rfl (lv_at hl 1 rfl) ?_
  refine t_if_eq (tgt := 21) F (nI_toInt (by omega)) dX1_needs_1 (by decide) (fun b_1 => ?_) (fun b_1 => ?_)
  · refine lv_iconst (v := nI 0) F.1 F.2.1 dX1_needs_21 (by decide) ?_
    exact m_reti F hr hlk hI (⟨rfl, Or.inl ⟨by omega, rfl⟩⟩) dX1_needs_22
  · refine lv_iload_n F.1 F.2.1 dX1_needs_4 rfl (lv_at hl 1 rfl) ?_
    refine lv_iconst (v := nI 2) F.1 F.2.1 dX1_needs_5 (by decide) ?_
    refine t_icmp_eq (tgt := 21) F (nI_toInt (by omega)) (nI_toInt (by decide)) dX1_needs_6 (by decide) (fun b_6 => ?_) (fun b_6 => ?_)
    · refine lv_iconst (v := nI 0) F.1 F.2.1 dX1_needs_21 (by decide) ?_
      exact m_reti F hr hlk hI (⟨rfl, Or.inl ⟨by omega, rfl⟩⟩) dX1_needs_22
    · refine lv_iload_n F.1 F.2.1 dX1_needs_9 rfl (lv_at hl 1 rfl) ?_
      refine lv_bipush (v := nI 12) F.1 F.2.1 dX1_needs_10 (by decide) ?_
      refine t_icmp_eq (tgt := 21) F (nI_toInt (by omega)) (nI_toInt (by decide)) dX1_needs_12 (by decide) (fun b_12 => ?_) (fun b_12 => ?_)
      · refine lv_iconst (v := nI 0) F.1 F.2.1 dX1_needs_21 (by decide) ?_
        exact m_reti F hr hlk hI (⟨rfl, Or.inl ⟨by omega, rfl⟩⟩) dX1_needs_22
      · refine lv_iload_n F.1 F.2.1 dX1_needs_15 rfl (lv_at hl 1 rfl) ?_
        refine lv_bipush (v := nI 13) F.1 F.2.1 dX1_needs_16 (by decide) ?_
        refine t_icmp_ne (tgt := 23) F (nI_toInt (by omega)) (nI_toInt (by decide)) dX1_needs_18 (by decide) (fun b_18 => ?_) (fun b_18 => ?_)
        · refine lv_iload_n F.1 F.2.1 dX1_needs_23 rfl (lv_at hl 1 rfl) ?_
          refine lv_iconst (v := nI 3) F.1 F.2.1 dX1_needs_24 (by decide) ?_
          refine t_icmp_eq (tgt := 40) F (nI_toInt (by omega)) (nI_toInt (by decide)) dX1_needs_25 (by decide) (fun b_25 => ?_) (fun b_25 => ?_)
          · refine lv_iconst (v := nI 1) F.1 F.2.1 dX1_needs_40 (by decide) ?_
            exact m_reti F hr hlk hI (⟨rfl, Or.inr (Or.inl ⟨by omega, rfl⟩)⟩) dX1_needs_41
          · refine lv_iload_n F.1 F.2.1 dX1_needs_28 rfl (lv_at hl 1 rfl) ?_
            refine lv_bipush (v := nI 10) F.1 F.2.1 dX1_needs_29 (by decide) ?_
            refine t_icmp_eq (tgt := 40) F (nI_toInt (by omega)) (nI_toInt (by decide)) dX1_needs_31 (by decide) (fun b_31 => ?_) (fun b_31 => ?_)
            · refine lv_iconst (v := nI 1) F.1 F.2.1 dX1_needs_40 (by decide) ?_
              exact m_reti F hr hlk hI (⟨rfl, Or.inr (Or.inl ⟨by omega, rfl⟩)⟩) dX1_needs_41
            · refine lv_iload_n F.1 F.2.1 dX1_needs_34 rfl (lv_at hl 1 rfl) ?_
              refine lv_bipush (v := nI 11) F.1 F.2.1 dX1_needs_35 (by decide) ?_
              refine t_icmp_ne (tgt := 42) F (nI_toInt (by omega)) (nI_toInt (by decide)) dX1_needs_37 (by decide) (fun b_37 => ?_) (fun b_37 => ?_)
              · have ha := hk (by omega)
                rw [ha] at hl
                refine lv_iload_n F.1 F.2.1 dX1_needs_42 rfl (lv_at hl 2 rfl) ?_
                refine lv_iconst (v := nI 1) F.1 F.2.1 dX1_needs_43 (by decide) ?_
                refine n_iadd F dX1_needs_44 ?_
                exact m_reti F hr hlk hI (⟨rfl, Or.inr (Or.inr ⟨by omega, rfl⟩)⟩) dX1_needs_45
              · refine lv_iconst (v := nI 1) F.1 F.2.1 dX1_needs_40 (by decide) ?_
                exact m_reti F hr hlk hI (⟨rfl, Or.inr (Or.inl ⟨by omega, rfl⟩)⟩) dX1_needs_41
        · refine lv_iconst (v := nI 0) F.1 F.2.1 dX1_needs_21 (by decide) ?_
          exact m_reti F hr hlk hI (⟨rfl, Or.inl ⟨by omega, rfl⟩⟩) dX1_needs_22
set_option maxHeartbeats 4000000 in
set_option maxRecDepth 100000 in
theorem metX1_faulty (l : Launch) (g : va_G) (ad : Nat → Nat) (d : Nat → ClassId) (A : Nat → Prop) (u : XS) (o k : Nat) (a : Int32) (ho : o ≤ 13) (hk : (o = 1 ∨ 4 ≤ o ∧ o ≤ 9) → a = nI k) (hk31 : k ≤ 31) (h8 : u.1 4 ≤ 8) : Met l yX1_faulty (ws_ yX1_faulty cX1_faulty 3 (some .boolean)) ({ frames := 1, cells := 0, slots := 0, locals := 22 }) (mPc g ad d A u [.int (nI o), .int a]) (mQi g ad d A (fun r u2 => u2 = u ∧ (fl o a (u.1 4) ∧ r = nI 1 ∨ ¬ fl o a (u.1 4) ∧ r = nI 0))) 0 0 A := by
  refine m_met (by decide) rfl (Nat.le_of_ble_eq_true rfl) ?_
  intro p e s m below meth c ls F hr hlk hI hl
  have hl : lv_has ls 3 [(0, .ref (ad 0)), (1, .int (nI o)), (2, .int a)] := hl
  have hat : (o = 1 ∨ 4 ≤ o ∧ o ≤ 9) → a.toInt = (k : Int) := fun h => by rw [hk h, nI_toInt (by omega)]
  refine lv_aload_n F.1 F.2.1 dX1_faulty_0 rfl (lv_at hl 0 rfl) ?_
  refine mg4 (v := u.1 4) F hI rfl dX1_faulty_1 ?_
  refine lv_aload_n F.1 F.2.1 dX1_faulty_4 rfl (lv_at hl 0 rfl) ?_
  refine lv_iload_n F.1 F.2.1 dX1_faulty_5 rfl (lv_at hl 1 rfl) ?_
  refine lv_iload_n F.1 F.2.1 dX1_faulty_6 rfl (lv_at hl 2 rfl) ?_
  refine m_calli (n := 2) (rest := [.int (nI (u.1 4))]) (av := [.int (nI o), .int a]) F hI (metX1_needs l g ad d A u o k a ho hk) (lw_V q276 q278 qs20 q26 q279) (by decide +kernel) ⟨by decide, by decide⟩ ⟨rfl, rfl⟩ ⟨Nat.zero_le _, Nat.zero_le _⟩ rfl hl.1 rfl (Nat.le_of_ble_eq_true rfl) dX1_faulty_7 (fun r7 u7 H locs hp7 hI => ?_)
  rw [hp7.1] at hI
  rcases hp7.2 with ⟨hoo, rfl⟩ | ⟨hoo, rfl⟩ | ⟨hoo, rfl⟩
  · have hoo := hoo
    refine t_icmp_lt (tgt := 27) F (nI_toInt (by omega)) (nI_toInt (by decide)) dX1_faulty_10 (by decide) (fun b_10 => ?_) (fun b_10 => ?_)
    · refine lv_iconst (v := nI 1) F.1 F.2.1 dX1_faulty_27 (by decide) ?_
      refine lv_goto (tgt := 32) F.1 F.2.1 dX1_faulty_28 (by decide) ?_
      exact m_retz F hr hlk hI rfl (⟨rfl, Or.inl ⟨by unfold fl; omega, rfl⟩⟩) dX1_faulty_32
    · refine lv_iload_n F.1 F.2.1 dX1_faulty_13 rfl (lv_at hl 1 rfl) ?_
      refine lv_iconst (v := nI 2) F.1 F.2.1 dX1_faulty_14 (by decide) ?_
      refine t_icmp_gt (tgt := 31) F (nI_toInt (by omega)) (nI_toInt (by decide)) dX1_faulty_15 (by decide) (fun b_15 => ?_) (fun b_15 => ?_)
      · refine lv_iconst (v := nI 0) F.1 F.2.1 dX1_faulty_31 (by decide) ?_
        exact m_retz F hr hlk hI rfl (⟨rfl, Or.inr ⟨by unfold fl; omega, rfl⟩⟩) dX1_faulty_32
      · refine lv_aload_n F.1 F.2.1 dX1_faulty_18 rfl (lv_at hl 0 rfl) ?_
        refine mg4 (v := u.1 4) F hI rfl dX1_faulty_19 ?_
        refine lv_bipush (v := nI 8) F.1 F.2.1 dX1_faulty_22 (by decide) ?_
        refine t_icmp_ne (tgt := 31) F (nI_toInt (by omega)) (nI_toInt (by decide)) dX1_faulty_24 (by decide) (fun b_24 => ?_) (fun b_24 => ?_)
        · refine lv_iconst (v := nI 0) F.1 F.2.1 dX1_faulty_31 (by decide) ?_
          exact m_retz F hr hlk hI rfl (⟨rfl, Or.inr ⟨by unfold fl; omega, rfl⟩⟩) dX1_faulty_32
        · refine lv_iconst (v := nI 1) F.1 F.2.1 dX1_faulty_27 (by decide) ?_
          refine lv_goto (tgt := 32) F.1 F.2.1 dX1_faulty_28 (by decide) ?_
          exact m_retz F hr hlk hI rfl (⟨rfl, Or.inl ⟨by unfold fl; omega, rfl⟩⟩) dX1_faulty_32
  · have hoo := hoo
    refine t_icmp_lt (tgt := 27) F (nI_toInt (by omega)) (nI_toInt (by decide)) dX1_faulty_10 (by decide) (fun b_10 => ?_) (fun b_10 => ?_)
    · refine lv_iconst (v := nI 1) F.1 F.2.1 dX1_faulty_27 (by decide) ?_
      refine lv_goto (tgt := 32) F.1 F.2.1 dX1_faulty_28 (by decide) ?_
      exact m_retz F hr hlk hI rfl (⟨rfl, Or.inl ⟨by unfold fl; omega, rfl⟩⟩) dX1_faulty_32
    · refine lv_iload_n F.1 F.2.1 dX1_faulty_13 rfl (lv_at hl 1 rfl) ?_
      refine lv_iconst (v := nI 2) F.1 F.2.1 dX1_faulty_14 (by decide) ?_
      refine t_icmp_gt (tgt := 31) F (nI_toInt (by omega)) (nI_toInt (by decide)) dX1_faulty_15 (by decide) (fun b_15 => ?_) (fun b_15 => ?_)
      · refine lv_iconst (v := nI 0) F.1 F.2.1 dX1_faulty_31 (by decide) ?_
        exact m_retz F hr hlk hI rfl (⟨rfl, Or.inr ⟨by unfold fl; omega, rfl⟩⟩) dX1_faulty_32
      · refine lv_aload_n F.1 F.2.1 dX1_faulty_18 rfl (lv_at hl 0 rfl) ?_
        refine mg4 (v := u.1 4) F hI rfl dX1_faulty_19 ?_
        refine lv_bipush (v := nI 8) F.1 F.2.1 dX1_faulty_22 (by decide) ?_
        refine t_icmp_ne (tgt := 31) F (nI_toInt (by omega)) (nI_toInt (by decide)) dX1_faulty_24 (by decide) (fun b_24 => ?_) (fun b_24 => ?_)
        · refine lv_iconst (v := nI 0) F.1 F.2.1 dX1_faulty_31 (by decide) ?_
          exact m_retz F hr hlk hI rfl (⟨rfl, Or.inr ⟨by unfold fl; omega, rfl⟩⟩) dX1_faulty_32
        · refine lv_iconst (v := nI 1) F.1 F.2.1 dX1_faulty_27 (by decide) ?_
          refine lv_goto (tgt := 32) F.1 F.2.1 dX1_faulty_28 (by decide) ?_
          exact m_retz F hr hlk hI rfl (⟨rfl, Or.inl ⟨by unfold fl; omega, rfl⟩⟩) dX1_faulty_32
  · have hoo := hoo
    refine t_icmp_lt (tgt := 27) F (nI_toInt (by omega)) (nI_toInt (by omega)) dX1_faulty_10 (by decide) (fun b_10 => ?_) (fun b_10 => ?_)
    · refine lv_iconst (v := nI 1) F.1 F.2.1 dX1_faulty_27 (by decide) ?_
      refine lv_goto (tgt := 32) F.1 F.2.1 dX1_faulty_28 (by decide) ?_
      exact m_retz F hr hlk hI rfl (⟨rfl, Or.inl ⟨by unfold fl; omega, rfl⟩⟩) dX1_faulty_32
    · refine lv_iload_n F.1 F.2.1 dX1_faulty_13 rfl (lv_at hl 1 rfl) ?_
      refine lv_iconst (v := nI 2) F.1 F.2.1 dX1_faulty_14 (by decide) ?_
      refine t_icmp_gt (tgt := 31) F (nI_toInt (by omega)) (nI_toInt (by decide)) dX1_faulty_15 (by decide) (fun b_15 => ?_) (fun b_15 => ?_)
      · refine lv_iconst (v := nI 0) F.1 F.2.1 dX1_faulty_31 (by decide) ?_
        exact m_retz F hr hlk hI rfl (⟨rfl, Or.inr ⟨by unfold fl; omega, rfl⟩⟩) dX1_faulty_32
      · refine lv_aload_n F.1 F.2.1 dX1_faulty_18 rfl (lv_at hl 0 rfl) ?_
        refine mg4 (v := u.1 4) F hI rfl dX1_faulty_19 ?_
        refine lv_bipush (v := nI 8) F.1 F.2.1 dX1_faulty_22 (by decide) ?_
        refine t_icmp_ne (tgt := 31) F (nI_toInt (by omega)) (nI_toInt (by decide)) dX1_faulty_24 (by decide) (fun b_24 => ?_) (fun b_24 => ?_)
        · refine lv_iconst (v := nI 0) F.1 F.2.1 dX1_faulty_31 (by decide) ?_
          exact m_retz F hr hlk hI rfl (⟨rfl, Or.inr ⟨by unfold fl; omega, rfl⟩⟩) dX1_faulty_32
        · refine lv_iconst (v := nI 1) F.1 F.2.1 dX1_faulty_27 (by decide) ?_
          refine lv_goto (tgt := 32) F.1 F.2.1 dX1_faulty_28 (by decide) ?_
          exact m_retz F hr hlk hI rfl (⟨rfl, Or.inl ⟨by unfold fl; omega, rfl⟩⟩) dX1_faulty_32
set_option maxHeartbeats 4000000 in
set_option maxRecDepth 100000 in
theorem metX1_calculate (l : Launch) (g : va_G) (ad : Nat → Nat) (d : Nat → ClassId) (A : Nat → Prop) (u : XS) (o k : Nat) (ho : 4 ≤ o) (ho9 : o ≤ 9) (hk : k < u.1 4) (h8 : u.1 4 ≤ 8) : Met l yX1_calculate (ws_ yX1_calculate cX1_calculate 4 none) ({ frames := 1, cells := 0, slots := 0, locals := 22 }) (mPc g ad d A u [.int (nI o), .int (nI k)]) (mQv g ad d A (fun u2 => caR o k u u2)) 0 0 A := by
  refine m_met (by decide) rfl (Nat.le_of_ble_eq_true rfl) ?_
  intro p e s m below meth c ls F hr hlk hI hl
  have hl : lv_has ls 4 [(0, .ref (ad 0)), (1, .int (nI o)), (2, .int (nI k))] := hl
  obtain rfl | rfl | rfl | rfl | rfl | rfl : o = 4 ∨ o = 5 ∨ o = 6 ∨ o = 7 ∨ o = 8 ∨ o = 9 := by omega
  · have hk8 : k < 8 := by omega
    refine lv_iload_n F.1 F.2.1 dX1_calculate_0 rfl (lv_at hl 1 rfl) ?_
    refine lv_iconst (v := nI 4) F.1 F.2.1 dX1_calculate_1 (by decide) ?_
    refine t_icmp_ne (tgt := 31) F (nI_toInt (by decide)) (nI_toInt (by decide)) dX1_calculate_2 (by decide) (fun b_2 => absurd b_2 (by omega)) (fun b_2 => ?_)
    refine lv_aload_n F.1 F.2.1 dX1_calculate_5 rfl (lv_at hl 0 rfl) ?_
    refine mg3 F hI dX1_calculate_6 ?_
    refine lv_iconst (v := nI 0) F.1 F.2.1 dX1_calculate_9 (by decide) ?_
    refine ml3 (x := u.2.2 3 0) F hI (by omega) rfl dX1_calculate_10 ?_
    refine lv_istore_n (lv' := [(3, .int (u.2.2 3 0)), (0, .ref (ad 0)), (1, .int (nI 4)), (2, .int (nI k))]) F.1 F.2.1 dX1_calculate_11 rfl hl (by decide) rfl (fun ls hl => ?_)
    refine lv_aload_n F.1 F.2.1 dX1_calculate_12 rfl (lv_at hl 1 rfl) ?_
    refine mg3 F hI dX1_calculate_13 ?_
    refine lv_iconst (v := nI 0) F.1 F.2.1 dX1_calculate_16 (by decide) ?_
    refine lv_aload_n F.1 F.2.1 dX1_calculate_17 rfl (lv_at hl 1 rfl) ?_
    refine mg3 F hI dX1_calculate_18 ?_
    refine lv_iload_n F.1 F.2.1 dX1_calculate_21 rfl (lv_at hl 3 rfl) ?_
    refine ml3 (x := u.2.2 3 k) F hI (by omega) rfl dX1_calculate_22 ?_
    refine mt3 (x := u.2.2 3 k) F hI (by omega) dX1_calculate_23 (fun H locs hI => ?_)
    refine lv_aload_n F.1 F.2.1 dX1_calculate_24 rfl (lv_at hl 1 rfl) ?_
    refine mg3 F hI dX1_calculate_25 ?_
    refine lv_iload_n F.1 F.2.1 dX1_calculate_28 rfl (lv_at hl 3 rfl) ?_
    refine lv_iload_n F.1 F.2.1 dX1_calculate_29 rfl (lv_at hl 0 rfl) ?_
    refine mt3 (x := u.2.2 3 0) F hI (by omega) dX1_calculate_30 (fun H locs hI => ?_)
    refine lv_iload_n F.1 F.2.1 dX1_calculate_31 rfl (lv_at hl 2 rfl) ?_
    refine lv_iconst (v := nI 5) F.1 F.2.1 dX1_calculate_32 (by decide) ?_
    refine t_icmp_ne (tgt := 55) F (nI_toInt (by decide)) (nI_toInt (by decide)) dX1_calculate_33 (by decide) (fun b_33 => ?_) (fun b_33 => absurd b_33 (by omega))
    refine lv_iload_n F.1 F.2.1 dX1_calculate_55 rfl (lv_at hl 2 rfl) ?_
    refine lv_bipush (v := nI 6) F.1 F.2.1 dX1_calculate_56 (by decide) ?_
    refine t_icmp_ne (tgt := 80) F (nI_toInt (by decide)) (nI_toInt (by decide)) dX1_calculate_58 (by decide) (fun b_58 => ?_) (fun b_58 => absurd b_58 (by omega))
    refine lv_iload_n F.1 F.2.1 dX1_calculate_80 rfl (lv_at hl 2 rfl) ?_
    refine lv_bipush (v := nI 7) F.1 F.2.1 dX1_calculate_81 (by decide) ?_
    refine t_icmp_ne (tgt := 105) F (nI_toInt (by decide)) (nI_toInt (by decide)) dX1_calculate_83 (by decide) (fun b_83 => ?_) (fun b_83 => absurd b_83 (by omega))
    refine lv_iload_n F.1 F.2.1 dX1_calculate_105 rfl (lv_at hl 2 rfl) ?_
    refine lv_bipush (v := nI 8) F.1 F.2.1 dX1_calculate_106 (by decide) ?_
    refine t_icmp_ne (tgt := 130) F (nI_toInt (by decide)) (nI_toInt (by decide)) dX1_calculate_108 (by decide) (fun b_108 => ?_) (fun b_108 => absurd b_108 (by omega))
    refine lv_iload_n F.1 F.2.1 dX1_calculate_130 rfl (lv_at hl 2 rfl) ?_
    refine lv_bipush (v := nI 9) F.1 F.2.1 dX1_calculate_131 (by decide) ?_
    refine t_icmp_ne (tgt := 155) F (nI_toInt (by decide)) (nI_toInt (by decide)) dX1_calculate_133 (by decide) (fun b_133 => ?_) (fun b_133 => absurd b_133 (by omega))
    refine lv_iload_n F.1 F.2.1 dX1_calculate_155 rfl (lv_at hl 2 rfl) ?_
    refine lv_bipush (v := nI 8) F.1 F.2.1 dX1_calculate_156 (by decide) ?_
    refine t_icmp_eq (tgt := 167) F (nI_toInt (by decide)) (nI_toInt (by decide)) dX1_calculate_158 (by decide) (fun b_158 => absurd b_158 (by omega)) (fun b_158 => ?_)
    refine lv_iload_n F.1 F.2.1 dX1_calculate_161 rfl (lv_at hl 2 rfl) ?_
    refine lv_bipush (v := nI 9) F.1 F.2.1 dX1_calculate_162 (by decide) ?_
    refine t_icmp_ne (tgt := 172) F (nI_toInt (by decide)) (nI_toInt (by decide)) dX1_calculate_164 (by decide) (fun b_164 => ?_) (fun b_164 => absurd b_164 (by omega))
    exact m_retv F hr hlk hI (⟨fun q => by simp [xz], rfl, fun j hj => by simp [xz, va_up, hj], fun _ => rfl, fun h => absurd h (by omega)⟩) dX1_calculate_172
  · have hk8 : k < 8 := by omega
    refine lv_iload_n F.1 F.2.1 dX1_calculate_0 rfl (lv_at hl 1 rfl) ?_
    refine lv_iconst (v := nI 4) F.1 F.2.1 dX1_calculate_1 (by decide) ?_
    refine t_icmp_ne (tgt := 31) F (nI_toInt (by decide)) (nI_toInt (by decide)) dX1_calculate_2 (by decide) (fun b_2 => ?_) (fun b_2 => absurd b_2 (by omega))
    refine lv_iload_n F.1 F.2.1 dX1_calculate_31 rfl (lv_at hl 1 rfl) ?_
    refine lv_iconst (v := nI 5) F.1 F.2.1 dX1_calculate_32 (by decide) ?_
    refine t_icmp_ne (tgt := 55) F (nI_toInt (by decide)) (nI_toInt (by decide)) dX1_calculate_33 (by decide) (fun b_33 => absurd b_33 (by omega)) (fun b_33 => ?_)
    refine lv_aload_n F.1 F.2.1 dX1_calculate_36 rfl (lv_at hl 0 rfl) ?_
    refine mg3 F hI dX1_calculate_37 ?_
    refine lv_iconst (v := nI 0) F.1 F.2.1 dX1_calculate_40 (by decide) ?_
    refine lv_aload_n F.1 F.2.1 dX1_calculate_41 rfl (lv_at hl 0 rfl) ?_
    refine mg3 F hI dX1_calculate_42 ?_
    refine lv_iconst (v := nI 0) F.1 F.2.1 dX1_calculate_45 (by decide) ?_
    refine ml3 (x := u.2.2 3 0) F hI (by omega) rfl dX1_calculate_46 ?_
    refine lv_aload_n F.1 F.2.1 dX1_calculate_47 rfl (lv_at hl 0 rfl) ?_
    refine mg3 F hI dX1_calculate_48 ?_
    refine lv_iload_n F.1 F.2.1 dX1_calculate_51 rfl (lv_at hl 2 rfl) ?_
    refine ml3 (x := u.2.2 3 k) F hI (by omega) rfl dX1_calculate_52 ?_
    refine lv_iadd F.1 F.2.1 dX1_calculate_53 ?_
    refine mt3 (x := (u.2.2 3 0) + (u.2.2 3 k)) F hI (by omega) dX1_calculate_54 (fun H locs hI => ?_)
    refine lv_iload_n F.1 F.2.1 dX1_calculate_55 rfl (lv_at hl 1 rfl) ?_
    refine lv_bipush (v := nI 6) F.1 F.2.1 dX1_calculate_56 (by decide) ?_
    refine t_icmp_ne (tgt := 80) F (nI_toInt (by decide)) (nI_toInt (by decide)) dX1_calculate_58 (by decide) (fun b_58 => ?_) (fun b_58 => absurd b_58 (by omega))
    refine lv_iload_n F.1 F.2.1 dX1_calculate_80 rfl (lv_at hl 1 rfl) ?_
    refine lv_bipush (v := nI 7) F.1 F.2.1 dX1_calculate_81 (by decide) ?_
    refine t_icmp_ne (tgt := 105) F (nI_toInt (by decide)) (nI_toInt (by decide)) dX1_calculate_83 (by decide) (fun b_83 => ?_) (fun b_83 => absurd b_83 (by omega))
    refine lv_iload_n F.1 F.2.1 dX1_calculate_105 rfl (lv_at hl 1 rfl) ?_
    refine lv_bipush (v := nI 8) F.1 F.2.1 dX1_calculate_106 (by decide) ?_
    refine t_icmp_ne (tgt := 130) F (nI_toInt (by decide)) (nI_toInt (by decide)) dX1_calculate_108 (by decide) (fun b_108 => ?_) (fun b_108 => absurd b_108 (by omega))
    refine lv_iload_n F.1 F.2.1 dX1_calculate_130 rfl (lv_at hl 1 rfl) ?_
    refine lv_bipush (v := nI 9) F.1 F.2.1 dX1_calculate_131 (by decide) ?_
    refine t_icmp_ne (tgt := 155) F (nI_toInt (by decide)) (nI_toInt (by decide)) dX1_calculate_133 (by decide) (fun b_133 => ?_) (fun b_133 => absurd b_133 (by omega))
    refine lv_iload_n F.1 F.2.1 dX1_calculate_155 rfl (lv_at hl 1 rfl) ?_
    refine lv_bipush (v := nI 8) F.1 F.2.1 dX1_calculate_156 (by decide) ?_
    refine t_icmp_eq (tgt := 167) F (nI_toInt (by decide)) (nI_toInt (by decide)) dX1_calculate_158 (by decide) (fun b_158 => absurd b_158 (by omega)) (fun b_158 => ?_)
    refine lv_iload_n F.1 F.2.1 dX1_calculate_161 rfl (lv_at hl 1 rfl) ?_
    refine lv_bipush (v := nI 9) F.1 F.2.1 dX1_calculate_162 (by decide) ?_
    refine t_icmp_ne (tgt := 172) F (nI_toInt (by decide)) (nI_toInt (by decide)) dX1_calculate_164 (by decide) (fun b_164 => ?_) (fun b_164 => absurd b_164 (by omega))
    exact m_retv F hr hlk hI (⟨fun q => by simp [xz], rfl, fun j hj => by simp [xz, va_up, hj], fun _ => rfl, fun h => absurd h (by omega)⟩) dX1_calculate_172
  · have hk8 : k < 8 := by omega
    refine lv_iload_n F.1 F.2.1 dX1_calculate_0 rfl (lv_at hl 1 rfl) ?_
    refine lv_iconst (v := nI 4) F.1 F.2.1 dX1_calculate_1 (by decide) ?_
    refine t_icmp_ne (tgt := 31) F (nI_toInt (by decide)) (nI_toInt (by decide)) dX1_calculate_2 (by decide) (fun b_2 => ?_) (fun b_2 => absurd b_2 (by omega))
    refine lv_iload_n F.1 F.2.1 dX1_calculate_31 rfl (lv_at hl 1 rfl) ?_
    refine lv_iconst (v := nI 5) F.1 F.2.1 dX1_calculate_32 (by decide) ?_
    refine t_icmp_ne (tgt := 55) F (nI_toInt (by decide)) (nI_toInt (by decide)) dX1_calculate_33 (by decide) (fun b_33 => ?_) (fun b_33 => absurd b_33 (by omega))
    refine lv_iload_n F.1 F.2.1 dX1_calculate_55 rfl (lv_at hl 1 rfl) ?_
    refine lv_bipush (v := nI 6) F.1 F.2.1 dX1_calculate_56 (by decide) ?_
    refine t_icmp_ne (tgt := 80) F (nI_toInt (by decide)) (nI_toInt (by decide)) dX1_calculate_58 (by decide) (fun b_58 => absurd b_58 (by omega)) (fun b_58 => ?_)
    refine lv_aload_n F.1 F.2.1 dX1_calculate_61 rfl (lv_at hl 0 rfl) ?_
    refine mg3 F hI dX1_calculate_62 ?_
    refine lv_iconst (v := nI 0) F.1 F.2.1 dX1_calculate_65 (by decide) ?_
    refine lv_aload_n F.1 F.2.1 dX1_calculate_66 rfl (lv_at hl 0 rfl) ?_
    refine mg3 F hI dX1_calculate_67 ?_
    refine lv_iconst (v := nI 0) F.1 F.2.1 dX1_calculate_70 (by decide) ?_
    refine ml3 (x := u.2.2 3 0) F hI (by omega) rfl dX1_calculate_71 ?_
    refine lv_aload_n F.1 F.2.1 dX1_calculate_72 rfl (lv_at hl 0 rfl) ?_
    refine mg3 F hI dX1_calculate_73 ?_
    refine lv_iload_n F.1 F.2.1 dX1_calculate_76 rfl (lv_at hl 2 rfl) ?_
    refine ml3 (x := u.2.2 3 k) F hI (by omega) rfl dX1_calculate_77 ?_
    refine lv_isub F.1 F.2.1 dX1_calculate_78 ?_
    refine mt3 (x := (u.2.2 3 0) - (u.2.2 3 k)) F hI (by omega) dX1_calculate_79 (fun H locs hI => ?_)
    refine lv_iload_n F.1 F.2.1 dX1_calculate_80 rfl (lv_at hl 1 rfl) ?_
    refine lv_bipush (v := nI 7) F.1 F.2.1 dX1_calculate_81 (by decide) ?_
    refine t_icmp_ne (tgt := 105) F (nI_toInt (by decide)) (nI_toInt (by decide)) dX1_calculate_83 (by decide) (fun b_83 => ?_) (fun b_83 => absurd b_83 (by omega))
    refine lv_iload_n F.1 F.2.1 dX1_calculate_105 rfl (lv_at hl 1 rfl) ?_
    refine lv_bipush (v := nI 8) F.1 F.2.1 dX1_calculate_106 (by decide) ?_
    refine t_icmp_ne (tgt := 130) F (nI_toInt (by decide)) (nI_toInt (by decide)) dX1_calculate_108 (by decide) (fun b_108 => ?_) (fun b_108 => absurd b_108 (by omega))
    refine lv_iload_n F.1 F.2.1 dX1_calculate_130 rfl (lv_at hl 1 rfl) ?_
    refine lv_bipush (v := nI 9) F.1 F.2.1 dX1_calculate_131 (by decide) ?_
    refine t_icmp_ne (tgt := 155) F (nI_toInt (by decide)) (nI_toInt (by decide)) dX1_calculate_133 (by decide) (fun b_133 => ?_) (fun b_133 => absurd b_133 (by omega))
    refine lv_iload_n F.1 F.2.1 dX1_calculate_155 rfl (lv_at hl 1 rfl) ?_
    refine lv_bipush (v := nI 8) F.1 F.2.1 dX1_calculate_156 (by decide) ?_
    refine t_icmp_eq (tgt := 167) F (nI_toInt (by decide)) (nI_toInt (by decide)) dX1_calculate_158 (by decide) (fun b_158 => absurd b_158 (by omega)) (fun b_158 => ?_)
    refine lv_iload_n F.1 F.2.1 dX1_calculate_161 rfl (lv_at hl 1 rfl) ?_
    refine lv_bipush (v := nI 9) F.1 F.2.1 dX1_calculate_162 (by decide) ?_
    refine t_icmp_ne (tgt := 172) F (nI_toInt (by decide)) (nI_toInt (by decide)) dX1_calculate_164 (by decide) (fun b_164 => ?_) (fun b_164 => absurd b_164 (by omega))
    exact m_retv F hr hlk hI (⟨fun q => by simp [xz], rfl, fun j hj => by simp [xz, va_up, hj], fun _ => rfl, fun h => absurd h (by omega)⟩) dX1_calculate_172
  · have hk8 : k < 8 := by omega
    refine lv_iload_n F.1 F.2.1 dX1_calculate_0 rfl (lv_at hl 1 rfl) ?_
    refine lv_iconst (v := nI 4) F.1 F.2.1 dX1_calculate_1 (by decide) ?_
    refine t_icmp_ne (tgt := 31) F (nI_toInt (by decide)) (nI_toInt (by decide)) dX1_calculate_2 (by decide) (fun b_2 => ?_) (fun b_2 => absurd b_2 (by omega))
    refine lv_iload_n F.1 F.2.1 dX1_calculate_31 rfl (lv_at hl 1 rfl) ?_
    refine lv_iconst (v := nI 5) F.1 F.2.1 dX1_calculate_32 (by decide) ?_
    refine t_icmp_ne (tgt := 55) F (nI_toInt (by decide)) (nI_toInt (by decide)) dX1_calculate_33 (by decide) (fun b_33 => ?_) (fun b_33 => absurd b_33 (by omega))
    refine lv_iload_n F.1 F.2.1 dX1_calculate_55 rfl (lv_at hl 1 rfl) ?_
    refine lv_bipush (v := nI 6) F.1 F.2.1 dX1_calculate_56 (by decide) ?_
    refine t_icmp_ne (tgt := 80) F (nI_toInt (by decide)) (nI_toInt (by decide)) dX1_calculate_58 (by decide) (fun b_58 => ?_) (fun b_58 => absurd b_58 (by omega))
    refine lv_iload_n F.1 F.2.1 dX1_calculate_80 rfl (lv_at hl 1 rfl) ?_
    refine lv_bipush (v := nI 7) F.1 F.2.1 dX1_calculate_81 (by decide) ?_
    refine t_icmp_ne (tgt := 105) F (nI_toInt (by decide)) (nI_toInt (by decide)) dX1_calculate_83 (by decide) (fun b_83 => absurd b_83 (by omega)) (fun b_83 => ?_)
    refine lv_aload_n F.1 F.2.1 dX1_calculate_86 rfl (lv_at hl 0 rfl) ?_
    refine mg3 F hI dX1_calculate_87 ?_
    refine lv_iconst (v := nI 0) F.1 F.2.1 dX1_calculate_90 (by decide) ?_
    refine lv_aload_n F.1 F.2.1 dX1_calculate_91 rfl (lv_at hl 0 rfl) ?_
    refine mg3 F hI dX1_calculate_92 ?_
    refine lv_iconst (v := nI 0) F.1 F.2.1 dX1_calculate_95 (by decide) ?_
    refine ml3 (x := u.2.2 3 0) F hI (by omega) rfl dX1_calculate_96 ?_
    refine lv_aload_n F.1 F.2.1 dX1_calculate_97 rfl (lv_at hl 0 rfl) ?_
    refine mg3 F hI dX1_calculate_98 ?_
    refine lv_iload_n F.1 F.2.1 dX1_calculate_101 rfl (lv_at hl 2 rfl) ?_
    refine ml3 (x := u.2.2 3 k) F hI (by omega) rfl dX1_calculate_102 ?_
    refine lv_imul F.1 F.2.1 dX1_calculate_103 ?_
    refine mt3 (x := (u.2.2 3 0) * (u.2.2 3 k)) F hI (by omega) dX1_calculate_104 (fun H locs hI => ?_)
    refine lv_iload_n F.1 F.2.1 dX1_calculate_105 rfl (lv_at hl 1 rfl) ?_
    refine lv_bipush (v := nI 8) F.1 F.2.1 dX1_calculate_106 (by decide) ?_
    refine t_icmp_ne (tgt := 130) F (nI_toInt (by decide)) (nI_toInt (by decide)) dX1_calculate_108 (by decide) (fun b_108 => ?_) (fun b_108 => absurd b_108 (by omega))
    refine lv_iload_n F.1 F.2.1 dX1_calculate_130 rfl (lv_at hl 1 rfl) ?_
    refine lv_bipush (v := nI 9) F.1 F.2.1 dX1_calculate_131 (by decide) ?_
    refine t_icmp_ne (tgt := 155) F (nI_toInt (by decide)) (nI_toInt (by decide)) dX1_calculate_133 (by decide) (fun b_133 => ?_) (fun b_133 => absurd b_133 (by omega))
    refine lv_iload_n F.1 F.2.1 dX1_calculate_155 rfl (lv_at hl 1 rfl) ?_
    refine lv_bipush (v := nI 8) F.1 F.2.1 dX1_calculate_156 (by decide) ?_
    refine t_icmp_eq (tgt := 167) F (nI_toInt (by decide)) (nI_toInt (by decide)) dX1_calculate_158 (by decide) (fun b_158 => absurd b_158 (by omega)) (fun b_158 => ?_)
    refine lv_iload_n F.1 F.2.1 dX1_calculate_161 rfl (lv_at hl 1 rfl) ?_
    refine lv_bipush (v := nI 9) F.1 F.2.1 dX1_calculate_162 (by decide) ?_
    refine t_icmp_ne (tgt := 172) F (nI_toInt (by decide)) (nI_toInt (by decide)) dX1_calculate_164 (by decide) (fun b_164 => ?_) (fun b_164 => absurd b_164 (by omega))
    exact m_retv F hr hlk hI (⟨fun q => by simp [xz], rfl, fun j hj => by simp [xz, va_up, hj], fun _ => rfl, fun h => absurd h (by omega)⟩) dX1_calculate_172
  · have hk8 : k < 8 := by omega
    refine lv_iload_n F.1 F.2.1 dX1_calculate_0 rfl (lv_at hl 1 rfl) ?_
    refine lv_iconst (v := nI 4) F.1 F.2.1 dX1_calculate_1 (by decide) ?_
    refine t_icmp_ne (tgt := 31) F (nI_toInt (by decide)) (nI_toInt (by decide)) dX1_calculate_2 (by decide) (fun b_2 => ?_) (fun b_2 => absurd b_2 (by omega))
    refine lv_iload_n F.1 F.2.1 dX1_calculate_31 rfl (lv_at hl 1 rfl) ?_
    refine lv_iconst (v := nI 5) F.1 F.2.1 dX1_calculate_32 (by decide) ?_
    refine t_icmp_ne (tgt := 55) F (nI_toInt (by decide)) (nI_toInt (by decide)) dX1_calculate_33 (by decide) (fun b_33 => ?_) (fun b_33 => absurd b_33 (by omega))
    refine lv_iload_n F.1 F.2.1 dX1_calculate_55 rfl (lv_at hl 1 rfl) ?_
    refine lv_bipush (v := nI 6) F.1 F.2.1 dX1_calculate_56 (by decide) ?_
    refine t_icmp_ne (tgt := 80) F (nI_toInt (by decide)) (nI_toInt (by decide)) dX1_calculate_58 (by decide) (fun b_58 => ?_) (fun b_58 => absurd b_58 (by omega))
    refine lv_iload_n F.1 F.2.1 dX1_calculate_80 rfl (lv_at hl 1 rfl) ?_
    refine lv_bipush (v := nI 7) F.1 F.2.1 dX1_calculate_81 (by decide) ?_
    refine t_icmp_ne (tgt := 105) F (nI_toInt (by decide)) (nI_toInt (by decide)) dX1_calculate_83 (by decide) (fun b_83 => ?_) (fun b_83 => absurd b_83 (by omega))
    refine lv_iload_n F.1 F.2.1 dX1_calculate_105 rfl (lv_at hl 1 rfl) ?_
    refine lv_bipush (v := nI 8) F.1 F.2.1 dX1_calculate_106 (by decide) ?_
    refine t_icmp_ne (tgt := 130) F (nI_toInt (by decide)) (nI_toInt (by decide)) dX1_calculate_108 (by decide) (fun b_108 => absurd b_108 (by omega)) (fun b_108 => ?_)
    refine lv_aload_n F.1 F.2.1 dX1_calculate_111 rfl (lv_at hl 0 rfl) ?_
    refine mg3 F hI dX1_calculate_112 ?_
    refine lv_iload_n F.1 F.2.1 dX1_calculate_115 rfl (lv_at hl 2 rfl) ?_
    refine lv_aload_n F.1 F.2.1 dX1_calculate_116 rfl (lv_at hl 0 rfl) ?_
    refine mg3 F hI dX1_calculate_117 ?_
    refine lv_iload_n F.1 F.2.1 dX1_calculate_120 rfl (lv_at hl 2 rfl) ?_
    refine ml3 (x := u.2.2 3 k) F hI (by omega) rfl dX1_calculate_121 ?_
    refine lv_aload_n F.1 F.2.1 dX1_calculate_122 rfl (lv_at hl 0 rfl) ?_
    refine mg3 F hI dX1_calculate_123 ?_
    refine lv_iconst (v := nI 0) F.1 F.2.1 dX1_calculate_126 (by decide) ?_
    refine ml3 (x := u.2.2 3 0) F hI (by omega) rfl dX1_calculate_127 ?_
    refine lv_iadd F.1 F.2.1 dX1_calculate_128 ?_
    refine mt3 (x := (u.2.2 3 k) + (u.2.2 3 0)) F hI (by omega) dX1_calculate_129 (fun H locs hI => ?_)
    refine lv_iload_n F.1 F.2.1 dX1_calculate_130 rfl (lv_at hl 1 rfl) ?_
    refine lv_bipush (v := nI 9) F.1 F.2.1 dX1_calculate_131 (by decide) ?_
    refine t_icmp_ne (tgt := 155) F (nI_toInt (by decide)) (nI_toInt (by decide)) dX1_calculate_133 (by decide) (fun b_133 => ?_) (fun b_133 => absurd b_133 (by omega))
    refine lv_iload_n F.1 F.2.1 dX1_calculate_155 rfl (lv_at hl 1 rfl) ?_
    refine lv_bipush (v := nI 8) F.1 F.2.1 dX1_calculate_156 (by decide) ?_
    refine t_icmp_eq (tgt := 167) F (nI_toInt (by decide)) (nI_toInt (by decide)) dX1_calculate_158 (by decide) (fun b_158 => ?_) (fun b_158 => absurd b_158 (by omega))
    refine lv_aload_n F.1 F.2.1 dX1_calculate_167 rfl (lv_at hl 0 rfl) ?_
    refine m_calli (n := 0) (rest := []) (av := []) F hI (metX1_pop l g ad d A (xz u 3 k ((u.2.2 3 k) + (u.2.2 3 0))) (show 1 ≤ u.1 4 by omega)) (lw_V q284 q286 qs22 q26 q287) (by decide +kernel) ⟨by decide, by decide⟩ ⟨rfl, rfl⟩ ⟨Nat.zero_le _, Nat.zero_le _⟩ rfl hl.1 rfl (Nat.le_of_ble_eq_true rfl) dX1_calculate_168 (fun r168 u168 H locs hp168 hI => ?_)
    obtain ⟨p0, p1, p2, p3, p4⟩ := hp168
    refine lv_pop F.1 F.2.1 dX1_calculate_171 rfl ?_
    exact m_retv F hr hlk hI (⟨fun q => by rw [p1 q]; by_cases e : q = 4 <;> simp [e, xz], p2, fun j hj => by rw [p3 j hj]; simp [xz, va_up, hj], fun h => absurd h (by omega), fun _ j hj => p4 j hj⟩) dX1_calculate_172
  · have hk8 : k < 8 := by omega
    refine lv_iload_n F.1 F.2.1 dX1_calculate_0 rfl (lv_at hl 1 rfl) ?_
    refine lv_iconst (v := nI 4) F.1 F.2.1 dX1_calculate_1 (by decide) ?_
    refine t_icmp_ne (tgt := 31) F (nI_toInt (by decide)) (nI_toInt (by decide)) dX1_calculate_2 (by decide) (fun b_2 => ?_) (fun b_2 => absurd b_2 (by omega))
    refine lv_iload_n F.1 F.2.1 dX1_calculate_31 rfl (lv_at hl 1 rfl) ?_
    refine lv_iconst (v := nI 5) F.1 F.2.1 dX1_calculate_32 (by decide) ?_
    refine t_icmp_ne (tgt := 55) F (nI_toInt (by decide)) (nI_toInt (by decide)) dX1_calculate_33 (by decide) (fun b_33 => ?_) (fun b_33 => absurd b_33 (by omega))
    refine lv_iload_n F.1 F.2.1 dX1_calculate_55 rfl (lv_at hl 1 rfl) ?_
    refine lv_bipush (v := nI 6) F.1 F.2.1 dX1_calculate_56 (by decide) ?_
    refine t_icmp_ne (tgt := 80) F (nI_toInt (by decide)) (nI_toInt (by decide)) dX1_calculate_58 (by decide) (fun b_58 => ?_) (fun b_58 => absurd b_58 (by omega))
    refine lv_iload_n F.1 F.2.1 dX1_calculate_80 rfl (lv_at hl 1 rfl) ?_
    refine lv_bipush (v := nI 7) F.1 F.2.1 dX1_calculate_81 (by decide) ?_
    refine t_icmp_ne (tgt := 105) F (nI_toInt (by decide)) (nI_toInt (by decide)) dX1_calculate_83 (by decide) (fun b_83 => ?_) (fun b_83 => absurd b_83 (by omega))
    refine lv_iload_n F.1 F.2.1 dX1_calculate_105 rfl (lv_at hl 1 rfl) ?_
    refine lv_bipush (v := nI 8) F.1 F.2.1 dX1_calculate_106 (by decide) ?_
    refine t_icmp_ne (tgt := 130) F (nI_toInt (by decide)) (nI_toInt (by decide)) dX1_calculate_108 (by decide) (fun b_108 => ?_) (fun b_108 => absurd b_108 (by omega))
    refine lv_iload_n F.1 F.2.1 dX1_calculate_130 rfl (lv_at hl 1 rfl) ?_
    refine lv_bipush (v := nI 9) F.1 F.2.1 dX1_calculate_131 (by decide) ?_
    refine t_icmp_ne (tgt := 155) F (nI_toInt (by decide)) (nI_toInt (by decide)) dX1_calculate_133 (by decide) (fun b_133 => absurd b_133 (by omega)) (fun b_133 => ?_)
    refine lv_aload_n F.1 F.2.1 dX1_calculate_136 rfl (lv_at hl 0 rfl) ?_
    refine mg3 F hI dX1_calculate_137 ?_
    refine lv_iload_n F.1 F.2.1 dX1_calculate_140 rfl (lv_at hl 2 rfl) ?_
    refine lv_aload_n F.1 F.2.1 dX1_calculate_141 rfl (lv_at hl 0 rfl) ?_
    refine mg3 F hI dX1_calculate_142 ?_
    refine lv_iload_n F.1 F.2.1 dX1_calculate_145 rfl (lv_at hl 2 rfl) ?_
    refine ml3 (x := u.2.2 3 k) F hI (by omega) rfl dX1_calculate_146 ?_
    refine lv_aload_n F.1 F.2.1 dX1_calculate_147 rfl (lv_at hl 0 rfl) ?_
    refine mg3 F hI dX1_calculate_148 ?_
    refine lv_iconst (v := nI 0) F.1 F.2.1 dX1_calculate_151 (by decide) ?_
    refine ml3 (x := u.2.2 3 0) F hI (by omega) rfl dX1_calculate_152 ?_
    refine lv_isub F.1 F.2.1 dX1_calculate_153 ?_
    refine mt3 (x := (u.2.2 3 k) - (u.2.2 3 0)) F hI (by omega) dX1_calculate_154 (fun H locs hI => ?_)
    refine lv_iload_n F.1 F.2.1 dX1_calculate_155 rfl (lv_at hl 1 rfl) ?_
    refine lv_bipush (v := nI 8) F.1 F.2.1 dX1_calculate_156 (by decide) ?_
    refine t_icmp_eq (tgt := 167) F (nI_toInt (by decide)) (nI_toInt (by decide)) dX1_calculate_158 (by decide) (fun b_158 => absurd b_158 (by omega)) (fun b_158 => ?_)
    refine lv_iload_n F.1 F.2.1 dX1_calculate_161 rfl (lv_at hl 1 rfl) ?_
    refine lv_bipush (v := nI 9) F.1 F.2.1 dX1_calculate_162 (by decide) ?_
    refine t_icmp_ne (tgt := 172) F (nI_toInt (by decide)) (nI_toInt (by decide)) dX1_calculate_164 (by decide) (fun b_164 => absurd b_164 (by omega)) (fun b_164 => ?_)
    refine lv_aload_n F.1 F.2.1 dX1_calculate_167 rfl (lv_at hl 0 rfl) ?_
    refine m_calli (n := 0) (rest := []) (av := []) F hI (metX1_pop l g ad d A (xz u 3 k ((u.2.2 3 k) - (u.2.2 3 0))) (show 1 ≤ u.1 4 by omega)) (lw_V q284 q286 qs22 q26 q287) (by decide +kernel) ⟨by decide, by decide⟩ ⟨rfl, rfl⟩ ⟨Nat.zero_le _, Nat.zero_le _⟩ rfl hl.1 rfl (Nat.le_of_ble_eq_true rfl) dX1_calculate_168 (fun r168 u168 H locs hp168 hI => ?_)
    obtain ⟨p0, p1, p2, p3, p4⟩ := hp168
    refine lv_pop F.1 F.2.1 dX1_calculate_171 rfl ?_
    exact m_retv F hr hlk hI (⟨fun q => by rw [p1 q]; by_cases e : q = 4 <;> simp [e, xz], p2, fun j hj => by rw [p3 j hj]; simp [xz, va_up, hj], fun h => absurd h (by omega), fun _ j hj => p4 j hj⟩) dX1_calculate_172
end
section
set_option maxRecDepth 100000
set_option maxHeartbeats 4000000 in
set_option maxRecDepth 100000 in
theorem metX1_attempt (l : Launch) (g : va_G) (ad : Nat → Nat) (d : Nat → ClassId) (A : Nat → Prop) (u : XS) (hp : pOK (u.1 0) (u.2.1 1) (u.2.2 2)) (h8 : u.1 4 ≤ 8) (h32 : u.1 6 ≤ 32) : Met l yX1_attempt (ws_ yX1_attempt cX1_attempt 4 none) ({ frames := 2, cells := 0, slots := 0, locals := 45 }) (mPc g ad d A u []) (mQv g ad d A (fun u2 => aP u u2)) 0 0 A := by
  refine m_met (by decide) rfl (Nat.le_of_ble_eq_true rfl) ?_
  intro p e s m below meth c ls F hr hlk hI hl
  have hl : lv_has ls 4 [(0, .ref (ad 0))] := hl
  have hL := hp.1
  refine lv_aload_n F.1 F.2.1 dX1_attempt_0 rfl (lv_at hl 0 rfl) ?_
  refine mg6 (v := u.1 6) F hI rfl dX1_attempt_1 ?_
  refine lv_aload_n F.1 F.2.1 dX1_attempt_4 rfl (lv_at hl 0 rfl) ?_
  refine mg0 (v := u.1 0) F hI rfl dX1_attempt_5 ?_
  refine t_icmp_ge (tgt := 36) F (nI_toInt (by omega)) (nI_toInt (by omega)) dX1_attempt_8 (by decide) (fun b_8 => ?_) (fun b_8 => ?_)
  · refine lv_aload_n F.1 F.2.1 dX1_attempt_36 rfl (lv_at hl 0 rfl) ?_
    refine lv_iconst (v := nI 2) F.1 F.2.1 dX1_attempt_37 (by decide) ?_
    refine mp8 (v := 2) F hI dX1_attempt_38 (fun H locs hI => ?_)
    exact m_retv F hr hlk hI (at_fault (Or.inl (by omega))) dX1_attempt_41
  · have hv := hp.2 (u.1 6) (by omega)
    have h13 := hv.1
    obtain ⟨k, hkd⟩ : ∃ k : Nat, k = (u.2.2 2 (u.1 6)).toNatClampNeg := ⟨_, rfl⟩
    have hka : u.2.1 1 (u.1 6) ≠ 0 → u.2.1 1 (u.1 6) ≠ 13 → u.2.2 2 (u.1 6) = nI k ∧ k ≤ 31 ∧ (u.2.1 1 (u.1 6) ≤ 9 → k ≤ 7) := fun h1 h2 => by obtain ⟨k2, a1, a2, a3, -, a5, -⟩ := vOK_k hv h1 h2; rw [hkd, a5]; exact ⟨a1, a2, a3⟩
    obtain ⟨kf, hkf, hkf31⟩ : ∃ kf : Nat, ((u.2.1 1 (u.1 6) = 1 ∨ 4 ≤ u.2.1 1 (u.1 6) ∧ u.2.1 1 (u.1 6) ≤ 9) → u.2.2 2 (u.1 6) = nI kf) ∧ kf ≤ 31 := by
      by_cases q : u.2.1 1 (u.1 6) = 1 ∨ 4 ≤ u.2.1 1 (u.1 6) ∧ u.2.1 1 (u.1 6) ≤ 9
      · exact ⟨k, fun _ => (hka (by omega) (by omega)).1, (hka (by omega) (by omega)).2.1⟩
      · exact ⟨0, fun z => absurd z q, by omega⟩
    refine lv_aload_n F.1 F.2.1 dX1_attempt_11 rfl (lv_at hl 0 rfl) ?_
    refine lv_aload_n F.1 F.2.1 dX1_attempt_12 rfl (lv_at hl 0 rfl) ?_
    refine mg1 F hI dX1_attempt_13 ?_
    refine lv_aload_n F.1 F.2.1 dX1_attempt_16 rfl (lv_at hl 0 rfl) ?_
    refine mg6 (v := u.1 6) F hI rfl dX1_attempt_17 ?_
    refine ml1 (x := u.2.1 1 (u.1 6)) F hI (by omega) rfl dX1_attempt_20 ?_
    refine lv_aload_n F.1 F.2.1 dX1_attempt_21 rfl (lv_at hl 0 rfl) ?_
    refine mg2 F hI dX1_attempt_22 ?_
    refine lv_aload_n F.1 F.2.1 dX1_attempt_25 rfl (lv_at hl 0 rfl) ?_
    refine mg6 (v := u.1 6) F hI rfl dX1_attempt_26 ?_
    refine ml2 (x := u.2.2 2 (u.1 6)) F hI (by omega) rfl dX1_attempt_29 ?_
    refine m_calli (n := 2) (rest := []) (av := [.int (nI (u.2.1 1 (u.1 6))), .int (u.2.2 2 (u.1 6))]) F hI (metX1_faulty l g ad d A u (u.2.1 1 (u.1 6)) kf (u.2.2 2 (u.1 6)) h13 hkf hkf31 h8) (lw_V q272 q274 qs19 q26 q275) (by decide +kernel) ⟨by decide, by decide⟩ ⟨rfl, rfl⟩ ⟨Nat.zero_le _, Nat.zero_le _⟩ rfl hl.1 rfl (Nat.le_of_ble_eq_true rfl) dX1_attempt_30 (fun r30 u30 H locs hp30 hI => ?_)
    rw [hp30.1] at hI
    rcases hp30.2 with ⟨hfl, rfl⟩ | ⟨hfl, rfl⟩
    · have hfl := hfl
      refine t_if_eq (tgt := 42) F (nI_toInt (by decide)) dX1_attempt_33 (by decide) (fun b_33 => absurd b_33 (by omega)) (fun b_33 => ?_)
      refine lv_aload_n F.1 F.2.1 dX1_attempt_36 rfl (lv_at hl 0 rfl) ?_
      refine lv_iconst (v := nI 2) F.1 F.2.1 dX1_attempt_37 (by decide) ?_
      refine mp8 (v := 2) F hI dX1_attempt_38 (fun H locs hI => ?_)
      exact m_retv F hr hlk hI (at_fault (Or.inr hfl)) dX1_attempt_41
    · have hb : ¬ badM u := fun q => q.elim (fun q => by omega) hfl
      obtain ⟨n1, n2, n3, n4⟩ := nofl hv hfl h8
      rw [← hkd] at n3 n4
      refine t_if_eq (tgt := 42) F (nI_toInt (by decide)) dX1_attempt_33 (by decide) (fun b_33 => ?_) (fun b_33 => absurd b_33 (by omega))
      refine lv_aload_n F.1 F.2.1 dX1_attempt_42 rfl (lv_at hl 0 rfl) ?_
      refine mg1 F hI dX1_attempt_43 ?_
      refine lv_aload_n F.1 F.2.1 dX1_attempt_46 rfl (lv_at hl 0 rfl) ?_
      refine mg6 (v := u.1 6) F hI rfl dX1_attempt_47 ?_
      refine ml1 (x := u.2.1 1 (u.1 6)) F hI (by omega) rfl dX1_attempt_50 ?_
      refine lv_istore_n (lv' := [(1, .int (nI (u.2.1 1 (u.1 6)))), (0, .ref (ad 0))]) F.1 F.2.1 dX1_attempt_51 rfl hl (by decide) rfl (fun ls hl => ?_)
      refine lv_aload_n F.1 F.2.1 dX1_attempt_52 rfl (lv_at hl 1 rfl) ?_
      refine mg2 F hI dX1_attempt_53 ?_
      refine lv_aload_n F.1 F.2.1 dX1_attempt_56 rfl (lv_at hl 1 rfl) ?_
      refine mg6 (v := u.1 6) F hI rfl dX1_attempt_57 ?_
      refine ml2 (x := u.2.2 2 (u.1 6)) F hI (by omega) rfl dX1_attempt_60 ?_
      refine lv_istore_n (lv' := [(2, .int (u.2.2 2 (u.1 6))), (1, .int (nI (u.2.1 1 (u.1 6)))), (0, .ref (ad 0))]) F.1 F.2.1 dX1_attempt_61 rfl hl (by decide) rfl (fun ls hl => ?_)
      refine lv_aload_n F.1 F.2.1 dX1_attempt_62 rfl (lv_at hl 2 rfl) ?_
      refine lv_dup F.1 F.2.1 dX1_attempt_63 rfl ?_
      refine mg7 (v := u.1 7) F hI rfl dX1_attempt_64 ?_
      refine lv_iconst (v := nI 1) F.1 F.2.1 dX1_attempt_67 (by decide) ?_
      refine n_iadd F dX1_attempt_68 ?_
      refine mp7 (v := (u.1 7) + 1) F hI dX1_attempt_69 (fun H locs hI => ?_)
      refine lv_iload_n F.1 F.2.1 dX1_attempt_72 rfl (lv_at hl 1 rfl) ?_
      refine lv_bipush (v := nI 13) F.1 F.2.1 dX1_attempt_73 (by decide) ?_
      refine t_icmp_ne (tgt := 84) F (nI_toInt (by omega)) (nI_toInt (by decide)) dX1_attempt_75 (by decide) (fun b_75 => ?_) (fun b_75 => ?_)
      · refine lv_aload_n F.1 F.2.1 dX1_attempt_84 rfl (lv_at hl 2 rfl) ?_
        refine lv_dup F.1 F.2.1 dX1_attempt_85 rfl ?_
        refine mg6 (v := u.1 6) F hI rfl dX1_attempt_86 ?_
        refine lv_iconst (v := nI 1) F.1 F.2.1 dX1_attempt_89 (by decide) ?_
        refine n_iadd F dX1_attempt_90 ?_
        refine mp6 (v := (u.1 6) + 1) F hI dX1_attempt_91 (fun H locs hI => ?_)
        refine lv_iload_n F.1 F.2.1 dX1_attempt_94 rfl (lv_at hl 1 rfl) ?_
        refine t_if_ne (tgt := 106) F (nI_toInt (by omega)) dX1_attempt_95 (by decide) (fun b_95 => ?_) (fun b_95 => ?_)
        · refine lv_iload_n F.1 F.2.1 dX1_attempt_106 rfl (lv_at hl 1 rfl) ?_
          refine lv_iconst (v := nI 1) F.1 F.2.1 dX1_attempt_107 (by decide) ?_
          refine t_icmp_ne (tgt := 124) F (nI_toInt (by omega)) (nI_toInt (by decide)) dX1_attempt_108 (by decide) (fun b_108 => ?_) (fun b_108 => ?_)
          · refine lv_iload_n F.1 F.2.1 dX1_attempt_124 rfl (lv_at hl 1 rfl) ?_
            refine lv_iconst (v := nI 2) F.1 F.2.1 dX1_attempt_125 (by decide) ?_
            refine t_icmp_ne (tgt := 142) F (nI_toInt (by omega)) (nI_toInt (by decide)) dX1_attempt_126 (by decide) (fun b_126 => ?_) (fun b_126 => ?_)
            · refine lv_iload_n F.1 F.2.1 dX1_attempt_142 rfl (lv_at hl 1 rfl) ?_
              refine lv_iconst (v := nI 3) F.1 F.2.1 dX1_attempt_143 (by decide) ?_
              refine t_icmp_ne (tgt := 160) F (nI_toInt (by omega)) (nI_toInt (by decide)) dX1_attempt_144 (by decide) (fun b_144 => ?_) (fun b_144 => ?_)
              · refine lv_iload_n F.1 F.2.1 dX1_attempt_160 rfl (lv_at hl 1 rfl) ?_
                refine lv_bipush (v := nI 12) F.1 F.2.1 dX1_attempt_161 (by decide) ?_
                refine t_icmp_ne (tgt := 174) F (nI_toInt (by omega)) (nI_toInt (by decide)) dX1_attempt_163 (by decide) (fun b_163 => ?_) (fun b_163 => ?_)
                · refine lv_iload_n F.1 F.2.1 dX1_attempt_174 rfl (lv_at hl 1 rfl) ?_
                  refine lv_bipush (v := nI 10) F.1 F.2.1 dX1_attempt_175 (by decide) ?_
                  refine t_icmp_eq (tgt := 186) F (nI_toInt (by omega)) (nI_toInt (by decide)) dX1_attempt_177 (by decide) (fun b_177 => ?_) (fun b_177 => ?_)
                  · refine lv_aload_n F.1 F.2.1 dX1_attempt_186 rfl (lv_at hl 2 rfl) ?_
                    refine m_calli (n := 0) (rest := []) (av := []) F hI (metX1_pop l g ad d A (xs (xs u 7 ((u.1 7) + 1)) 6 ((u.1 6) + 1)) (show 1 ≤ u.1 4 from n2 (by omega))) (lw_V q284 q286 qs22 q26 q287) (by decide +kernel) ⟨by decide, by decide⟩ ⟨rfl, rfl⟩ ⟨Nat.zero_le _, Nat.zero_le _⟩ rfl hl.1 rfl (Nat.le_of_ble_eq_true rfl) dX1_attempt_187 (fun r187 u187 H locs hp187 hI => ?_)
                    refine lv_istore_n (lv' := [(3, .int r187), (2, .int (u.2.2 2 (u.1 6))), (1, .int (nI (u.2.1 1 (u.1 6)))), (0, .ref (ad 0))]) F.1 F.2.1 dX1_attempt_190 rfl hl (by decide) rfl (fun ls hl => ?_)
                    refine lv_iload_n F.1 F.2.1 dX1_attempt_191 rfl (lv_at hl 2 rfl) ?_
                    refine lv_bipush (v := nI 10) F.1 F.2.1 dX1_attempt_192 (by decide) ?_
                    refine t_icmp_ne (tgt := 204) F (nI_toInt (by omega)) (nI_toInt (by decide)) dX1_attempt_194 (by decide) (fun b_194 => absurd b_194 (by omega)) (fun b_194 => ?_)
                    refine lv_iload_n F.1 F.2.1 dX1_attempt_197 rfl (lv_at hl 0 rfl) ?_
                    refine t_if_ne (tgt := 213) F rfl dX1_attempt_198 (by decide) (fun b_198 => ?_) (fun b_198 => ?_)
                    · refine lv_goto (tgt := 222) F.1 F.2.1 dX1_attempt_213 (by decide) ?_
                      exact m_retv F hr hlk hI (at_jz0 hb (by omega) (n2 (by omega)) h8 hp187 (by unfold brT; omega)) dX1_attempt_222
                    · refine lv_goto (tgt := 208) F.1 F.2.1 dX1_attempt_201 (by decide) ?_
                      obtain ⟨ha, hk31, hk7⟩ := hka (by omega) (by omega)
                      rw [ha] at hl
                      refine lv_aload_n F.1 F.2.1 dX1_attempt_208 rfl (lv_at hl 3 rfl) ?_
                      refine lv_iload_n F.1 F.2.1 dX1_attempt_209 rfl (lv_at hl 1 rfl) ?_
                      refine mp6 (v := k) F hI dX1_attempt_210 (fun H locs hI => ?_)
                      refine lv_goto (tgt := 222) F.1 F.2.1 dX1_attempt_213 (by decide) ?_
                      exact m_retv F hr hlk hI (at_jz hb (by omega) (n2 (by omega)) h8 hp187 (Or.inl ⟨by unfold brT; omega, hkd⟩)) dX1_attempt_222
                  · refine lv_iload_n F.1 F.2.1 dX1_attempt_180 rfl (lv_at hl 1 rfl) ?_
                    refine lv_bipush (v := nI 11) F.1 F.2.1 dX1_attempt_181 (by decide) ?_
                    refine t_icmp_ne (tgt := 216) F (nI_toInt (by omega)) (nI_toInt (by decide)) dX1_attempt_183 (by decide) (fun b_183 => ?_) (fun b_183 => ?_)
                    · obtain ⟨ha, hk31, hk7⟩ := hka (by omega) (by omega)
                      rw [ha] at hl
                      refine lv_aload_n F.1 F.2.1 dX1_attempt_216 rfl (lv_at hl 2 rfl) ?_
                      refine lv_iload_n F.1 F.2.1 dX1_attempt_217 rfl (lv_at hl 1 rfl) ?_
                      refine lv_iload_n F.1 F.2.1 dX1_attempt_218 rfl (lv_at hl 0 rfl) ?_
                      refine m_callv (n := 2) (rest := []) (av := [.int (nI (u.2.1 1 (u.1 6))), .int (nI k)]) F hI (metX1_calculate l g ad d A (xs (xs u 7 ((u.1 7) + 1)) 6 ((u.1 6) + 1)) (u.2.1 1 (u.1 6)) k (by omega) (by omega) (n4 (Or.inr ⟨by omega, by omega⟩)) h8) (lw_V q288 q290 qs23 q26 q291) (by decide +kernel) ⟨by decide, by decide⟩ ⟨rfl, rfl⟩ ⟨Nat.zero_le _, Nat.zero_le _⟩ rfl hl.1 rfl (Nat.le_of_ble_eq_true rfl) dX1_attempt_219 (fun u219 H locs hp219 hI => ?_)
                      exact m_retv F hr hlk hI (at_cal hb (by omega) (by omega) h8 hkd (n4 (by omega)) hp219) dX1_attempt_222
                    · refine lv_aload_n F.1 F.2.1 dX1_attempt_186 rfl (lv_at hl 2 rfl) ?_
                      refine m_calli (n := 0) (rest := []) (av := []) F hI (metX1_pop l g ad d A (xs (xs u 7 ((u.1 7) + 1)) 6 ((u.1 6) + 1)) (show 1 ≤ u.1 4 from n2 (by omega))) (lw_V q284 q286 qs22 q26 q287) (by decide +kernel) ⟨by decide, by decide⟩ ⟨rfl, rfl⟩ ⟨Nat.zero_le _, Nat.zero_le _⟩ rfl hl.1 rfl (Nat.le_of_ble_eq_true rfl) dX1_attempt_187 (fun r187 u187 H locs hp187 hI => ?_)
                      refine lv_istore_n (lv' := [(3, .int r187), (2, .int (u.2.2 2 (u.1 6))), (1, .int (nI (u.2.1 1 (u.1 6)))), (0, .ref (ad 0))]) F.1 F.2.1 dX1_attempt_190 rfl hl (by decide) rfl (fun ls hl => ?_)
                      refine lv_iload_n F.1 F.2.1 dX1_attempt_191 rfl (lv_at hl 2 rfl) ?_
                      refine lv_bipush (v := nI 10) F.1 F.2.1 dX1_attempt_192 (by decide) ?_
                      refine t_icmp_ne (tgt := 204) F (nI_toInt (by omega)) (nI_toInt (by decide)) dX1_attempt_194 (by decide) (fun b_194 => ?_) (fun b_194 => absurd b_194 (by omega))
                      refine lv_iload_n F.1 F.2.1 dX1_attempt_204 rfl (lv_at hl 0 rfl) ?_
                      refine t_if_ge (tgt := 213) F rfl dX1_attempt_205 (by decide) (fun b_205 => ?_) (fun b_205 => ?_)
                      · refine lv_goto (tgt := 222) F.1 F.2.1 dX1_attempt_213 (by decide) ?_
                        exact m_retv F hr hlk hI (at_jz0 hb (by omega) (n2 (by omega)) h8 hp187 (by unfold brT; omega)) dX1_attempt_222
                      · obtain ⟨ha, hk31, hk7⟩ := hka (by omega) (by omega)
                        rw [ha] at hl
                        refine lv_aload_n F.1 F.2.1 dX1_attempt_208 rfl (lv_at hl 3 rfl) ?_
                        refine lv_iload_n F.1 F.2.1 dX1_attempt_209 rfl (lv_at hl 1 rfl) ?_
                        refine mp6 (v := k) F hI dX1_attempt_210 (fun H locs hI => ?_)
                        refine lv_goto (tgt := 222) F.1 F.2.1 dX1_attempt_213 (by decide) ?_
                        exact m_retv F hr hlk hI (at_jz hb (by omega) (n2 (by omega)) h8 hp187 (Or.inl ⟨by unfold brT; omega, hkd⟩)) dX1_attempt_222
                · obtain ⟨ha, hk31, hk7⟩ := hka (by omega) (by omega)
                  rw [ha] at hl
                  refine lv_aload_n F.1 F.2.1 dX1_attempt_166 rfl (lv_at hl 2 rfl) ?_
                  refine lv_iload_n F.1 F.2.1 dX1_attempt_167 rfl (lv_at hl 0 rfl) ?_
                  refine mp6 (v := k) F hI dX1_attempt_168 (fun H locs hI => ?_)
                  refine lv_goto (tgt := 222) F.1 F.2.1 dX1_attempt_171 (by decide) ?_
                  exact m_retv F hr hlk hI (by rw [hkd]; exact at_jmp hb (by omega)) dX1_attempt_222
              · obtain ⟨ha, hk31, hk7⟩ := hka (by omega) (by omega)
                rw [ha] at hl
                refine lv_aload_n F.1 F.2.1 dX1_attempt_147 rfl (lv_at hl 2 rfl) ?_
                refine mg5 F hI dX1_attempt_148 ?_
                refine lv_iload_n F.1 F.2.1 dX1_attempt_151 rfl (lv_at hl 0 rfl) ?_
                refine lv_aload_n F.1 F.2.1 dX1_attempt_152 rfl (lv_at hl 2 rfl) ?_
                refine m_calli (n := 0) (rest := [.int (nI k), .ref (ad 5)]) (av := []) F hI (metX1_pop l g ad d A (xs (xs u 7 ((u.1 7) + 1)) 6 ((u.1 6) + 1)) (show 1 ≤ u.1 4 from n2 (by omega))) (lw_V q284 q286 qs22 q26 q287) (by decide +kernel) ⟨by decide, by decide⟩ ⟨rfl, rfl⟩ ⟨Nat.zero_le _, Nat.zero_le _⟩ rfl hl.1 rfl (Nat.le_of_ble_eq_true rfl) dX1_attempt_153 (fun r153 u153 H locs hp153 hI => ?_)
                refine mt5 (x := r153) F hI (by omega) dX1_attempt_156 (fun H locs hI => ?_)
                refine lv_goto (tgt := 222) F.1 F.2.1 dX1_attempt_157 (by decide) ?_
                exact m_retv F hr hlk hI (at_store hb (by omega) (n2 (by omega)) h8 hkd hp153) dX1_attempt_222
            · obtain ⟨ha, hk31, hk7⟩ := hka (by omega) (by omega)
              rw [ha] at hl
              refine lv_aload_n F.1 F.2.1 dX1_attempt_129 rfl (lv_at hl 2 rfl) ?_
              refine lv_aload_n F.1 F.2.1 dX1_attempt_130 rfl (lv_at hl 2 rfl) ?_
              refine mg5 F hI dX1_attempt_131 ?_
              refine lv_iload_n F.1 F.2.1 dX1_attempt_134 rfl (lv_at hl 0 rfl) ?_
              refine ml5 (x := u.2.2 5 k) F hI (by omega) rfl dX1_attempt_135 ?_
              refine m_callv (n := 1) (rest := []) (av := [.int (u.2.2 5 k)]) F hI (metX1_push l g ad d A (xs (xs u 7 ((u.1 7) + 1)) 6 ((u.1 6) + 1)) (u.2.2 5 k)) (lw_V q280 q282 qs21 q26 q283) (by decide +kernel) ⟨by decide, by decide⟩ ⟨rfl, rfl⟩ ⟨Nat.zero_le _, Nat.zero_le _⟩ rfl hl.1 rfl (Nat.le_of_ble_eq_true rfl) dX1_attempt_136 (fun u136 H locs hp136 hI => ?_)
              refine lv_goto (tgt := 222) F.1 F.2.1 dX1_attempt_139 (by decide) ?_
              exact m_retv F hr hlk hI (by have e : u.2.1 1 (u.1 6) = 2 := (by omega); exact at_push hb (by omega) (n1 (by omega)) (by rw [e, hkd]; rfl) hp136) dX1_attempt_222
          · obtain ⟨ha, hk31, hk7⟩ := hka (by omega) (by omega)
            rw [ha] at hl
            refine lv_aload_n F.1 F.2.1 dX1_attempt_111 rfl (lv_at hl 2 rfl) ?_
            refine lv_aload_n F.1 F.2.1 dX1_attempt_112 rfl (lv_at hl 2 rfl) ?_
            refine mg3 F hI dX1_attempt_113 ?_
            refine lv_iload_n F.1 F.2.1 dX1_attempt_116 rfl (lv_at hl 0 rfl) ?_
            refine ml3 (x := u.2.2 3 k) F hI (by omega) rfl dX1_attempt_117 ?_
            refine m_callv (n := 1) (rest := []) (av := [.int (u.2.2 3 k)]) F hI (metX1_push l g ad d A (xs (xs u 7 ((u.1 7) + 1)) 6 ((u.1 6) + 1)) (u.2.2 3 k)) (lw_V q280 q282 qs21 q26 q283) (by decide +kernel) ⟨by decide, by decide⟩ ⟨rfl, rfl⟩ ⟨Nat.zero_le _, Nat.zero_le _⟩ rfl hl.1 rfl (Nat.le_of_ble_eq_true rfl) dX1_attempt_118 (fun u118 H locs hp118 hI => ?_)
            refine lv_goto (tgt := 222) F.1 F.2.1 dX1_attempt_121 (by decide) ?_
            exact m_retv F hr hlk hI (by have e : u.2.1 1 (u.1 6) = 1 := (by omega); exact at_push hb (by omega) (n1 (by omega)) (by rw [← rv_at (u.2.2 3) (n4 (Or.inl e)), e, hkd]; rfl) hp118) dX1_attempt_222
        · refine lv_aload_n F.1 F.2.1 dX1_attempt_98 rfl (lv_at hl 2 rfl) ?_
          refine lv_iload_n F.1 F.2.1 dX1_attempt_99 rfl (lv_at hl 0 rfl) ?_
          refine m_callv (n := 1) (rest := []) (av := [.int (u.2.2 2 (u.1 6))]) F hI (metX1_push l g ad d A (xs (xs u 7 ((u.1 7) + 1)) 6 ((u.1 6) + 1)) (u.2.2 2 (u.1 6))) (lw_V q280 q282 qs21 q26 q283) (by decide +kernel) ⟨by decide, by decide⟩ ⟨rfl, rfl⟩ ⟨Nat.zero_le _, Nat.zero_le _⟩ rfl hl.1 rfl (Nat.le_of_ble_eq_true rfl) dX1_attempt_100 (fun u100 H locs hp100 hI => ?_)
          refine lv_goto (tgt := 222) F.1 F.2.1 dX1_attempt_103 (by decide) ?_
          exact m_retv F hr hlk hI (by have e : u.2.1 1 (u.1 6) = 0 := (by omega); exact at_push hb (by omega) (n1 (by omega)) (by rw [e]; rfl) hp100) dX1_attempt_222
      · refine lv_aload_n F.1 F.2.1 dX1_attempt_78 rfl (lv_at hl 2 rfl) ?_
        refine lv_iconst (v := nI 1) F.1 F.2.1 dX1_attempt_79 (by decide) ?_
        refine mp8 (v := 1) F hI dX1_attempt_80 (fun H locs hI => ?_)
        exact m_retv F hr hlk hI (at_halt hb (by omega)) dX1_attempt_83
end
section
set_option maxRecDepth 100000
set_option maxHeartbeats 4000000 in
theorem mrun_loop {p : Program} {l : Launch} {e : Env} {s : State} {m : MethodId} {args : Array Value} {below : List Frame} {meth : Method} {c : Code} {Q : State → Prop} {g : va_G} {ad : Nat → Nat} {d : Nat → ClassId} {A : Nat → Prop} {u : XS} {T : TS} {N : Nat} (F : CallFix p m c cX1_run 4 s args lw_all RX1) (hp : pOK (u.1 0) (u.2.1 1) (u.2.2 2)) (hN : N ≤ 200) (kk : ∀ (v : XS) (H : Heap) (locs : List Loc) (ls : Array Slot), eqT (abM v) T → tOK (abM v) → v.1 0 = u.1 0 → v.2.1 = u.2.1 → v.2.2 2 = u.2.2 2 → mI g ad d A s v H locs → lv_has ls 4 [(0, .ref (ad 0))] → W p l e ({ frames := 3, cells := 0, slots := 0, locals := 68 } : Room) s m args below meth c H locs 0 0 Q (F0 m 47 ls [])) : ∀ (k q : Nat) (v : XS) (H : Heap) (locs : List Loc) (ls : Array Slot), q + k = N → eqT (runT (u.1 0) (u.2.1 1) (u.2.2 2) k (abM v)) T → tOK (abM v) → v.1 0 = u.1 0 → v.2.1 = u.2.1 → v.2.2 2 = u.2.2 2 → mI g ad d A s v H locs → lv_has ls 4 [(3, .int (nI q)), (2, .int (nI N)), (0, .ref (ad 0))] → W p l e ({ frames := 3, cells := 0, slots := 0, locals := 68 } : Room) s m args below meth c H locs 0 0 Q (F0 m 25 ls []) := by
  intro k
  induction k with
  | zero =>
    intro q v H locs ls hq hT ht g0 gO gN hI hl
    refine lv_iload_n F.1 F.2.1 dX1_run_25 rfl (lv_at hl 0 rfl) ?_
    refine lv_iload_n F.1 F.2.1 dX1_run_26 rfl (lv_at hl 1 rfl) ?_
    refine t_icmp_ge (tgt := 47) F (nI_toInt (by omega)) (nI_toInt (by omega)) dX1_run_27 (by decide) (fun b_27 => ?_) (fun b_27 => absurd b_27 (by omega))
    exact kk v H locs ls hT ht g0 gO gN hI (lv_sub hl [2] rfl)
  | succ k ih =>
    intro q v H locs ls hq hT ht g0 gO gN hI hl
    have hst : v.1 8 ≤ 2 := ht.2.2
    have h32 : v.1 6 ≤ 32 := ht.2.1
    have h8 : v.1 4 ≤ 8 := ht.1
    refine lv_iload_n F.1 F.2.1 dX1_run_25 rfl (lv_at hl 0 rfl) ?_
    refine lv_iload_n F.1 F.2.1 dX1_run_26 rfl (lv_at hl 1 rfl) ?_
    refine t_icmp_ge (tgt := 47) F (nI_toInt (by omega)) (nI_toInt (by omega)) dX1_run_27 (by decide) (fun b_27 => absurd b_27 (by omega)) (fun b_27 => ?_)
    refine lv_aload_n F.1 F.2.1 dX1_run_30 rfl (lv_at hl 2 rfl) ?_
    refine mg8 (v := v.1 8) F hI rfl dX1_run_31 ?_
    refine t_if_ne (tgt := 47) F (nI_toInt (by omega)) dX1_run_34 (by decide) (fun b_34 => ?_) (fun b_34 => ?_)
    · exact kk v H locs ls (by rw [runT_stop (k + 1) (show (abM v).2.2.2.2.2 ≠ 0 from show v.1 8 ≠ 0 by omega)] at hT; exact hT) ht g0 gO gN hI (lv_sub hl [2] rfl)
    · refine lv_aload_n F.1 F.2.1 dX1_run_37 rfl (lv_at hl 2 rfl) ?_
      refine m_callv (n := 0) (rest := []) (av := []) F hI (metX1_attempt l g ad d A v (by rw [g0, gO, gN]; exact hp) h8 h32) (lw_V q268 q270 qs18 q26 q271) (by decide +kernel) ⟨by decide, by decide⟩ ⟨rfl, rfl⟩ ⟨Nat.zero_le _, Nat.zero_le _⟩ rfl hl.1 rfl (Nat.le_of_ble_eq_true rfl) dX1_run_38 (fun u38 H locs hp38 hI => ?_)
      obtain ⟨ha1, ha2, ha3, ha4⟩ := hp38
      rw [g0, gO, gN] at ha1
      have hbl : eqT (abM u38) (runT (u.1 0) (u.2.1 1) (u.2.2 2) 1 (abM v)) := by rw [runT_1 (show (abM v).2.2.2.2.2 = 0 from show v.1 8 = 0 by omega)]; exact ha1
      refine lv_iinc (v := nI (q + 1)) (lv' := [(3, .int (nI (q + 1))), (2, .int (nI N)), (0, .ref (ad 0))]) F.1 F.2.1 dX1_run_41 hl (k := 0) rfl (n_inc _) (by decide) rfl (fun ls hl => ?_)
      refine lv_goto (tgt := 25) F.1 F.2.1 dX1_run_44 (by decide) ?_
      exact ih (q + 1) u38 H locs ls (by omega) (run_more (rest := k + 1) hp (Nat.succ_le_succ (Nat.zero_le k)) ht hbl hT) (tOK_eq hbl.sy (runT_ok hp _ ht)) (ha2.trans g0) (ha3.trans gO) (ha4.trans gN) hI (lv_sub hl [0, 1, 2] rfl)
set_option maxHeartbeats 4000000 in
set_option maxRecDepth 100000 in
theorem metX1_run (l : Launch) (g : va_G) (ad : Nat → Nat) (d : Nat → ClassId) (A : Nat → Prop) (u : XS) (a : Int32) (hp : pOK (u.1 0) (u.2.1 1) (u.2.2 2)) (ht : tOK (abM u)) : Met l yX1_run (ws_ yX1_run cX1_run 4 (some .int)) ({ frames := 3, cells := 0, slots := 0, locals := 68 }) (mPc g ad d A u [.int a]) (mQi g ad d A (fun r u2 => r = nI (u2.1 8) ∧ eqT (abM u2) (runT (u.1 0) (u.2.1 1) (u.2.2 2) (nc a) (abM u)) ∧ tOK (abM u2) ∧ u2.1 0 = u.1 0 ∧ u2.2.1 = u.2.1 ∧ u2.2.2 2 = u.2.2 2)) 0 0 A := by
  refine m_met (by decide) rfl (Nat.le_of_ble_eq_true rfl) ?_
  intro p e s m below meth c ls F hr hlk hI hl
  have hl : lv_has ls 4 [(0, .ref (ad 0)), (1, .int a)] := hl
  refine lv_iload_n F.1 F.2.1 dX1_run_0 rfl (lv_at hl 1 rfl) ?_
  refine t_if_ge (tgt := 8) F rfl dX1_run_1 (by decide) (fun b_1 => ?_) (fun b_1 => ?_)
  · refine lv_iload_n F.1 F.2.1 dX1_run_8 rfl (lv_at hl 1 rfl) ?_
    refine lv_sipush (v := nI 200) F.1 F.2.1 dX1_run_9 (by decide) ?_
    refine t_icmp_le (tgt := 21) F rfl (nI_toInt (by decide)) dX1_run_12 (by decide) (fun b_12 => ?_) (fun b_12 => ?_)
    · obtain ⟨k, rfl, hk, hk31⟩ := n_of a (by omega)
      refine lv_iload_n F.1 F.2.1 dX1_run_21 rfl (lv_at hl 1 rfl) ?_
      refine lv_istore_n (lv' := [(2, .int (nI k)), (0, .ref (ad 0)), (1, .int (nI k))]) F.1 F.2.1 dX1_run_22 rfl hl (by decide) rfl (fun ls hl => ?_)
      refine lv_iconst (v := nI 0) F.1 F.2.1 dX1_run_23 (by decide) ?_
      refine lv_istore_n (lv' := [(3, .int (nI 0)), (2, .int (nI k)), (0, .ref (ad 0)), (1, .int (nI k))]) F.1 F.2.1 dX1_run_24 rfl hl (by decide) rfl (fun ls hl => ?_)
      have hnc : nc (nI k) = k := nc_mid (by omega)
      refine mrun_loop (u := u) (T := runT (u.1 0) (u.2.1 1) (u.2.2 2) k (abM u)) (N := k) F hp (by omega) (fun v H locs ls hT ht2 g0 gO gN hI hl => ?_) k 0 u _ _ ls (by omega) (eqT.rf _) ht rfl rfl rfl hI (lv_sub hl [0, 1, 2] rfl)
      refine lv_aload_n F.1 F.2.1 dX1_run_47 rfl (lv_at hl 0 rfl) ?_
      refine mg8 (v := v.1 8) F hI rfl dX1_run_48 ?_
      exact m_reti F hr hlk hI (⟨rfl, by rw [hnc]; exact hT, ht2, g0, gO, gN⟩) dX1_run_51
    · refine lv_sipush (v := nI 200) F.1 F.2.1 dX1_run_15 (by decide) ?_
      refine lv_goto (tgt := 22) F.1 F.2.1 dX1_run_18 (by decide) ?_
      refine lv_istore_n (lv' := [(2, .int (nI 200)), (0, .ref (ad 0)), (1, .int a)]) F.1 F.2.1 dX1_run_22 rfl hl (by decide) rfl (fun ls hl => ?_)
      refine lv_iconst (v := nI 0) F.1 F.2.1 dX1_run_23 (by decide) ?_
      refine lv_istore_n (lv' := [(3, .int (nI 0)), (2, .int (nI 200)), (0, .ref (ad 0)), (1, .int a)]) F.1 F.2.1 dX1_run_24 rfl hl (by decide) rfl (fun ls hl => ?_)
      have hnc : nc a = 200 := nc_big (by omega)
      refine mrun_loop (u := u) (T := runT (u.1 0) (u.2.1 1) (u.2.2 2) 200 (abM u)) (N := 200) F hp (by omega) (fun v H locs ls hT ht2 g0 gO gN hI hl => ?_) 200 0 u _ _ ls (by omega) (eqT.rf _) ht rfl rfl rfl hI (lv_sub hl [0, 1, 2] rfl)
      refine lv_aload_n F.1 F.2.1 dX1_run_47 rfl (lv_at hl 0 rfl) ?_
      refine mg8 (v := v.1 8) F hI rfl dX1_run_48 ?_
      exact m_reti F hr hlk hI (⟨rfl, by rw [hnc]; exact hT, ht2, g0, gO, gN⟩) dX1_run_51
  · refine lv_iconst (v := nI 0) F.1 F.2.1 dX1_run_4 (by decide) ?_
    refine lv_goto (tgt := 22) F.1 F.2.1 dX1_run_5 (by decide) ?_
    refine lv_istore_n (lv' := [(2, .int (nI 0)), (0, .ref (ad 0)), (1, .int a)]) F.1 F.2.1 dX1_run_22 rfl hl (by decide) rfl (fun ls hl => ?_)
    refine lv_iconst (v := nI 0) F.1 F.2.1 dX1_run_23 (by decide) ?_
    refine lv_istore_n (lv' := [(3, .int (nI 0)), (2, .int (nI 0)), (0, .ref (ad 0)), (1, .int a)]) F.1 F.2.1 dX1_run_24 rfl hl (by decide) rfl (fun ls hl => ?_)
    have hnc : nc a = 0 := nc_neg (by omega)
    refine mrun_loop (u := u) (T := runT (u.1 0) (u.2.1 1) (u.2.2 2) 0 (abM u)) (N := 0) F hp (by omega) (fun v H locs ls hT ht2 g0 gO gN hI hl => ?_) 0 0 u _ _ ls (by omega) (eqT.rf _) ht rfl rfl rfl hI (lv_sub hl [0, 1, 2] rfl)
    refine lv_aload_n F.1 F.2.1 dX1_run_47 rfl (lv_at hl 0 rfl) ?_
    refine mg8 (v := v.1 8) F hI rfl dX1_run_48 ?_
    exact m_reti F hr hlk hI (⟨rfl, by rw [hnc]; exact hT, ht2, g0, gO, gN⟩) dX1_run_51
set_option maxHeartbeats 4000000 in
set_option maxRecDepth 100000 in
theorem metX1_emit (l : Launch) (g : va_G) (ad : Nat → Nat) (d : Nat → ClassId) (A : Nat → Prop) (u : XS) (o a : Int32) (hL : u.1 0 ≤ 32) : Met l yX1_emit (ws_ yX1_emit cX1_emit 3 (some .int)) ({ frames := 1, cells := 0, slots := 0, locals := 22 }) (mPc g ad d A u [.int o, .int a]) (mQi g ad d A (fun r u2 => (32 ≤ u.1 0 ∧ r = -2 ∧ u2 = u) ∨ (u.1 0 < 32 ∧ ¬ vI o a ∧ r = -1 ∧ u2 = u) ∨ (u.1 0 < 32 ∧ vI o a ∧ ∃ k : Nat, k ≤ 13 ∧ o = nI k ∧ u2 = xs (xz (xn u 1 (u.1 0) k) 2 (u.1 0) a) 0 (u.1 0 + 1) ∧ r = nI (u.1 0 + 1)))) 0 0 A := by
  refine m_met (by decide) rfl (Nat.le_of_ble_eq_true rfl) ?_
  intro p e s m below meth c ls F hr hlk hI hl
  have hl : lv_has ls 3 [(0, .ref (ad 0)), (1, .int o), (2, .int a)] := hl
  refine lv_aload_n F.1 F.2.1 dX1_emit_0 rfl (lv_at hl 0 rfl) ?_
  refine mg0 (v := u.1 0) F hI rfl dX1_emit_1 ?_
  refine lv_bipush (v := nI 32) F.1 F.2.1 dX1_emit_4 (by decide) ?_
  refine t_icmp_ne (tgt := 12) F (nI_toInt (by omega)) (nI_toInt (by decide)) dX1_emit_6 (by decide) (fun b_6 => ?_) (fun b_6 => ?_)
  · refine lv_aload_n F.1 F.2.1 dX1_emit_12 rfl (lv_at hl 0 rfl) ?_
    refine lv_iload_n F.1 F.2.1 dX1_emit_13 rfl (lv_at hl 1 rfl) ?_
    refine lv_iload_n F.1 F.2.1 dX1_emit_14 rfl (lv_at hl 2 rfl) ?_
    refine m_calli (n := 2) (rest := []) (av := [.int o, .int a]) F hI (metX1_fits l g ad d A u o a) (lw_V q248 q250 qs17 q26 q251) (by decide +kernel) ⟨by decide, by decide⟩ ⟨rfl, rfl⟩ ⟨Nat.zero_le _, Nat.zero_le _⟩ rfl hl.1 rfl (Nat.le_of_ble_eq_true rfl) dX1_emit_15 (fun r15 u15 H locs hp15 hI => ?_)
    rw [hp15.1] at hI
    rcases hp15.2 with ⟨hvi, rfl⟩ | ⟨hvi, rfl⟩
    · obtain ⟨ko, rfl, hko, hko31⟩ := n_of o hvi.1
      have hko13 := hvi.2.1
      refine t_if_ne (tgt := 23) F (nI_toInt (by decide)) dX1_emit_18 (by decide) (fun b_18 => ?_) (fun b_18 => absurd b_18 (by omega))
      refine lv_aload_n F.1 F.2.1 dX1_emit_23 rfl (lv_at hl 0 rfl) ?_
      refine mg1 F hI dX1_emit_24 ?_
      refine lv_aload_n F.1 F.2.1 dX1_emit_27 rfl (lv_at hl 0 rfl) ?_
      refine mg0 (v := u.1 0) F hI rfl dX1_emit_28 ?_
      refine lv_iload_n F.1 F.2.1 dX1_emit_31 rfl (lv_at hl 1 rfl) ?_
      refine mt1 F hI (by omega) dX1_emit_32 (fun H locs hI => ?_)
      refine lv_aload_n F.1 F.2.1 dX1_emit_33 rfl (lv_at hl 0 rfl) ?_
      refine mg2 F hI dX1_emit_34 ?_
      refine lv_aload_n F.1 F.2.1 dX1_emit_37 rfl (lv_at hl 0 rfl) ?_
      refine mg0 (v := u.1 0) F hI rfl dX1_emit_38 ?_
      refine lv_iload_n F.1 F.2.1 dX1_emit_41 rfl (lv_at hl 2 rfl) ?_
      refine mt2 (x := a) F hI (by omega) dX1_emit_42 (fun H locs hI => ?_)
      refine lv_aload_n F.1 F.2.1 dX1_emit_43 rfl (lv_at hl 0 rfl) ?_
      refine lv_dup F.1 F.2.1 dX1_emit_44 rfl ?_
      refine mg0 (v := u.1 0) F hI rfl dX1_emit_45 ?_
      refine lv_iconst (v := nI 1) F.1 F.2.1 dX1_emit_48 (by decide) ?_
      refine n_iadd F dX1_emit_49 ?_
      refine mp0 (v := (u.1 0) + 1) F hI dX1_emit_50 (fun H locs hI => ?_)
      refine lv_aload_n F.1 F.2.1 dX1_emit_53 rfl (lv_at hl 0 rfl) ?_
      refine mg0 (v := (u.1 0) + 1) F hI rfl dX1_emit_54 ?_
      exact m_reti F hr hlk hI (Or.inr (Or.inr ⟨by omega, hvi, ko, by omega, rfl, rfl, rfl⟩)) dX1_emit_57
    · have hvi := hvi
      refine t_if_ne (tgt := 23) F (nI_toInt (by decide)) dX1_emit_18 (by decide) (fun b_18 => absurd b_18 (by omega)) (fun b_18 => ?_)
      refine lv_iconst (v := (-1)) F.1 F.2.1 dX1_emit_21 (by decide) ?_
      exact m_reti F hr hlk hI (Or.inr (Or.inl ⟨by omega, hvi, rfl, rfl⟩)) dX1_emit_22
  · refine lv_bipush (v := (-2)) F.1 F.2.1 dX1_emit_9 (by decide) ?_
    exact m_reti F hr hlk hI (Or.inl ⟨by omega, rfl, rfl⟩) dX1_emit_11
set_option maxHeartbeats 4000000 in
set_option maxRecDepth 100000 in
theorem metX1_patch (l : Launch) (g : va_G) (ad : Nat → Nat) (d : Nat → ClassId) (A : Nat → Prop) (u : XS) (x o a : Int32) (hL : u.1 0 ≤ 32) : Met l yX1_patch (ws_ yX1_patch cX1_patch 4 (some .int)) ({ frames := 1, cells := 0, slots := 0, locals := 22 }) (mPc g ad d A u [.int x, .int o, .int a]) (mQi g ad d A (fun r u2 => (((x.toInt < 0 ∨ (u.1 0 : Int) ≤ x.toInt) ∨ ¬ vI o a) ∧ r = -1 ∧ u2 = u) ∨ (∃ q : Nat, q < u.1 0 ∧ x = nI q ∧ vI o a ∧ ∃ k : Nat, k ≤ 13 ∧ o = nI k ∧ u2 = xz (xn u 1 q k) 2 q a ∧ r = nI (u.1 0)))) 0 0 A := by
  refine m_met (by decide) rfl (Nat.le_of_ble_eq_true rfl) ?_
  intro p e s m below meth c ls F hr hlk hI hl
  have hl : lv_has ls 4 [(0, .ref (ad 0)), (1, .int x), (2, .int o), (3, .int a)] := hl
  refine lv_iload_n F.1 F.2.1 dX1_patch_0 rfl (lv_at hl 1 rfl) ?_
  refine t_if_lt (tgt := 21) F rfl dX1_patch_1 (by decide) (fun b_1 => ?_) (fun b_1 => ?_)
  · refine lv_iconst (v := (-1)) F.1 F.2.1 dX1_patch_21 (by decide) ?_
    exact m_reti F hr hlk hI (Or.inl ⟨Or.inl (by omega), rfl, rfl⟩) dX1_patch_22
  · refine lv_iload_n F.1 F.2.1 dX1_patch_4 rfl (lv_at hl 1 rfl) ?_
    refine lv_aload_n F.1 F.2.1 dX1_patch_5 rfl (lv_at hl 0 rfl) ?_
    refine mg0 (v := u.1 0) F hI rfl dX1_patch_6 ?_
    refine t_icmp_ge (tgt := 21) F rfl (nI_toInt (by omega)) dX1_patch_9 (by decide) (fun b_9 => ?_) (fun b_9 => ?_)
    · refine lv_iconst (v := (-1)) F.1 F.2.1 dX1_patch_21 (by decide) ?_
      exact m_reti F hr hlk hI (Or.inl ⟨Or.inl (by omega), rfl, rfl⟩) dX1_patch_22
    · refine lv_aload_n F.1 F.2.1 dX1_patch_12 rfl (lv_at hl 0 rfl) ?_
      refine lv_iload_n F.1 F.2.1 dX1_patch_13 rfl (lv_at hl 2 rfl) ?_
      refine lv_iload_n F.1 F.2.1 dX1_patch_14 rfl (lv_at hl 3 rfl) ?_
      refine m_calli (n := 2) (rest := []) (av := [.int o, .int a]) F hI (metX1_fits l g ad d A u o a) (lw_V q248 q250 qs17 q26 q251) (by decide +kernel) ⟨by decide, by decide⟩ ⟨rfl, rfl⟩ ⟨Nat.zero_le _, Nat.zero_le _⟩ rfl hl.1 rfl (Nat.le_of_ble_eq_true rfl) dX1_patch_15 (fun r15 u15 H locs hp15 hI => ?_)
      rw [hp15.1] at hI
      rcases hp15.2 with ⟨hvi, rfl⟩ | ⟨hvi, rfl⟩
      · obtain ⟨ko, rfl, hko, hko31⟩ := n_of o hvi.1
        have hko13 := hvi.2.1
        refine t_if_ne (tgt := 23) F (nI_toInt (by decide)) dX1_patch_18 (by decide) (fun b_18 => ?_) (fun b_18 => absurd b_18 (by omega))
        obtain ⟨ki, rfl, hki, hki31⟩ := n_of x (by omega)
        refine lv_aload_n F.1 F.2.1 dX1_patch_23 rfl (lv_at hl 0 rfl) ?_
        refine mg1 F hI dX1_patch_24 ?_
        refine lv_iload_n F.1 F.2.1 dX1_patch_27 rfl (lv_at hl 1 rfl) ?_
        refine lv_iload_n F.1 F.2.1 dX1_patch_28 rfl (lv_at hl 2 rfl) ?_
        refine mt1 F hI (by omega) dX1_patch_29 (fun H locs hI => ?_)
        refine lv_aload_n F.1 F.2.1 dX1_patch_30 rfl (lv_at hl 0 rfl) ?_
        refine mg2 F hI dX1_patch_31 ?_
        refine lv_iload_n F.1 F.2.1 dX1_patch_34 rfl (lv_at hl 1 rfl) ?_
        refine lv_iload_n F.1 F.2.1 dX1_patch_35 rfl (lv_at hl 3 rfl) ?_
        refine mt2 (x := a) F hI (by omega) dX1_patch_36 (fun H locs hI => ?_)
        refine lv_aload_n F.1 F.2.1 dX1_patch_37 rfl (lv_at hl 0 rfl) ?_
        refine mg0 (v := u.1 0) F hI rfl dX1_patch_38 ?_
        exact m_reti F hr hlk hI (Or.inr ⟨ki, by omega, rfl, hvi, ko, by omega, rfl, rfl, rfl⟩) dX1_patch_41
      · have hvi := hvi
        refine t_if_ne (tgt := 23) F (nI_toInt (by decide)) dX1_patch_18 (by decide) (fun b_18 => absurd b_18 (by omega)) (fun b_18 => ?_)
        refine lv_iconst (v := (-1)) F.1 F.2.1 dX1_patch_21 (by decide) ?_
        exact m_reti F hr hlk hI (Or.inl ⟨Or.inr hvi, rfl, rfl⟩) dX1_patch_22
end
section
/-! the constructors -/
set_option maxRecDepth 100000
def u0 : XS := (fun _ => 0, fun _ _ => 0, fun _ _ => 0)
def pkL (l : List Nat) : Nat → Nat := fun k => l.getD k 0
def mZ : List Value := [.int (nI 0), .null, .null, .null, .int (nI 0), .null, .int (nI 0), .int (nI 0), .int (nI 0)]
set_option maxHeartbeats 4000000 in
theorem metX1_init (l : Launch) (g : va_G) (h0 sz : Nat) : Met l yX1_init (ws_ yX1_init cX1_init 1 none) ({ frames := 1, cells := 4, slots := 80, locals := 12 }) (va_Pc [.ref h0] (fun U => U.heap.size = sz ∧ va_P g vwCl [(h0, .inr (1, mZ))] U.heap ∧ va_K g vwCl [] U ∧ va_D (fun _ => True) [(h0, .inr (1, mZ))])) (va_Qv (fun z : (Nat → Nat) × (Nat → Nat) × XS => z.1 0 = h0 ∧ z.2.2 = u0) (fun z t => mB g z.1 z.2.1 (va_A [(h0, .inr (1, mZ))] sz) z.2.2 t) (va_A [(h0, .inr (1, mZ))] sz)) 4 80 (va_A [(h0, .inr (1, mZ))] sz) := by
  refine Met.ofW (cc := cX1_init) (maxL := 1) (ret := none) (by decide) rfl ?_
  intro p e s m args below meth c s₁ B hml hv
  obtain ⟨rfl, hsz, hP, hK, hD0⟩ := hv
  have hr := B.returns
  have hts := atoms_spec (ws := ws_ yX1_init cX1_init 1 none) B.pre
  have hts : ∀ w ∈ lw_all, w.before _ s = true := fun w h => hts w (List.mem_cons_of_mem _ h)
  have hown : s.vm.findClass RX1 = some m.cls := findClass_of_methodNamed B.named
  have hlk := B.notSynchronized
  have F : CallFix p m c cX1_init 1 s ([.ref h0] : List Value).toArray lw_all RX1 := ⟨B.exec, B.bytes, hml, hown, hts⟩
  have hin : meth.name = "<init>" := (name_of_methodNamed B.named B.method).1
  subst hsz
  have hD := hD0.self (sz := s.heap.size)
  generalize hAe : va_A [(h0, .inr (1, mZ))] s.heap.size = A at hD ⊢
  have hA : ∀ q : Nat, s.heap.size ≤ q → A q := fun q h => by rw [← hAe]; exact Or.inr h
  have hS : va_S A s.heap s.heap [] := va_S.rf
  have hl := lv_entry ([.ref h0]) (n := 1) (Nat.le_of_ble_eq_true rfl)
  rw [lg_entry_eq]
  generalize (lg_sl ([.ref h0]) ++ List.replicate (1 - (lg_sl ([.ref h0])).length) Slot.unset).toArray = ls at hl ⊢
  have hl : lv_has ls 1 [(0, .ref h0)] := hl
  have hP : va_P g vwCl [(h0, .inr (1, [.int (nI 0), .null, .null, .null, .int (nI 0), .null, .int (nI 0), .int (nI 0), .int (nI 0)]))] s.heap := hP
  have hD : va_D A [(h0, .inr (1, [.int (nI 0), .null, .null, .null, .int (nI 0), .null, .int (nI 0), .int (nI 0), .int (nI 0)]))] := hD
  refine lv_aload_n F.1 F.2.1 dX1_init_0 rfl (lv_at hl 0 rfl) ?_
  refine W.objInit F.1 F.2.1 hown (hts _ q215) (hts _ q33) (hts _ q34) rfl (by rw [hml]; exact hl.1) rfl dX1_init_1 (Nat.le_of_ble_eq_true rfl) (Nat.le_of_ble_eq_true rfl) ?_
  refine W.eq (g2 := F0 m 4 ls []) rfl ?_
  refine lv_aload_n F.1 F.2.1 dX1_init_4 rfl (lv_at hl 0 rfl) ?_
  refine lv_iconst (v := nI 0) F.1 F.2.1 dX1_init_5 (by decide) ?_
  refine va_put (D := g) (ci := 1) (v := .int (nI 0)) (ty := .int) (C := RX1) (T := TX1) (N := 9) (ref := RX1) F.1 F.2.1 hts in_X1 tyX1 tyX1_ok nmX1 hown hK hP hD hS 0 rfl rfl 0 (by decide) (hts _ q216) (fun _ h9 => h9) rfl (by decide +kernel) rfl rfl (Nat.le_of_ble_eq_true rfl) dX1_init_6 (fun H locs hP hD hS => ?_)
  have hP : va_P g vwCl [(h0, .inr (1, [.int (nI 0), .null, .null, .null, .int (nI 0), .null, .int (nI 0), .int (nI 0), .int (nI 0)]))] H := hP
  have hD : va_D A [(h0, .inr (1, [.int (nI 0), .null, .null, .null, .int (nI 0), .null, .int (nI 0), .int (nI 0), .int (nI 0)]))] := hD
  refine lv_aload_n F.1 F.2.1 dX1_init_9 rfl (lv_at hl 0 rfl) ?_
  refine lv_bipush (v := nI 32) F.1 F.2.1 dX1_init_10 (by decide) ?_
  refine va_newa (atype := .int) (ty := .int) (n := nI 32) (N' := 32) (a0 := (32, .inl (fun _ => nI 0))) F.1 F.2.1 (hts _ q104) rfl hK hP hD hS hA (fun _ => rfl) (by decide) (by decide) (by decide) (Nat.le_of_ble_eq_true rfl) (Nat.le_of_ble_eq_true rfl) dX1_init_12 (fun q_1 c_1 H hK hP hD hS => ?_)
  refine W.widen (k := 1) (n := 32) (Nat.le_refl _) (Nat.le_refl _) ?_
  have hK : va_K g vwCl [(c_1, .int)] s := hK
  have hP : va_P g vwCl [(h0, .inr (1, [.int (nI 0), .null, .null, .null, .int (nI 0), .null, .int (nI 0), .int (nI 0), .int (nI 0)])), (q_1, .inl (c_1, 32, .inl (fun _ => nI 0)))] H := hP
  have hD : va_D A [(h0, .inr (1, [.int (nI 0), .null, .null, .null, .int (nI 0), .null, .int (nI 0), .int (nI 0), .int (nI 0)])), (q_1, .inl (c_1, 32, .inl (fun _ => nI 0)))] := hD
  refine va_put (D := g) (ci := 1) (v := .ref q_1) (ty := .array .int) (C := RX1) (T := TX1) (N := 9) (ref := RX1) F.1 F.2.1 hts in_X1 tyX1 tyX1_ok nmX1 hown hK hP hD hS 0 rfl rfl 1 (by decide) (hts _ q217) (fun _ h9 => h9) rfl (by decide +kernel) rfl rfl (Nat.le_of_ble_eq_true rfl) dX1_init_14 (fun H locs hP hD hS => ?_)
  have hP : va_P g vwCl [(h0, .inr (1, [.int (nI 0), .ref q_1, .null, .null, .int (nI 0), .null, .int (nI 0), .int (nI 0), .int (nI 0)])), (q_1, .inl (c_1, 32, .inl (fun _ => nI 0)))] H := hP
  have hD : va_D A [(h0, .inr (1, [.int (nI 0), .ref q_1, .null, .null, .int (nI 0), .null, .int (nI 0), .int (nI 0), .int (nI 0)])), (q_1, .inl (c_1, 32, .inl (fun _ => nI 0)))] := hD
  refine lv_aload_n F.1 F.2.1 dX1_init_17 rfl (lv_at hl 0 rfl) ?_
  refine lv_bipush (v := nI 32) F.1 F.2.1 dX1_init_18 (by decide) ?_
  refine va_newa (atype := .int) (ty := .int) (n := nI 32) (N' := 32) (a0 := (32, .inl (fun _ => 0))) F.1 F.2.1 (hts _ q104) rfl hK hP hD hS hA (fun _ => rfl) (by decide) (by decide) (by decide) (Nat.le_of_ble_eq_true rfl) (Nat.le_of_ble_eq_true rfl) dX1_init_20 (fun q_2 c_2 H hK hP hD hS => ?_)
  refine W.widen (k := 2) (n := 64) (Nat.le_refl _) (Nat.le_refl _) ?_
  have hK : va_K g vwCl [(c_1, .int), (c_2, .int)] s := hK
  have hP : va_P g vwCl [(h0, .inr (1, [.int (nI 0), .ref q_1, .null, .null, .int (nI 0), .null, .int (nI 0), .int (nI 0), .int (nI 0)])), (q_1, .inl (c_1, 32, .inl (fun _ => nI 0))), (q_2, .inl (c_2, 32, .inl (fun _ => 0)))] H := hP
  have hD : va_D A [(h0, .inr (1, [.int (nI 0), .ref q_1, .null, .null, .int (nI 0), .null, .int (nI 0), .int (nI 0), .int (nI 0)])), (q_1, .inl (c_1, 32, .inl (fun _ => nI 0))), (q_2, .inl (c_2, 32, .inl (fun _ => 0)))] := hD
  refine va_put (D := g) (ci := 1) (v := .ref q_2) (ty := .array .int) (C := RX1) (T := TX1) (N := 9) (ref := RX1) F.1 F.2.1 hts in_X1 tyX1 tyX1_ok nmX1 hown hK hP hD hS 0 rfl rfl 2 (by decide) (hts _ q218) (fun _ h9 => h9) rfl (by decide +kernel) rfl rfl (Nat.le_of_ble_eq_true rfl) dX1_init_22 (fun H locs hP hD hS => ?_)
  have hP : va_P g vwCl [(h0, .inr (1, [.int (nI 0), .ref q_1, .ref q_2, .null, .int (nI 0), .null, .int (nI 0), .int (nI 0), .int (nI 0)])), (q_1, .inl (c_1, 32, .inl (fun _ => nI 0))), (q_2, .inl (c_2, 32, .inl (fun _ => 0)))] H := hP
  have hD : va_D A [(h0, .inr (1, [.int (nI 0), .ref q_1, .ref q_2, .null, .int (nI 0), .null, .int (nI 0), .int (nI 0), .int (nI 0)])), (q_1, .inl (c_1, 32, .inl (fun _ => nI 0))), (q_2, .inl (c_2, 32, .inl (fun _ => 0)))] := hD
  refine lv_aload_n F.1 F.2.1 dX1_init_25 rfl (lv_at hl 0 rfl) ?_
  refine lv_bipush (v := nI 8) F.1 F.2.1 dX1_init_26 (by decide) ?_
  refine va_newa (atype := .int) (ty := .int) (n := nI 8) (N' := 8) (a0 := (8, .inl (fun _ => 0))) F.1 F.2.1 (hts _ q104) rfl hK hP hD hS hA (fun _ => rfl) (by decide) (by decide) (by decide) (Nat.le_of_ble_eq_true rfl) (Nat.le_of_ble_eq_true rfl) dX1_init_28 (fun q_3 c_3 H hK hP hD hS => ?_)
  refine W.widen (k := 3) (n := 72) (Nat.le_refl _) (Nat.le_refl _) ?_
  have hK : va_K g vwCl [(c_1, .int), (c_2, .int), (c_3, .int)] s := hK
  have hP : va_P g vwCl [(h0, .inr (1, [.int (nI 0), .ref q_1, .ref q_2, .null, .int (nI 0), .null, .int (nI 0), .int (nI 0), .int (nI 0)])), (q_1, .inl (c_1, 32, .inl (fun _ => nI 0))), (q_2, .inl (c_2, 32, .inl (fun _ => 0))), (q_3, .inl (c_3, 8, .inl (fun _ => 0)))] H := hP
  have hD : va_D A [(h0, .inr (1, [.int (nI 0), .ref q_1, .ref q_2, .null, .int (nI 0), .null, .int (nI 0), .int (nI 0), .int (nI 0)])), (q_1, .inl (c_1, 32, .inl (fun _ => nI 0))), (q_2, .inl (c_2, 32, .inl (fun _ => 0))), (q_3, .inl (c_3, 8, .inl (fun _ => 0)))] := hD
  refine va_put (D := g) (ci := 1) (v := .ref q_3) (ty := .array .int) (C := RX1) (T := TX1) (N := 9) (ref := RX1) F.1 F.2.1 hts in_X1 tyX1 tyX1_ok nmX1 hown hK hP hD hS 0 rfl rfl 3 (by decide) (hts _ q219) (fun _ h9 => h9) rfl (by decide +kernel) rfl rfl (Nat.le_of_ble_eq_true rfl) dX1_init_30 (fun H locs hP hD hS => ?_)
  have hP : va_P g vwCl [(h0, .inr (1, [.int (nI 0), .ref q_1, .ref q_2, .ref q_3, .int (nI 0), .null, .int (nI 0), .int (nI 0), .int (nI 0)])), (q_1, .inl (c_1, 32, .inl (fun _ => nI 0))), (q_2, .inl (c_2, 32, .inl (fun _ => 0))), (q_3, .inl (c_3, 8, .inl (fun _ => 0)))] H := hP
  have hD : va_D A [(h0, .inr (1, [.int (nI 0), .ref q_1, .ref q_2, .ref q_3, .int (nI 0), .null, .int (nI 0), .int (nI 0), .int (nI 0)])), (q_1, .inl (c_1, 32, .inl (fun _ => nI 0))), (q_2, .inl (c_2, 32, .inl (fun _ => 0))), (q_3, .inl (c_3, 8, .inl (fun _ => 0)))] := hD
  refine lv_aload_n F.1 F.2.1 dX1_init_33 rfl (lv_at hl 0 rfl) ?_
  refine lv_iconst (v := nI 0) F.1 F.2.1 dX1_init_34 (by decide) ?_
  refine va_put (D := g) (ci := 1) (v := .int (nI 0)) (ty := .int) (C := RX1) (T := TX1) (N := 9) (ref := RX1) F.1 F.2.1 hts in_X1 tyX1 tyX1_ok nmX1 hown hK hP hD hS 0 rfl rfl 4 (by decide) (hts _ q220) (fun _ h9 => h9) rfl (by decide +kernel) rfl rfl (Nat.le_of_ble_eq_true rfl) dX1_init_35 (fun H locs hP hD hS => ?_)
  have hP : va_P g vwCl [(h0, .inr (1, [.int (nI 0), .ref q_1, .ref q_2, .ref q_3, .int (nI 0), .null, .int (nI 0), .int (nI 0), .int (nI 0)])), (q_1, .inl (c_1, 32, .inl (fun _ => nI 0))), (q_2, .inl (c_2, 32, .inl (fun _ => 0))), (q_3, .inl (c_3, 8, .inl (fun _ => 0)))] H := hP
  have hD : va_D A [(h0, .inr (1, [.int (nI 0), .ref q_1, .ref q_2, .ref q_3, .int (nI 0), .null, .int (nI 0), .int (nI 0), .int (nI 0)])), (q_1, .inl (c_1, 32, .inl (fun _ => nI 0))), (q_2, .inl (c_2, 32, .inl (fun _ => 0))), (q_3, .inl (c_3, 8, .inl (fun _ => 0)))] := hD
  refine lv_aload_n F.1 F.2.1 dX1_init_38 rfl (lv_at hl 0 rfl) ?_
  refine lv_bipush (v := nI 8) F.1 F.2.1 dX1_init_39 (by decide) ?_
  refine va_newa (atype := .int) (ty := .int) (n := nI 8) (N' := 8) (a0 := (8, .inl (fun _ => 0))) F.1 F.2.1 (hts _ q104) rfl hK hP hD hS hA (fun _ => rfl) (by decide) (by decide) (by decide) (Nat.le_of_ble_eq_true rfl) (Nat.le_of_ble_eq_true rfl) dX1_init_41 (fun q_5 c_5 H hK hP hD hS => ?_)
  refine W.widen (k := 4) (n := 80) (Nat.le_refl _) (Nat.le_refl _) ?_
  have hK : va_K g vwCl [(c_1, .int), (c_2, .int), (c_3, .int), (c_5, .int)] s := hK
  have hP : va_P g vwCl [(h0, .inr (1, [.int (nI 0), .ref q_1, .ref q_2, .ref q_3, .int (nI 0), .null, .int (nI 0), .int (nI 0), .int (nI 0)])), (q_1, .inl (c_1, 32, .inl (fun _ => nI 0))), (q_2, .inl (c_2, 32, .inl (fun _ => 0))), (q_3, .inl (c_3, 8, .inl (fun _ => 0))), (q_5, .inl (c_5, 8, .inl (fun _ => 0)))] H := hP
  have hD : va_D A [(h0, .inr (1, [.int (nI 0), .ref q_1, .ref q_2, .ref q_3, .int (nI 0), .null, .int (nI 0), .int (nI 0), .int (nI 0)])), (q_1, .inl (c_1, 32, .inl (fun _ => nI 0))), (q_2, .inl (c_2, 32, .inl (fun _ => 0))), (q_3, .inl (c_3, 8, .inl (fun _ => 0))), (q_5, .inl (c_5, 8, .inl (fun _ => 0)))] := hD
  refine va_put (D := g) (ci := 1) (v := .ref q_5) (ty := .array .int) (C := RX1) (T := TX1) (N := 9) (ref := RX1) F.1 F.2.1 hts in_X1 tyX1 tyX1_ok nmX1 hown hK hP hD hS 0 rfl rfl 5 (by decide) (hts _ q221) (fun _ h9 => h9) rfl (by decide +kernel) rfl rfl (Nat.le_of_ble_eq_true rfl) dX1_init_43 (fun H locs hP hD hS => ?_)
  have hP : va_P g vwCl [(h0, .inr (1, [.int (nI 0), .ref q_1, .ref q_2, .ref q_3, .int (nI 0), .ref q_5, .int (nI 0), .int (nI 0), .int (nI 0)])), (q_1, .inl (c_1, 32, .inl (fun _ => nI 0))), (q_2, .inl (c_2, 32, .inl (fun _ => 0))), (q_3, .inl (c_3, 8, .inl (fun _ => 0))), (q_5, .inl (c_5, 8, .inl (fun _ => 0)))] H := hP
  have hD : va_D A [(h0, .inr (1, [.int (nI 0), .ref q_1, .ref q_2, .ref q_3, .int (nI 0), .ref q_5, .int (nI 0), .int (nI 0), .int (nI 0)])), (q_1, .inl (c_1, 32, .inl (fun _ => nI 0))), (q_2, .inl (c_2, 32, .inl (fun _ => 0))), (q_3, .inl (c_3, 8, .inl (fun _ => 0))), (q_5, .inl (c_5, 8, .inl (fun _ => 0)))] := hD
  refine lv_aload_n F.1 F.2.1 dX1_init_46 rfl (lv_at hl 0 rfl) ?_
  refine lv_iconst (v := nI 0) F.1 F.2.1 dX1_init_47 (by decide) ?_
  refine va_put (D := g) (ci := 1) (v := .int (nI 0)) (ty := .int) (C := RX1) (T := TX1) (N := 9) (ref := RX1) F.1 F.2.1 hts in_X1 tyX1 tyX1_ok nmX1 hown hK hP hD hS 0 rfl rfl 6 (by decide) (hts _ q222) (fun _ h9 => h9) rfl (by decide +kernel) rfl rfl (Nat.le_of_ble_eq_true rfl) dX1_init_48 (fun H locs hP hD hS => ?_)
  have hP : va_P g vwCl [(h0, .inr (1, [.int (nI 0), .ref q_1, .ref q_2, .ref q_3, .int (nI 0), .ref q_5, .int (nI 0), .int (nI 0), .int (nI 0)])), (q_1, .inl (c_1, 32, .inl (fun _ => nI 0))), (q_2, .inl (c_2, 32, .inl (fun _ => 0))), (q_3, .inl (c_3, 8, .inl (fun _ => 0))), (q_5, .inl (c_5, 8, .inl (fun _ => 0)))] H := hP
  have hD : va_D A [(h0, .inr (1, [.int (nI 0), .ref q_1, .ref q_2, .ref q_3, .int (nI 0), .ref q_5, .int (nI 0), .int (nI 0), .int (nI 0)])), (q_1, .inl (c_1, 32, .inl (fun _ => nI 0))), (q_2, .inl (c_2, 32, .inl (fun _ => 0))), (q_3, .inl (c_3, 8, .inl (fun _ => 0))), (q_5, .inl (c_5, 8, .inl (fun _ => 0)))] := hD
  refine lv_aload_n F.1 F.2.1 dX1_init_51 rfl (lv_at hl 0 rfl) ?_
  refine lv_iconst (v := nI 0) F.1 F.2.1 dX1_init_52 (by decide) ?_
  refine va_put (D := g) (ci := 1) (v := .int (nI 0)) (ty := .int) (C := RX1) (T := TX1) (N := 9) (ref := RX1) F.1 F.2.1 hts in_X1 tyX1 tyX1_ok nmX1 hown hK hP hD hS 0 rfl rfl 7 (by decide) (hts _ q223) (fun _ h9 => h9) rfl (by decide +kernel) rfl rfl (Nat.le_of_ble_eq_true rfl) dX1_init_53 (fun H locs hP hD hS => ?_)
  have hP : va_P g vwCl [(h0, .inr (1, [.int (nI 0), .ref q_1, .ref q_2, .ref q_3, .int (nI 0), .ref q_5, .int (nI 0), .int (nI 0), .int (nI 0)])), (q_1, .inl (c_1, 32, .inl (fun _ => nI 0))), (q_2, .inl (c_2, 32, .inl (fun _ => 0))), (q_3, .inl (c_3, 8, .inl (fun _ => 0))), (q_5, .inl (c_5, 8, .inl (fun _ => 0)))] H := hP
  have hD : va_D A [(h0, .inr (1, [.int (nI 0), .ref q_1, .ref q_2, .ref q_3, .int (nI 0), .ref q_5, .int (nI 0), .int (nI 0), .int (nI 0)])), (q_1, .inl (c_1, 32, .inl (fun _ => nI 0))), (q_2, .inl (c_2, 32, .inl (fun _ => 0))), (q_3, .inl (c_3, 8, .inl (fun _ => 0))), (q_5, .inl (c_5, 8, .inl (fun _ => 0)))] := hD
  refine lv_aload_n F.1 F.2.1 dX1_init_56 rfl (lv_at hl 0 rfl) ?_
  refine lv_iconst (v := nI 0) F.1 F.2.1 dX1_init_57 (by decide) ?_
  refine va_put (D := g) (ci := 1) (v := .int (nI 0)) (ty := .int) (C := RX1) (T := TX1) (N := 9) (ref := RX1) F.1 F.2.1 hts in_X1 tyX1 tyX1_ok nmX1 hown hK hP hD hS 0 rfl rfl 8 (by decide) (hts _ q224) (fun _ h9 => h9) rfl (by decide +kernel) rfl rfl (Nat.le_of_ble_eq_true rfl) dX1_init_58 (fun H locs hP hD hS => ?_)
  have hP : va_P g vwCl [(h0, .inr (1, [.int (nI 0), .ref q_1, .ref q_2, .ref q_3, .int (nI 0), .ref q_5, .int (nI 0), .int (nI 0), .int (nI 0)])), (q_1, .inl (c_1, 32, .inl (fun _ => nI 0))), (q_2, .inl (c_2, 32, .inl (fun _ => 0))), (q_3, .inl (c_3, 8, .inl (fun _ => 0))), (q_5, .inl (c_5, 8, .inl (fun _ => 0)))] H := hP
  have hD : va_D A [(h0, .inr (1, [.int (nI 0), .ref q_1, .ref q_2, .ref q_3, .int (nI 0), .ref q_5, .int (nI 0), .int (nI 0), .int (nI 0)])), (q_1, .inl (c_1, 32, .inl (fun _ => nI 0))), (q_2, .inl (c_2, 32, .inl (fun _ => 0))), (q_3, .inl (c_3, 8, .inl (fun _ => 0))), (q_5, .inl (c_5, 8, .inl (fun _ => 0)))] := hD
  have hI : mI g (pkL [h0, q_1, q_2, q_3, 0, q_5, 0, 0, 0]) (pkL [0, c_1, c_2, c_3, 0, c_5, 0, 0, 0]) A s u0 H locs := ⟨hK, hP, hD, hS⟩
  exact W.vret F.1 F.2.1 hr (fun t ht hW => ⟨⟨(pkL [h0, q_1, q_2, q_3, 0, q_5, 0, 0, 0], pkL [0, c_1, c_2, c_3, 0, c_5, 0, 0, 0], u0), rfl, ⟨rfl, rfl⟩, m_end hI ht hW⟩, hI.2.2.2.F ht⟩) hI.2.2.2.2.2 dX1_init_61 hlk
def xZ : List Value := [.int (nI 0), .null, .null, .null, .null, .int (nI 0), .int (nI 0), .int (nI 0), .int (nI 0), .null, .int (nI 0), .null, .null, .null, .int (nI 0), .null, .null, .null, .null, .int (nI 0), .null]
set_option maxHeartbeats 4000000 in
theorem metX0_init (l : Launch) (g : va_G) (h0 sz : Nat) : Met l yX0_init (ws_ yX0_init cX0_init 1 none) ({ frames := 1, cells := 13, slots := 3091, locals := 21 }) (va_Pc [.ref h0] (fun U => U.heap.size = sz ∧ va_P g vwCl [(h0, .inr (0, xZ))] U.heap ∧ va_K g vwCl [] U ∧ va_D (fun _ => True) [(h0, .inr (0, xZ))])) (va_Qv (fun z : (Nat → Nat) × (Nat → Nat) × XS => z.1 0 = h0 ∧ fgP u0 z.2.2) (fun z t => xB g z.1 z.2.1 (va_A [(h0, .inr (0, xZ))] sz) z.2.2 t) (va_A [(h0, .inr (0, xZ))] sz)) 13 3091 (va_A [(h0, .inr (0, xZ))] sz) := by
  refine Met.ofW (cc := cX0_init) (maxL := 1) (ret := none) (by decide) rfl ?_
  intro p e s m args below meth c s₁ B hml hv
  obtain ⟨rfl, hsz, hP, hK, hD0⟩ := hv
  have hr := B.returns
  have hts := atoms_spec (ws := ws_ yX0_init cX0_init 1 none) B.pre
  have hts : ∀ w ∈ lw_all, w.before _ s = true := fun w h => hts w (List.mem_cons_of_mem _ h)
  have hown : s.vm.findClass RX0 = some m.cls := findClass_of_methodNamed B.named
  have hlk := B.notSynchronized
  have F : CallFix p m c cX0_init 1 s ([.ref h0] : List Value).toArray lw_all RX0 := ⟨B.exec, B.bytes, hml, hown, hts⟩
  have hin : meth.name = "<init>" := (name_of_methodNamed B.named B.method).1
  subst hsz
  have hD := hD0.self (sz := s.heap.size)
  generalize hAe : va_A [(h0, .inr (0, xZ))] s.heap.size = A at hD ⊢
  have hA : ∀ q : Nat, s.heap.size ≤ q → A q := fun q h => by rw [← hAe]; exact Or.inr h
  have hS : va_S A s.heap s.heap [] := va_S.rf
  have hl := lv_entry ([.ref h0]) (n := 1) (Nat.le_of_ble_eq_true rfl)
  rw [lg_entry_eq]
  generalize (lg_sl ([.ref h0]) ++ List.replicate (1 - (lg_sl ([.ref h0])).length) Slot.unset).toArray = ls at hl ⊢
  have hl : lv_has ls 1 [(0, .ref h0)] := hl
  have hP : va_P g vwCl [(h0, .inr (0, [.int (nI 0), .null, .null, .null, .null, .int (nI 0), .int (nI 0), .int (nI 0), .int (nI 0), .null, .int (nI 0), .null, .null, .null, .int (nI 0), .null, .null, .null, .null, .int (nI 0), .null]))] s.heap := hP
  have hD : va_D A [(h0, .inr (0, [.int (nI 0), .null, .null, .null, .null, .int (nI 0), .int (nI 0), .int (nI 0), .int (nI 0), .null, .int (nI 0), .null, .null, .null, .int (nI 0), .null, .null, .null, .null, .int (nI 0), .null]))] := hD
  refine lv_aload_n F.1 F.2.1 dX0_init_0 rfl (lv_at hl 0 rfl) ?_
  refine W.objInit F.1 F.2.1 hown (hts _ q32) (hts _ q33) (hts _ q34) rfl (by rw [hml]; exact hl.1) rfl dX0_init_1 (Nat.le_of_ble_eq_true rfl) (Nat.le_of_ble_eq_true rfl) ?_
  refine W.eq (g2 := F0 m 4 ls []) rfl ?_
  refine lv_aload_n F.1 F.2.1 dX0_init_4 rfl (lv_at hl 0 rfl) ?_
  refine lv_bipush (v := nI 32) F.1 F.2.1 dX0_init_5 (by decide) ?_
  refine va_newa (atype := .byte) (ty := .byte) (n := nI 32) (N' := 32) (a0 := (32, .inl (fun _ => nI 0))) F.1 F.2.1 (hts _ q103) rfl hK hP hD hS hA (fun _ => rfl) (by decide) (by decide) (by decide) (Nat.le_of_ble_eq_true rfl) (Nat.le_of_ble_eq_true rfl) dX0_init_7 (fun q_1 c_1 H hK hP hD hS => ?_)
  refine W.widen (k := 1) (n := 32) (Nat.le_refl _) (Nat.le_refl _) ?_
  have hK : va_K g vwCl [(c_1, .byte)] s := hK
  have hP : va_P g vwCl [(h0, .inr (0, [.int (nI 0), .null, .null, .null, .null, .int (nI 0), .int (nI 0), .int (nI 0), .int (nI 0), .null, .int (nI 0), .null, .null, .null, .int (nI 0), .null, .null, .null, .null, .int (nI 0), .null])), (q_1, .inl (c_1, 32, .inl (fun _ => nI 0)))] H := hP
  have hD : va_D A [(h0, .inr (0, [.int (nI 0), .null, .null, .null, .null, .int (nI 0), .int (nI 0), .int (nI 0), .int (nI 0), .null, .int (nI 0), .null, .null, .null, .int (nI 0), .null, .null, .null, .null, .int (nI 0), .null])), (q_1, .inl (c_1, 32, .inl (fun _ => nI 0)))] := hD
  refine va_putF (D := g) (ci := 0) (v := .ref q_1) (ty := .array .byte) (C := RX0) (T := TX0) (N := 21) (ref := RX0) F.1 F.2.1 hts in_X0 tyX0 tyX0_ok nmX0 hown hK hP hD hS 0 rfl rfl 1 (by decide) (hts _ q40) (fun _ h9 => h9) rfl hin rfl (by decide +kernel) rfl rfl (Nat.le_of_ble_eq_true rfl) dX0_init_9 (fun H locs hP hD hS => ?_)
  have hP : va_P g vwCl [(h0, .inr (0, [.int (nI 0), .ref q_1, .null, .null, .null, .int (nI 0), .int (nI 0), .int (nI 0), .int (nI 0), .null, .int (nI 0), .null, .null, .null, .int (nI 0), .null, .null, .null, .null, .int (nI 0), .null])), (q_1, .inl (c_1, 32, .inl (fun _ => nI 0)))] H := hP
  have hD : va_D A [(h0, .inr (0, [.int (nI 0), .ref q_1, .null, .null, .null, .int (nI 0), .int (nI 0), .int (nI 0), .int (nI 0), .null, .int (nI 0), .null, .null, .null, .int (nI 0), .null, .null, .null, .null, .int (nI 0), .null])), (q_1, .inl (c_1, 32, .inl (fun _ => nI 0)))] := hD
  refine lv_aload_n F.1 F.2.1 dX0_init_12 rfl (lv_at hl 0 rfl) ?_
  refine lv_bipush (v := nI 32) F.1 F.2.1 dX0_init_13 (by decide) ?_
  refine va_newa (atype := .int) (ty := .int) (n := nI 32) (N' := 32) (a0 := (32, .inl (fun _ => 0))) F.1 F.2.1 (hts _ q104) rfl hK hP hD hS hA (fun _ => rfl) (by decide) (by decide) (by decide) (Nat.le_of_ble_eq_true rfl) (Nat.le_of_ble_eq_true rfl) dX0_init_15 (fun q_2 c_2 H hK hP hD hS => ?_)
  refine W.widen (k := 2) (n := 64) (Nat.le_refl _) (Nat.le_refl _) ?_
  have hK : va_K g vwCl [(c_1, .byte), (c_2, .int)] s := hK
  have hP : va_P g vwCl [(h0, .inr (0, [.int (nI 0), .ref q_1, .null, .null, .null, .int (nI 0), .int (nI 0), .int (nI 0), .int (nI 0), .null, .int (nI 0), .null, .null, .null, .int (nI 0), .null, .null, .null, .null, .int (nI 0), .null])), (q_1, .inl (c_1, 32, .inl (fun _ => nI 0))), (q_2, .inl (c_2, 32, .inl (fun _ => 0)))] H := hP
  have hD : va_D A [(h0, .inr (0, [.int (nI 0), .ref q_1, .null, .null, .null, .int (nI 0), .int (nI 0), .int (nI 0), .int (nI 0), .null, .int (nI 0), .null, .null, .null, .int (nI 0), .null, .null, .null, .null, .int (nI 0), .null])), (q_1, .inl (c_1, 32, .inl (fun _ => nI 0))), (q_2, .inl (c_2, 32, .inl (fun _ => 0)))] := hD
  refine va_putF (D := g) (ci := 0) (v := .ref q_2) (ty := .array .int) (C := RX0) (T := TX0) (N := 21) (ref := RX0) F.1 F.2.1 hts in_X0 tyX0 tyX0_ok nmX0 hown hK hP hD hS 0 rfl rfl 2 (by decide) (hts _ q41) (fun _ h9 => h9) rfl hin rfl (by decide +kernel) rfl rfl (Nat.le_of_ble_eq_true rfl) dX0_init_17 (fun H locs hP hD hS => ?_)
  have hP : va_P g vwCl [(h0, .inr (0, [.int (nI 0), .ref q_1, .ref q_2, .null, .null, .int (nI 0), .int (nI 0), .int (nI 0), .int (nI 0), .null, .int (nI 0), .null, .null, .null, .int (nI 0), .null, .null, .null, .null, .int (nI 0), .null])), (q_1, .inl (c_1, 32, .inl (fun _ => nI 0))), (q_2, .inl (c_2, 32, .inl (fun _ => 0)))] H := hP
  have hD : va_D A [(h0, .inr (0, [.int (nI 0), .ref q_1, .ref q_2, .null, .null, .int (nI 0), .int (nI 0), .int (nI 0), .int (nI 0), .null, .int (nI 0), .null, .null, .null, .int (nI 0), .null, .null, .null, .null, .int (nI 0), .null])), (q_1, .inl (c_1, 32, .inl (fun _ => nI 0))), (q_2, .inl (c_2, 32, .inl (fun _ => 0)))] := hD
  refine lv_aload_n F.1 F.2.1 dX0_init_20 rfl (lv_at hl 0 rfl) ?_
  refine lv_bipush (v := nI 8) F.1 F.2.1 dX0_init_21 (by decide) ?_
  refine va_newa (atype := .int) (ty := .int) (n := nI 8) (N' := 8) (a0 := (8, .inl (fun _ => 0))) F.1 F.2.1 (hts _ q104) rfl hK hP hD hS hA (fun _ => rfl) (by decide) (by decide) (by decide) (Nat.le_of_ble_eq_true rfl) (Nat.le_of_ble_eq_true rfl) dX0_init_23 (fun q_3 c_3 H hK hP hD hS => ?_)
  refine W.widen (k := 3) (n := 72) (Nat.le_refl _) (Nat.le_refl _) ?_
  have hK : va_K g vwCl [(c_1, .byte), (c_2, .int), (c_3, .int)] s := hK
  have hP : va_P g vwCl [(h0, .inr (0, [.int (nI 0), .ref q_1, .ref q_2, .null, .null, .int (nI 0), .int (nI 0), .int (nI 0), .int (nI 0), .null, .int (nI 0), .null, .null, .null, .int (nI 0), .null, .null, .null, .null, .int (nI 0), .null])), (q_1, .inl (c_1, 32, .inl (fun _ => nI 0))), (q_2, .inl (c_2, 32, .inl (fun _ => 0))), (q_3, .inl (c_3, 8, .inl (fun _ => 0)))] H := hP
  have hD : va_D A [(h0, .inr (0, [.int (nI 0), .ref q_1, .ref q_2, .null, .null, .int (nI 0), .int (nI 0), .int (nI 0), .int (nI 0), .null, .int (nI 0), .null, .null, .null, .int (nI 0), .null, .null, .null, .null, .int (nI 0), .null])), (q_1, .inl (c_1, 32, .inl (fun _ => nI 0))), (q_2, .inl (c_2, 32, .inl (fun _ => 0))), (q_3, .inl (c_3, 8, .inl (fun _ => 0)))] := hD
  refine va_putF (D := g) (ci := 0) (v := .ref q_3) (ty := .array .int) (C := RX0) (T := TX0) (N := 21) (ref := RX0) F.1 F.2.1 hts in_X0 tyX0 tyX0_ok nmX0 hown hK hP hD hS 0 rfl rfl 3 (by decide) (hts _ q42) (fun _ h9 => h9) rfl hin rfl (by decide +kernel) rfl rfl (Nat.le_of_ble_eq_true rfl) dX0_init_25 (fun H locs hP hD hS => ?_)
  have hP : va_P g vwCl [(h0, .inr (0, [.int (nI 0), .ref q_1, .ref q_2, .ref q_3, .null, .int (nI 0), .int (nI 0), .int (nI 0), .int (nI 0), .null, .int (nI 0), .null, .null, .null, .int (nI 0), .null, .null, .null, .null, .int (nI 0), .null])), (q_1, .inl (c_1, 32, .inl (fun _ => nI 0))), (q_2, .inl (c_2, 32, .inl (fun _ => 0))), (q_3, .inl (c_3, 8, .inl (fun _ => 0)))] H := hP
  have hD : va_D A [(h0, .inr (0, [.int (nI 0), .ref q_1, .ref q_2, .ref q_3, .null, .int (nI 0), .int (nI 0), .int (nI 0), .int (nI 0), .null, .int (nI 0), .null, .null, .null, .int (nI 0), .null, .null, .null, .null, .int (nI 0), .null])), (q_1, .inl (c_1, 32, .inl (fun _ => nI 0))), (q_2, .inl (c_2, 32, .inl (fun _ => 0))), (q_3, .inl (c_3, 8, .inl (fun _ => 0)))] := hD
  refine lv_aload_n F.1 F.2.1 dX0_init_28 rfl (lv_at hl 0 rfl) ?_
  refine lv_bipush (v := nI 10) F.1 F.2.1 dX0_init_29 (by decide) ?_
  refine va_newa (atype := .int) (ty := .int) (n := nI 10) (N' := 10) (a0 := (10, .inl (fun _ => 0))) F.1 F.2.1 (hts _ q104) rfl hK hP hD hS hA (fun _ => rfl) (by decide) (by decide) (by decide) (Nat.le_of_ble_eq_true rfl) (Nat.le_of_ble_eq_true rfl) dX0_init_31 (fun q_4 c_4 H hK hP hD hS => ?_)
  refine W.widen (k := 4) (n := 82) (Nat.le_refl _) (Nat.le_refl _) ?_
  have hK : va_K g vwCl [(c_1, .byte), (c_2, .int), (c_3, .int), (c_4, .int)] s := hK
  have hP : va_P g vwCl [(h0, .inr (0, [.int (nI 0), .ref q_1, .ref q_2, .ref q_3, .null, .int (nI 0), .int (nI 0), .int (nI 0), .int (nI 0), .null, .int (nI 0), .null, .null, .null, .int (nI 0), .null, .null, .null, .null, .int (nI 0), .null])), (q_1, .inl (c_1, 32, .inl (fun _ => nI 0))), (q_2, .inl (c_2, 32, .inl (fun _ => 0))), (q_3, .inl (c_3, 8, .inl (fun _ => 0))), (q_4, .inl (c_4, 10, .inl (fun _ => 0)))] H := hP
  have hD : va_D A [(h0, .inr (0, [.int (nI 0), .ref q_1, .ref q_2, .ref q_3, .null, .int (nI 0), .int (nI 0), .int (nI 0), .int (nI 0), .null, .int (nI 0), .null, .null, .null, .int (nI 0), .null, .null, .null, .null, .int (nI 0), .null])), (q_1, .inl (c_1, 32, .inl (fun _ => nI 0))), (q_2, .inl (c_2, 32, .inl (fun _ => 0))), (q_3, .inl (c_3, 8, .inl (fun _ => 0))), (q_4, .inl (c_4, 10, .inl (fun _ => 0)))] := hD
  refine va_putF (D := g) (ci := 0) (v := .ref q_4) (ty := .array .int) (C := RX0) (T := TX0) (N := 21) (ref := RX0) F.1 F.2.1 hts in_X0 tyX0 tyX0_ok nmX0 hown hK hP hD hS 0 rfl rfl 4 (by decide) (hts _ q43) (fun _ h9 => h9) rfl hin rfl (by decide +kernel) rfl rfl (Nat.le_of_ble_eq_true rfl) dX0_init_33 (fun H locs hP hD hS => ?_)
  have hP : va_P g vwCl [(h0, .inr (0, [.int (nI 0), .ref q_1, .ref q_2, .ref q_3, .ref q_4, .int (nI 0), .int (nI 0), .int (nI 0), .int (nI 0), .null, .int (nI 0), .null, .null, .null, .int (nI 0), .null, .null, .null, .null, .int (nI 0), .null])), (q_1, .inl (c_1, 32, .inl (fun _ => nI 0))), (q_2, .inl (c_2, 32, .inl (fun _ => 0))), (q_3, .inl (c_3, 8, .inl (fun _ => 0))), (q_4, .inl (c_4, 10, .inl (fun _ => 0)))] H := hP
  have hD : va_D A [(h0, .inr (0, [.int (nI 0), .ref q_1, .ref q_2, .ref q_3, .ref q_4, .int (nI 0), .int (nI 0), .int (nI 0), .int (nI 0), .null, .int (nI 0), .null, .null, .null, .int (nI 0), .null, .null, .null, .null, .int (nI 0), .null])), (q_1, .inl (c_1, 32, .inl (fun _ => nI 0))), (q_2, .inl (c_2, 32, .inl (fun _ => 0))), (q_3, .inl (c_3, 8, .inl (fun _ => 0))), (q_4, .inl (c_4, 10, .inl (fun _ => 0)))] := hD
  refine lv_aload_n F.1 F.2.1 dX0_init_36 rfl (lv_at hl 0 rfl) ?_
  refine lv_sipush (v := nI 297) F.1 F.2.1 dX0_init_37 (by decide) ?_
  refine va_newa (atype := .short) (ty := .short) (n := nI 297) (N' := 297) (a0 := (297, .inl (fun _ => 0))) F.1 F.2.1 (hts _ q105) rfl hK hP hD hS hA (fun _ => rfl) (by decide) (by decide) (by decide) (Nat.le_of_ble_eq_true rfl) (Nat.le_of_ble_eq_true rfl) dX0_init_40 (fun q_9 c_9 H hK hP hD hS => ?_)
  refine W.widen (k := 5) (n := 379) (Nat.le_refl _) (Nat.le_refl _) ?_
  have hK : va_K g vwCl [(c_1, .byte), (c_2, .int), (c_3, .int), (c_4, .int), (c_9, .short)] s := hK
  have hP : va_P g vwCl [(h0, .inr (0, [.int (nI 0), .ref q_1, .ref q_2, .ref q_3, .ref q_4, .int (nI 0), .int (nI 0), .int (nI 0), .int (nI 0), .null, .int (nI 0), .null, .null, .null, .int (nI 0), .null, .null, .null, .null, .int (nI 0), .null])), (q_1, .inl (c_1, 32, .inl (fun _ => nI 0))), (q_2, .inl (c_2, 32, .inl (fun _ => 0))), (q_3, .inl (c_3, 8, .inl (fun _ => 0))), (q_4, .inl (c_4, 10, .inl (fun _ => 0))), (q_9, .inl (c_9, 297, .inl (fun _ => 0)))] H := hP
  have hD : va_D A [(h0, .inr (0, [.int (nI 0), .ref q_1, .ref q_2, .ref q_3, .ref q_4, .int (nI 0), .int (nI 0), .int (nI 0), .int (nI 0), .null, .int (nI 0), .null, .null, .null, .int (nI 0), .null, .null, .null, .null, .int (nI 0), .null])), (q_1, .inl (c_1, 32, .inl (fun _ => nI 0))), (q_2, .inl (c_2, 32, .inl (fun _ => 0))), (q_3, .inl (c_3, 8, .inl (fun _ => 0))), (q_4, .inl (c_4, 10, .inl (fun _ => 0))), (q_9, .inl (c_9, 297, .inl (fun _ => 0)))] := hD
  refine va_putF (D := g) (ci := 0) (v := .ref q_9) (ty := .array .short) (C := RX0) (T := TX0) (N := 21) (ref := RX0) F.1 F.2.1 hts in_X0 tyX0 tyX0_ok nmX0 hown hK hP hD hS 0 rfl rfl 9 (by decide) (hts _ q48) (fun _ h9 => h9) rfl hin rfl (by decide +kernel) rfl rfl (Nat.le_of_ble_eq_true rfl) dX0_init_42 (fun H locs hP hD hS => ?_)
  have hP : va_P g vwCl [(h0, .inr (0, [.int (nI 0), .ref q_1, .ref q_2, .ref q_3, .ref q_4, .int (nI 0), .int (nI 0), .int (nI 0), .int (nI 0), .ref q_9, .int (nI 0), .null, .null, .null, .int (nI 0), .null, .null, .null, .null, .int (nI 0), .null])), (q_1, .inl (c_1, 32, .inl (fun _ => nI 0))), (q_2, .inl (c_2, 32, .inl (fun _ => 0))), (q_3, .inl (c_3, 8, .inl (fun _ => 0))), (q_4, .inl (c_4, 10, .inl (fun _ => 0))), (q_9, .inl (c_9, 297, .inl (fun _ => 0)))] H := hP
  have hD : va_D A [(h0, .inr (0, [.int (nI 0), .ref q_1, .ref q_2, .ref q_3, .ref q_4, .int (nI 0), .int (nI 0), .int (nI 0), .int (nI 0), .ref q_9, .int (nI 0), .null, .null, .null, .int (nI 0), .null, .null, .null, .null, .int (nI 0), .null])), (q_1, .inl (c_1, 32, .inl (fun _ => nI 0))), (q_2, .inl (c_2, 32, .inl (fun _ => 0))), (q_3, .inl (c_3, 8, .inl (fun _ => 0))), (q_4, .inl (c_4, 10, .inl (fun _ => 0))), (q_9, .inl (c_9, 297, .inl (fun _ => 0)))] := hD
  refine lv_aload_n F.1 F.2.1 dX0_init_45 rfl (lv_at hl 0 rfl) ?_
  refine lv_bipush (v := nI 48) F.1 F.2.1 dX0_init_46 (by decide) ?_
  refine va_newa (atype := .short) (ty := .short) (n := nI 48) (N' := 48) (a0 := (48, .inl (fun _ => nI 0))) F.1 F.2.1 (hts _ q105) rfl hK hP hD hS hA (fun _ => rfl) (by decide) (by decide) (by decide) (Nat.le_of_ble_eq_true rfl) (Nat.le_of_ble_eq_true rfl) dX0_init_48 (fun q_11 c_11 H hK hP hD hS => ?_)
  refine W.widen (k := 6) (n := 427) (Nat.le_refl _) (Nat.le_refl _) ?_
  have hK : va_K g vwCl [(c_1, .byte), (c_2, .int), (c_3, .int), (c_4, .int), (c_9, .short), (c_11, .short)] s := hK
  have hP : va_P g vwCl [(h0, .inr (0, [.int (nI 0), .ref q_1, .ref q_2, .ref q_3, .ref q_4, .int (nI 0), .int (nI 0), .int (nI 0), .int (nI 0), .ref q_9, .int (nI 0), .null, .null, .null, .int (nI 0), .null, .null, .null, .null, .int (nI 0), .null])), (q_1, .inl (c_1, 32, .inl (fun _ => nI 0))), (q_2, .inl (c_2, 32, .inl (fun _ => 0))), (q_3, .inl (c_3, 8, .inl (fun _ => 0))), (q_4, .inl (c_4, 10, .inl (fun _ => 0))), (q_9, .inl (c_9, 297, .inl (fun _ => 0))), (q_11, .inl (c_11, 48, .inl (fun _ => nI 0)))] H := hP
  have hD : va_D A [(h0, .inr (0, [.int (nI 0), .ref q_1, .ref q_2, .ref q_3, .ref q_4, .int (nI 0), .int (nI 0), .int (nI 0), .int (nI 0), .ref q_9, .int (nI 0), .null, .null, .null, .int (nI 0), .null, .null, .null, .null, .int (nI 0), .null])), (q_1, .inl (c_1, 32, .inl (fun _ => nI 0))), (q_2, .inl (c_2, 32, .inl (fun _ => 0))), (q_3, .inl (c_3, 8, .inl (fun _ => 0))), (q_4, .inl (c_4, 10, .inl (fun _ => 0))), (q_9, .inl (c_9, 297, .inl (fun _ => 0))), (q_11, .inl (c_11, 48, .inl (fun _ => nI 0)))] := hD
  refine va_putF (D := g) (ci := 0) (v := .ref q_11) (ty := .array .short) (C := RX0) (T := TX0) (N := 21) (ref := RX0) F.1 F.2.1 hts in_X0 tyX0 tyX0_ok nmX0 hown hK hP hD hS 0 rfl rfl 11 (by decide) (hts _ q50) (fun _ h9 => h9) rfl hin rfl (by decide +kernel) rfl rfl (Nat.le_of_ble_eq_true rfl) dX0_init_50 (fun H locs hP hD hS => ?_)
  have hP : va_P g vwCl [(h0, .inr (0, [.int (nI 0), .ref q_1, .ref q_2, .ref q_3, .ref q_4, .int (nI 0), .int (nI 0), .int (nI 0), .int (nI 0), .ref q_9, .int (nI 0), .ref q_11, .null, .null, .int (nI 0), .null, .null, .null, .null, .int (nI 0), .null])), (q_1, .inl (c_1, 32, .inl (fun _ => nI 0))), (q_2, .inl (c_2, 32, .inl (fun _ => 0))), (q_3, .inl (c_3, 8, .inl (fun _ => 0))), (q_4, .inl (c_4, 10, .inl (fun _ => 0))), (q_9, .inl (c_9, 297, .inl (fun _ => 0))), (q_11, .inl (c_11, 48, .inl (fun _ => nI 0)))] H := hP
  have hD : va_D A [(h0, .inr (0, [.int (nI 0), .ref q_1, .ref q_2, .ref q_3, .ref q_4, .int (nI 0), .int (nI 0), .int (nI 0), .int (nI 0), .ref q_9, .int (nI 0), .ref q_11, .null, .null, .int (nI 0), .null, .null, .null, .null, .int (nI 0), .null])), (q_1, .inl (c_1, 32, .inl (fun _ => nI 0))), (q_2, .inl (c_2, 32, .inl (fun _ => 0))), (q_3, .inl (c_3, 8, .inl (fun _ => 0))), (q_4, .inl (c_4, 10, .inl (fun _ => 0))), (q_9, .inl (c_9, 297, .inl (fun _ => 0))), (q_11, .inl (c_11, 48, .inl (fun _ => nI 0)))] := hD
  refine lv_aload_n F.1 F.2.1 dX0_init_53 rfl (lv_at hl 0 rfl) ?_
  refine lv_bipush (v := nI 48) F.1 F.2.1 dX0_init_54 (by decide) ?_
  refine va_newa (atype := .byte) (ty := .byte) (n := nI 48) (N' := 48) (a0 := (48, .inl (fun _ => nI 0))) F.1 F.2.1 (hts _ q103) rfl hK hP hD hS hA (fun _ => rfl) (by decide) (by decide) (by decide) (Nat.le_of_ble_eq_true rfl) (Nat.le_of_ble_eq_true rfl) dX0_init_56 (fun q_12 c_12 H hK hP hD hS => ?_)
  refine W.widen (k := 7) (n := 475) (Nat.le_refl _) (Nat.le_refl _) ?_
  have hK : va_K g vwCl [(c_1, .byte), (c_2, .int), (c_3, .int), (c_4, .int), (c_9, .short), (c_11, .short), (c_12, .byte)] s := hK
  have hP : va_P g vwCl [(h0, .inr (0, [.int (nI 0), .ref q_1, .ref q_2, .ref q_3, .ref q_4, .int (nI 0), .int (nI 0), .int (nI 0), .int (nI 0), .ref q_9, .int (nI 0), .ref q_11, .null, .null, .int (nI 0), .null, .null, .null, .null, .int (nI 0), .null])), (q_1, .inl (c_1, 32, .inl (fun _ => nI 0))), (q_2, .inl (c_2, 32, .inl (fun _ => 0))), (q_3, .inl (c_3, 8, .inl (fun _ => 0))), (q_4, .inl (c_4, 10, .inl (fun _ => 0))), (q_9, .inl (c_9, 297, .inl (fun _ => 0))), (q_11, .inl (c_11, 48, .inl (fun _ => nI 0))), (q_12, .inl (c_12, 48, .inl (fun _ => nI 0)))] H := hP
  have hD : va_D A [(h0, .inr (0, [.int (nI 0), .ref q_1, .ref q_2, .ref q_3, .ref q_4, .int (nI 0), .int (nI 0), .int (nI 0), .int (nI 0), .ref q_9, .int (nI 0), .ref q_11, .null, .null, .int (nI 0), .null, .null, .null, .null, .int (nI 0), .null])), (q_1, .inl (c_1, 32, .inl (fun _ => nI 0))), (q_2, .inl (c_2, 32, .inl (fun _ => 0))), (q_3, .inl (c_3, 8, .inl (fun _ => 0))), (q_4, .inl (c_4, 10, .inl (fun _ => 0))), (q_9, .inl (c_9, 297, .inl (fun _ => 0))), (q_11, .inl (c_11, 48, .inl (fun _ => nI 0))), (q_12, .inl (c_12, 48, .inl (fun _ => nI 0)))] := hD
  refine va_putF (D := g) (ci := 0) (v := .ref q_12) (ty := .array .byte) (C := RX0) (T := TX0) (N := 21) (ref := RX0) F.1 F.2.1 hts in_X0 tyX0 tyX0_ok nmX0 hown hK hP hD hS 0 rfl rfl 12 (by decide) (hts _ q51) (fun _ h9 => h9) rfl hin rfl (by decide +kernel) rfl rfl (Nat.le_of_ble_eq_true rfl) dX0_init_58 (fun H locs hP hD hS => ?_)
  have hP : va_P g vwCl [(h0, .inr (0, [.int (nI 0), .ref q_1, .ref q_2, .ref q_3, .ref q_4, .int (nI 0), .int (nI 0), .int (nI 0), .int (nI 0), .ref q_9, .int (nI 0), .ref q_11, .ref q_12, .null, .int (nI 0), .null, .null, .null, .null, .int (nI 0), .null])), (q_1, .inl (c_1, 32, .inl (fun _ => nI 0))), (q_2, .inl (c_2, 32, .inl (fun _ => 0))), (q_3, .inl (c_3, 8, .inl (fun _ => 0))), (q_4, .inl (c_4, 10, .inl (fun _ => 0))), (q_9, .inl (c_9, 297, .inl (fun _ => 0))), (q_11, .inl (c_11, 48, .inl (fun _ => nI 0))), (q_12, .inl (c_12, 48, .inl (fun _ => nI 0)))] H := hP
  have hD : va_D A [(h0, .inr (0, [.int (nI 0), .ref q_1, .ref q_2, .ref q_3, .ref q_4, .int (nI 0), .int (nI 0), .int (nI 0), .int (nI 0), .ref q_9, .int (nI 0), .ref q_11, .ref q_12, .null, .int (nI 0), .null, .null, .null, .null, .int (nI 0), .null])), (q_1, .inl (c_1, 32, .inl (fun _ => nI 0))), (q_2, .inl (c_2, 32, .inl (fun _ => 0))), (q_3, .inl (c_3, 8, .inl (fun _ => 0))), (q_4, .inl (c_4, 10, .inl (fun _ => 0))), (q_9, .inl (c_9, 297, .inl (fun _ => 0))), (q_11, .inl (c_11, 48, .inl (fun _ => nI 0))), (q_12, .inl (c_12, 48, .inl (fun _ => nI 0)))] := hD
  refine lv_aload_n F.1 F.2.1 dX0_init_61 rfl (lv_at hl 0 rfl) ?_
  refine lv_bipush (v := nI 48) F.1 F.2.1 dX0_init_62 (by decide) ?_
  refine va_newa (atype := .byte) (ty := .byte) (n := nI 48) (N' := 48) (a0 := (48, .inl (fun _ => nI 0))) F.1 F.2.1 (hts _ q103) rfl hK hP hD hS hA (fun _ => rfl) (by decide) (by decide) (by decide) (Nat.le_of_ble_eq_true rfl) (Nat.le_of_ble_eq_true rfl) dX0_init_64 (fun q_13 c_13 H hK hP hD hS => ?_)
  refine W.widen (k := 8) (n := 523) (Nat.le_refl _) (Nat.le_refl _) ?_
  have hK : va_K g vwCl [(c_1, .byte), (c_2, .int), (c_3, .int), (c_4, .int), (c_9, .short), (c_11, .short), (c_12, .byte), (c_13, .byte)] s := hK
  have hP : va_P g vwCl [(h0, .inr (0, [.int (nI 0), .ref q_1, .ref q_2, .ref q_3, .ref q_4, .int (nI 0), .int (nI 0), .int (nI 0), .int (nI 0), .ref q_9, .int (nI 0), .ref q_11, .ref q_12, .null, .int (nI 0), .null, .null, .null, .null, .int (nI 0), .null])), (q_1, .inl (c_1, 32, .inl (fun _ => nI 0))), (q_2, .inl (c_2, 32, .inl (fun _ => 0))), (q_3, .inl (c_3, 8, .inl (fun _ => 0))), (q_4, .inl (c_4, 10, .inl (fun _ => 0))), (q_9, .inl (c_9, 297, .inl (fun _ => 0))), (q_11, .inl (c_11, 48, .inl (fun _ => nI 0))), (q_12, .inl (c_12, 48, .inl (fun _ => nI 0))), (q_13, .inl (c_13, 48, .inl (fun _ => nI 0)))] H := hP
  have hD : va_D A [(h0, .inr (0, [.int (nI 0), .ref q_1, .ref q_2, .ref q_3, .ref q_4, .int (nI 0), .int (nI 0), .int (nI 0), .int (nI 0), .ref q_9, .int (nI 0), .ref q_11, .ref q_12, .null, .int (nI 0), .null, .null, .null, .null, .int (nI 0), .null])), (q_1, .inl (c_1, 32, .inl (fun _ => nI 0))), (q_2, .inl (c_2, 32, .inl (fun _ => 0))), (q_3, .inl (c_3, 8, .inl (fun _ => 0))), (q_4, .inl (c_4, 10, .inl (fun _ => 0))), (q_9, .inl (c_9, 297, .inl (fun _ => 0))), (q_11, .inl (c_11, 48, .inl (fun _ => nI 0))), (q_12, .inl (c_12, 48, .inl (fun _ => nI 0))), (q_13, .inl (c_13, 48, .inl (fun _ => nI 0)))] := hD
  refine va_putF (D := g) (ci := 0) (v := .ref q_13) (ty := .array .byte) (C := RX0) (T := TX0) (N := 21) (ref := RX0) F.1 F.2.1 hts in_X0 tyX0 tyX0_ok nmX0 hown hK hP hD hS 0 rfl rfl 13 (by decide) (hts _ q52) (fun _ h9 => h9) rfl hin rfl (by decide +kernel) rfl rfl (Nat.le_of_ble_eq_true rfl) dX0_init_66 (fun H locs hP hD hS => ?_)
  have hP : va_P g vwCl [(h0, .inr (0, [.int (nI 0), .ref q_1, .ref q_2, .ref q_3, .ref q_4, .int (nI 0), .int (nI 0), .int (nI 0), .int (nI 0), .ref q_9, .int (nI 0), .ref q_11, .ref q_12, .ref q_13, .int (nI 0), .null, .null, .null, .null, .int (nI 0), .null])), (q_1, .inl (c_1, 32, .inl (fun _ => nI 0))), (q_2, .inl (c_2, 32, .inl (fun _ => 0))), (q_3, .inl (c_3, 8, .inl (fun _ => 0))), (q_4, .inl (c_4, 10, .inl (fun _ => 0))), (q_9, .inl (c_9, 297, .inl (fun _ => 0))), (q_11, .inl (c_11, 48, .inl (fun _ => nI 0))), (q_12, .inl (c_12, 48, .inl (fun _ => nI 0))), (q_13, .inl (c_13, 48, .inl (fun _ => nI 0)))] H := hP
  have hD : va_D A [(h0, .inr (0, [.int (nI 0), .ref q_1, .ref q_2, .ref q_3, .ref q_4, .int (nI 0), .int (nI 0), .int (nI 0), .int (nI 0), .ref q_9, .int (nI 0), .ref q_11, .ref q_12, .ref q_13, .int (nI 0), .null, .null, .null, .null, .int (nI 0), .null])), (q_1, .inl (c_1, 32, .inl (fun _ => nI 0))), (q_2, .inl (c_2, 32, .inl (fun _ => 0))), (q_3, .inl (c_3, 8, .inl (fun _ => 0))), (q_4, .inl (c_4, 10, .inl (fun _ => 0))), (q_9, .inl (c_9, 297, .inl (fun _ => 0))), (q_11, .inl (c_11, 48, .inl (fun _ => nI 0))), (q_12, .inl (c_12, 48, .inl (fun _ => nI 0))), (q_13, .inl (c_13, 48, .inl (fun _ => nI 0)))] := hD
  refine lv_aload_n F.1 F.2.1 dX0_init_69 rfl (lv_at hl 0 rfl) ?_
  refine lv_sipush (v := nI 640) F.1 F.2.1 dX0_init_70 (by decide) ?_
  refine va_newa (atype := .byte) (ty := .byte) (n := nI 640) (N' := 640) (a0 := (640, .inl (fun _ => nI 0))) F.1 F.2.1 (hts _ q103) rfl hK hP hD hS hA (fun _ => rfl) (by decide) (by decide) (by decide) (Nat.le_of_ble_eq_true rfl) (Nat.le_of_ble_eq_true rfl) dX0_init_73 (fun q_15 c_15 H hK hP hD hS => ?_)
  refine W.widen (k := 9) (n := 1163) (Nat.le_refl _) (Nat.le_refl _) ?_
  have hK : va_K g vwCl [(c_1, .byte), (c_2, .int), (c_3, .int), (c_4, .int), (c_9, .short), (c_11, .short), (c_12, .byte), (c_13, .byte), (c_15, .byte)] s := hK
  have hP : va_P g vwCl [(h0, .inr (0, [.int (nI 0), .ref q_1, .ref q_2, .ref q_3, .ref q_4, .int (nI 0), .int (nI 0), .int (nI 0), .int (nI 0), .ref q_9, .int (nI 0), .ref q_11, .ref q_12, .ref q_13, .int (nI 0), .null, .null, .null, .null, .int (nI 0), .null])), (q_1, .inl (c_1, 32, .inl (fun _ => nI 0))), (q_2, .inl (c_2, 32, .inl (fun _ => 0))), (q_3, .inl (c_3, 8, .inl (fun _ => 0))), (q_4, .inl (c_4, 10, .inl (fun _ => 0))), (q_9, .inl (c_9, 297, .inl (fun _ => 0))), (q_11, .inl (c_11, 48, .inl (fun _ => nI 0))), (q_12, .inl (c_12, 48, .inl (fun _ => nI 0))), (q_13, .inl (c_13, 48, .inl (fun _ => nI 0))), (q_15, .inl (c_15, 640, .inl (fun _ => nI 0)))] H := hP
  have hD : va_D A [(h0, .inr (0, [.int (nI 0), .ref q_1, .ref q_2, .ref q_3, .ref q_4, .int (nI 0), .int (nI 0), .int (nI 0), .int (nI 0), .ref q_9, .int (nI 0), .ref q_11, .ref q_12, .ref q_13, .int (nI 0), .null, .null, .null, .null, .int (nI 0), .null])), (q_1, .inl (c_1, 32, .inl (fun _ => nI 0))), (q_2, .inl (c_2, 32, .inl (fun _ => 0))), (q_3, .inl (c_3, 8, .inl (fun _ => 0))), (q_4, .inl (c_4, 10, .inl (fun _ => 0))), (q_9, .inl (c_9, 297, .inl (fun _ => 0))), (q_11, .inl (c_11, 48, .inl (fun _ => nI 0))), (q_12, .inl (c_12, 48, .inl (fun _ => nI 0))), (q_13, .inl (c_13, 48, .inl (fun _ => nI 0))), (q_15, .inl (c_15, 640, .inl (fun _ => nI 0)))] := hD
  refine va_putF (D := g) (ci := 0) (v := .ref q_15) (ty := .array .byte) (C := RX0) (T := TX0) (N := 21) (ref := RX0) F.1 F.2.1 hts in_X0 tyX0 tyX0_ok nmX0 hown hK hP hD hS 0 rfl rfl 15 (by decide) (hts _ q54) (fun _ h9 => h9) rfl hin rfl (by decide +kernel) rfl rfl (Nat.le_of_ble_eq_true rfl) dX0_init_75 (fun H locs hP hD hS => ?_)
  have hP : va_P g vwCl [(h0, .inr (0, [.int (nI 0), .ref q_1, .ref q_2, .ref q_3, .ref q_4, .int (nI 0), .int (nI 0), .int (nI 0), .int (nI 0), .ref q_9, .int (nI 0), .ref q_11, .ref q_12, .ref q_13, .int (nI 0), .ref q_15, .null, .null, .null, .int (nI 0), .null])), (q_1, .inl (c_1, 32, .inl (fun _ => nI 0))), (q_2, .inl (c_2, 32, .inl (fun _ => 0))), (q_3, .inl (c_3, 8, .inl (fun _ => 0))), (q_4, .inl (c_4, 10, .inl (fun _ => 0))), (q_9, .inl (c_9, 297, .inl (fun _ => 0))), (q_11, .inl (c_11, 48, .inl (fun _ => nI 0))), (q_12, .inl (c_12, 48, .inl (fun _ => nI 0))), (q_13, .inl (c_13, 48, .inl (fun _ => nI 0))), (q_15, .inl (c_15, 640, .inl (fun _ => nI 0)))] H := hP
  have hD : va_D A [(h0, .inr (0, [.int (nI 0), .ref q_1, .ref q_2, .ref q_3, .ref q_4, .int (nI 0), .int (nI 0), .int (nI 0), .int (nI 0), .ref q_9, .int (nI 0), .ref q_11, .ref q_12, .ref q_13, .int (nI 0), .ref q_15, .null, .null, .null, .int (nI 0), .null])), (q_1, .inl (c_1, 32, .inl (fun _ => nI 0))), (q_2, .inl (c_2, 32, .inl (fun _ => 0))), (q_3, .inl (c_3, 8, .inl (fun _ => 0))), (q_4, .inl (c_4, 10, .inl (fun _ => 0))), (q_9, .inl (c_9, 297, .inl (fun _ => 0))), (q_11, .inl (c_11, 48, .inl (fun _ => nI 0))), (q_12, .inl (c_12, 48, .inl (fun _ => nI 0))), (q_13, .inl (c_13, 48, .inl (fun _ => nI 0))), (q_15, .inl (c_15, 640, .inl (fun _ => nI 0)))] := hD
  refine lv_aload_n F.1 F.2.1 dX0_init_78 rfl (lv_at hl 0 rfl) ?_
  refine lv_sipush (v := nI 640) F.1 F.2.1 dX0_init_79 (by decide) ?_
  refine va_newa (atype := .byte) (ty := .byte) (n := nI 640) (N' := 640) (a0 := (640, .inl (fun _ => nI 0))) F.1 F.2.1 (hts _ q103) rfl hK hP hD hS hA (fun _ => rfl) (by decide) (by decide) (by decide) (Nat.le_of_ble_eq_true rfl) (Nat.le_of_ble_eq_true rfl) dX0_init_82 (fun q_16 c_16 H hK hP hD hS => ?_)
  refine W.widen (k := 10) (n := 1803) (Nat.le_refl _) (Nat.le_refl _) ?_
  have hK : va_K g vwCl [(c_1, .byte), (c_2, .int), (c_3, .int), (c_4, .int), (c_9, .short), (c_11, .short), (c_12, .byte), (c_13, .byte), (c_15, .byte), (c_16, .byte)] s := hK
  have hP : va_P g vwCl [(h0, .inr (0, [.int (nI 0), .ref q_1, .ref q_2, .ref q_3, .ref q_4, .int (nI 0), .int (nI 0), .int (nI 0), .int (nI 0), .ref q_9, .int (nI 0), .ref q_11, .ref q_12, .ref q_13, .int (nI 0), .ref q_15, .null, .null, .null, .int (nI 0), .null])), (q_1, .inl (c_1, 32, .inl (fun _ => nI 0))), (q_2, .inl (c_2, 32, .inl (fun _ => 0))), (q_3, .inl (c_3, 8, .inl (fun _ => 0))), (q_4, .inl (c_4, 10, .inl (fun _ => 0))), (q_9, .inl (c_9, 297, .inl (fun _ => 0))), (q_11, .inl (c_11, 48, .inl (fun _ => nI 0))), (q_12, .inl (c_12, 48, .inl (fun _ => nI 0))), (q_13, .inl (c_13, 48, .inl (fun _ => nI 0))), (q_15, .inl (c_15, 640, .inl (fun _ => nI 0))), (q_16, .inl (c_16, 640, .inl (fun _ => nI 0)))] H := hP
  have hD : va_D A [(h0, .inr (0, [.int (nI 0), .ref q_1, .ref q_2, .ref q_3, .ref q_4, .int (nI 0), .int (nI 0), .int (nI 0), .int (nI 0), .ref q_9, .int (nI 0), .ref q_11, .ref q_12, .ref q_13, .int (nI 0), .ref q_15, .null, .null, .null, .int (nI 0), .null])), (q_1, .inl (c_1, 32, .inl (fun _ => nI 0))), (q_2, .inl (c_2, 32, .inl (fun _ => 0))), (q_3, .inl (c_3, 8, .inl (fun _ => 0))), (q_4, .inl (c_4, 10, .inl (fun _ => 0))), (q_9, .inl (c_9, 297, .inl (fun _ => 0))), (q_11, .inl (c_11, 48, .inl (fun _ => nI 0))), (q_12, .inl (c_12, 48, .inl (fun _ => nI 0))), (q_13, .inl (c_13, 48, .inl (fun _ => nI 0))), (q_15, .inl (c_15, 640, .inl (fun _ => nI 0))), (q_16, .inl (c_16, 640, .inl (fun _ => nI 0)))] := hD
  refine va_putF (D := g) (ci := 0) (v := .ref q_16) (ty := .array .byte) (C := RX0) (T := TX0) (N := 21) (ref := RX0) F.1 F.2.1 hts in_X0 tyX0 tyX0_ok nmX0 hown hK hP hD hS 0 rfl rfl 16 (by decide) (hts _ q55) (fun _ h9 => h9) rfl hin rfl (by decide +kernel) rfl rfl (Nat.le_of_ble_eq_true rfl) dX0_init_84 (fun H locs hP hD hS => ?_)
  have hP : va_P g vwCl [(h0, .inr (0, [.int (nI 0), .ref q_1, .ref q_2, .ref q_3, .ref q_4, .int (nI 0), .int (nI 0), .int (nI 0), .int (nI 0), .ref q_9, .int (nI 0), .ref q_11, .ref q_12, .ref q_13, .int (nI 0), .ref q_15, .ref q_16, .null, .null, .int (nI 0), .null])), (q_1, .inl (c_1, 32, .inl (fun _ => nI 0))), (q_2, .inl (c_2, 32, .inl (fun _ => 0))), (q_3, .inl (c_3, 8, .inl (fun _ => 0))), (q_4, .inl (c_4, 10, .inl (fun _ => 0))), (q_9, .inl (c_9, 297, .inl (fun _ => 0))), (q_11, .inl (c_11, 48, .inl (fun _ => nI 0))), (q_12, .inl (c_12, 48, .inl (fun _ => nI 0))), (q_13, .inl (c_13, 48, .inl (fun _ => nI 0))), (q_15, .inl (c_15, 640, .inl (fun _ => nI 0))), (q_16, .inl (c_16, 640, .inl (fun _ => nI 0)))] H := hP
  have hD : va_D A [(h0, .inr (0, [.int (nI 0), .ref q_1, .ref q_2, .ref q_3, .ref q_4, .int (nI 0), .int (nI 0), .int (nI 0), .int (nI 0), .ref q_9, .int (nI 0), .ref q_11, .ref q_12, .ref q_13, .int (nI 0), .ref q_15, .ref q_16, .null, .null, .int (nI 0), .null])), (q_1, .inl (c_1, 32, .inl (fun _ => nI 0))), (q_2, .inl (c_2, 32, .inl (fun _ => 0))), (q_3, .inl (c_3, 8, .inl (fun _ => 0))), (q_4, .inl (c_4, 10, .inl (fun _ => 0))), (q_9, .inl (c_9, 297, .inl (fun _ => 0))), (q_11, .inl (c_11, 48, .inl (fun _ => nI 0))), (q_12, .inl (c_12, 48, .inl (fun _ => nI 0))), (q_13, .inl (c_13, 48, .inl (fun _ => nI 0))), (q_15, .inl (c_15, 640, .inl (fun _ => nI 0))), (q_16, .inl (c_16, 640, .inl (fun _ => nI 0)))] := hD
  refine lv_aload_n F.1 F.2.1 dX0_init_87 rfl (lv_at hl 0 rfl) ?_
  refine lv_sipush (v := nI 640) F.1 F.2.1 dX0_init_88 (by decide) ?_
  refine va_newa (atype := .byte) (ty := .byte) (n := nI 640) (N' := 640) (a0 := (640, .inl (fun _ => nI 0))) F.1 F.2.1 (hts _ q103) rfl hK hP hD hS hA (fun _ => rfl) (by decide) (by decide) (by decide) (Nat.le_of_ble_eq_true rfl) (Nat.le_of_ble_eq_true rfl) dX0_init_91 (fun q_17 c_17 H hK hP hD hS => ?_)
  refine W.widen (k := 11) (n := 2443) (Nat.le_refl _) (Nat.le_refl _) ?_
  have hK : va_K g vwCl [(c_1, .byte), (c_2, .int), (c_3, .int), (c_4, .int), (c_9, .short), (c_11, .short), (c_12, .byte), (c_13, .byte), (c_15, .byte), (c_16, .byte), (c_17, .byte)] s := hK
  have hP : va_P g vwCl [(h0, .inr (0, [.int (nI 0), .ref q_1, .ref q_2, .ref q_3, .ref q_4, .int (nI 0), .int (nI 0), .int (nI 0), .int (nI 0), .ref q_9, .int (nI 0), .ref q_11, .ref q_12, .ref q_13, .int (nI 0), .ref q_15, .ref q_16, .null, .null, .int (nI 0), .null])), (q_1, .inl (c_1, 32, .inl (fun _ => nI 0))), (q_2, .inl (c_2, 32, .inl (fun _ => 0))), (q_3, .inl (c_3, 8, .inl (fun _ => 0))), (q_4, .inl (c_4, 10, .inl (fun _ => 0))), (q_9, .inl (c_9, 297, .inl (fun _ => 0))), (q_11, .inl (c_11, 48, .inl (fun _ => nI 0))), (q_12, .inl (c_12, 48, .inl (fun _ => nI 0))), (q_13, .inl (c_13, 48, .inl (fun _ => nI 0))), (q_15, .inl (c_15, 640, .inl (fun _ => nI 0))), (q_16, .inl (c_16, 640, .inl (fun _ => nI 0))), (q_17, .inl (c_17, 640, .inl (fun _ => nI 0)))] H := hP
  have hD : va_D A [(h0, .inr (0, [.int (nI 0), .ref q_1, .ref q_2, .ref q_3, .ref q_4, .int (nI 0), .int (nI 0), .int (nI 0), .int (nI 0), .ref q_9, .int (nI 0), .ref q_11, .ref q_12, .ref q_13, .int (nI 0), .ref q_15, .ref q_16, .null, .null, .int (nI 0), .null])), (q_1, .inl (c_1, 32, .inl (fun _ => nI 0))), (q_2, .inl (c_2, 32, .inl (fun _ => 0))), (q_3, .inl (c_3, 8, .inl (fun _ => 0))), (q_4, .inl (c_4, 10, .inl (fun _ => 0))), (q_9, .inl (c_9, 297, .inl (fun _ => 0))), (q_11, .inl (c_11, 48, .inl (fun _ => nI 0))), (q_12, .inl (c_12, 48, .inl (fun _ => nI 0))), (q_13, .inl (c_13, 48, .inl (fun _ => nI 0))), (q_15, .inl (c_15, 640, .inl (fun _ => nI 0))), (q_16, .inl (c_16, 640, .inl (fun _ => nI 0))), (q_17, .inl (c_17, 640, .inl (fun _ => nI 0)))] := hD
  refine va_putF (D := g) (ci := 0) (v := .ref q_17) (ty := .array .byte) (C := RX0) (T := TX0) (N := 21) (ref := RX0) F.1 F.2.1 hts in_X0 tyX0 tyX0_ok nmX0 hown hK hP hD hS 0 rfl rfl 17 (by decide) (hts _ q56) (fun _ h9 => h9) rfl hin rfl (by decide +kernel) rfl rfl (Nat.le_of_ble_eq_true rfl) dX0_init_93 (fun H locs hP hD hS => ?_)
  have hP : va_P g vwCl [(h0, .inr (0, [.int (nI 0), .ref q_1, .ref q_2, .ref q_3, .ref q_4, .int (nI 0), .int (nI 0), .int (nI 0), .int (nI 0), .ref q_9, .int (nI 0), .ref q_11, .ref q_12, .ref q_13, .int (nI 0), .ref q_15, .ref q_16, .ref q_17, .null, .int (nI 0), .null])), (q_1, .inl (c_1, 32, .inl (fun _ => nI 0))), (q_2, .inl (c_2, 32, .inl (fun _ => 0))), (q_3, .inl (c_3, 8, .inl (fun _ => 0))), (q_4, .inl (c_4, 10, .inl (fun _ => 0))), (q_9, .inl (c_9, 297, .inl (fun _ => 0))), (q_11, .inl (c_11, 48, .inl (fun _ => nI 0))), (q_12, .inl (c_12, 48, .inl (fun _ => nI 0))), (q_13, .inl (c_13, 48, .inl (fun _ => nI 0))), (q_15, .inl (c_15, 640, .inl (fun _ => nI 0))), (q_16, .inl (c_16, 640, .inl (fun _ => nI 0))), (q_17, .inl (c_17, 640, .inl (fun _ => nI 0)))] H := hP
  have hD : va_D A [(h0, .inr (0, [.int (nI 0), .ref q_1, .ref q_2, .ref q_3, .ref q_4, .int (nI 0), .int (nI 0), .int (nI 0), .int (nI 0), .ref q_9, .int (nI 0), .ref q_11, .ref q_12, .ref q_13, .int (nI 0), .ref q_15, .ref q_16, .ref q_17, .null, .int (nI 0), .null])), (q_1, .inl (c_1, 32, .inl (fun _ => nI 0))), (q_2, .inl (c_2, 32, .inl (fun _ => 0))), (q_3, .inl (c_3, 8, .inl (fun _ => 0))), (q_4, .inl (c_4, 10, .inl (fun _ => 0))), (q_9, .inl (c_9, 297, .inl (fun _ => 0))), (q_11, .inl (c_11, 48, .inl (fun _ => nI 0))), (q_12, .inl (c_12, 48, .inl (fun _ => nI 0))), (q_13, .inl (c_13, 48, .inl (fun _ => nI 0))), (q_15, .inl (c_15, 640, .inl (fun _ => nI 0))), (q_16, .inl (c_16, 640, .inl (fun _ => nI 0))), (q_17, .inl (c_17, 640, .inl (fun _ => nI 0)))] := hD
  refine lv_aload_n F.1 F.2.1 dX0_init_96 rfl (lv_at hl 0 rfl) ?_
  refine lv_sipush (v := nI 640) F.1 F.2.1 dX0_init_97 (by decide) ?_
  refine va_newa (atype := .int) (ty := .int) (n := nI 640) (N' := 640) (a0 := (640, .inl (fun _ => 0))) F.1 F.2.1 (hts _ q104) rfl hK hP hD hS hA (fun _ => rfl) (by decide) (by decide) (by decide) (Nat.le_of_ble_eq_true rfl) (Nat.le_of_ble_eq_true rfl) dX0_init_100 (fun q_18 c_18 H hK hP hD hS => ?_)
  refine W.widen (k := 12) (n := 3083) (Nat.le_refl _) (Nat.le_refl _) ?_
  have hK : va_K g vwCl [(c_1, .byte), (c_2, .int), (c_3, .int), (c_4, .int), (c_9, .short), (c_11, .short), (c_12, .byte), (c_13, .byte), (c_15, .byte), (c_16, .byte), (c_17, .byte), (c_18, .int)] s := hK
  have hP : va_P g vwCl [(h0, .inr (0, [.int (nI 0), .ref q_1, .ref q_2, .ref q_3, .ref q_4, .int (nI 0), .int (nI 0), .int (nI 0), .int (nI 0), .ref q_9, .int (nI 0), .ref q_11, .ref q_12, .ref q_13, .int (nI 0), .ref q_15, .ref q_16, .ref q_17, .null, .int (nI 0), .null])), (q_1, .inl (c_1, 32, .inl (fun _ => nI 0))), (q_2, .inl (c_2, 32, .inl (fun _ => 0))), (q_3, .inl (c_3, 8, .inl (fun _ => 0))), (q_4, .inl (c_4, 10, .inl (fun _ => 0))), (q_9, .inl (c_9, 297, .inl (fun _ => 0))), (q_11, .inl (c_11, 48, .inl (fun _ => nI 0))), (q_12, .inl (c_12, 48, .inl (fun _ => nI 0))), (q_13, .inl (c_13, 48, .inl (fun _ => nI 0))), (q_15, .inl (c_15, 640, .inl (fun _ => nI 0))), (q_16, .inl (c_16, 640, .inl (fun _ => nI 0))), (q_17, .inl (c_17, 640, .inl (fun _ => nI 0))), (q_18, .inl (c_18, 640, .inl (fun _ => 0)))] H := hP
  have hD : va_D A [(h0, .inr (0, [.int (nI 0), .ref q_1, .ref q_2, .ref q_3, .ref q_4, .int (nI 0), .int (nI 0), .int (nI 0), .int (nI 0), .ref q_9, .int (nI 0), .ref q_11, .ref q_12, .ref q_13, .int (nI 0), .ref q_15, .ref q_16, .ref q_17, .null, .int (nI 0), .null])), (q_1, .inl (c_1, 32, .inl (fun _ => nI 0))), (q_2, .inl (c_2, 32, .inl (fun _ => 0))), (q_3, .inl (c_3, 8, .inl (fun _ => 0))), (q_4, .inl (c_4, 10, .inl (fun _ => 0))), (q_9, .inl (c_9, 297, .inl (fun _ => 0))), (q_11, .inl (c_11, 48, .inl (fun _ => nI 0))), (q_12, .inl (c_12, 48, .inl (fun _ => nI 0))), (q_13, .inl (c_13, 48, .inl (fun _ => nI 0))), (q_15, .inl (c_15, 640, .inl (fun _ => nI 0))), (q_16, .inl (c_16, 640, .inl (fun _ => nI 0))), (q_17, .inl (c_17, 640, .inl (fun _ => nI 0))), (q_18, .inl (c_18, 640, .inl (fun _ => 0)))] := hD
  refine va_putF (D := g) (ci := 0) (v := .ref q_18) (ty := .array .int) (C := RX0) (T := TX0) (N := 21) (ref := RX0) F.1 F.2.1 hts in_X0 tyX0 tyX0_ok nmX0 hown hK hP hD hS 0 rfl rfl 18 (by decide) (hts _ q57) (fun _ h9 => h9) rfl hin rfl (by decide +kernel) rfl rfl (Nat.le_of_ble_eq_true rfl) dX0_init_102 (fun H locs hP hD hS => ?_)
  have hP : va_P g vwCl [(h0, .inr (0, [.int (nI 0), .ref q_1, .ref q_2, .ref q_3, .ref q_4, .int (nI 0), .int (nI 0), .int (nI 0), .int (nI 0), .ref q_9, .int (nI 0), .ref q_11, .ref q_12, .ref q_13, .int (nI 0), .ref q_15, .ref q_16, .ref q_17, .ref q_18, .int (nI 0), .null])), (q_1, .inl (c_1, 32, .inl (fun _ => nI 0))), (q_2, .inl (c_2, 32, .inl (fun _ => 0))), (q_3, .inl (c_3, 8, .inl (fun _ => 0))), (q_4, .inl (c_4, 10, .inl (fun _ => 0))), (q_9, .inl (c_9, 297, .inl (fun _ => 0))), (q_11, .inl (c_11, 48, .inl (fun _ => nI 0))), (q_12, .inl (c_12, 48, .inl (fun _ => nI 0))), (q_13, .inl (c_13, 48, .inl (fun _ => nI 0))), (q_15, .inl (c_15, 640, .inl (fun _ => nI 0))), (q_16, .inl (c_16, 640, .inl (fun _ => nI 0))), (q_17, .inl (c_17, 640, .inl (fun _ => nI 0))), (q_18, .inl (c_18, 640, .inl (fun _ => 0)))] H := hP
  have hD : va_D A [(h0, .inr (0, [.int (nI 0), .ref q_1, .ref q_2, .ref q_3, .ref q_4, .int (nI 0), .int (nI 0), .int (nI 0), .int (nI 0), .ref q_9, .int (nI 0), .ref q_11, .ref q_12, .ref q_13, .int (nI 0), .ref q_15, .ref q_16, .ref q_17, .ref q_18, .int (nI 0), .null])), (q_1, .inl (c_1, 32, .inl (fun _ => nI 0))), (q_2, .inl (c_2, 32, .inl (fun _ => 0))), (q_3, .inl (c_3, 8, .inl (fun _ => 0))), (q_4, .inl (c_4, 10, .inl (fun _ => 0))), (q_9, .inl (c_9, 297, .inl (fun _ => 0))), (q_11, .inl (c_11, 48, .inl (fun _ => nI 0))), (q_12, .inl (c_12, 48, .inl (fun _ => nI 0))), (q_13, .inl (c_13, 48, .inl (fun _ => nI 0))), (q_15, .inl (c_15, 640, .inl (fun _ => nI 0))), (q_16, .inl (c_16, 640, .inl (fun _ => nI 0))), (q_17, .inl (c_17, 640, .inl (fun _ => nI 0))), (q_18, .inl (c_18, 640, .inl (fun _ => 0)))] := hD
  refine lv_aload_n F.1 F.2.1 dX0_init_105 rfl (lv_at hl 0 rfl) ?_
  refine lv_bipush (v := nI 8) F.1 F.2.1 dX0_init_106 (by decide) ?_
  refine va_newa (atype := .byte) (ty := .byte) (n := nI 8) (N' := 8) (a0 := (8, .inl (fun _ => nI 0))) F.1 F.2.1 (hts _ q103) rfl hK hP hD hS hA (fun _ => rfl) (by decide) (by decide) (by decide) (Nat.le_of_ble_eq_true rfl) (Nat.le_of_ble_eq_true rfl) dX0_init_108 (fun q_20 c_20 H hK hP hD hS => ?_)
  refine W.widen (k := 13) (n := 3091) (Nat.le_refl _) (Nat.le_refl _) ?_
  have hK : va_K g vwCl [(c_1, .byte), (c_2, .int), (c_3, .int), (c_4, .int), (c_9, .short), (c_11, .short), (c_12, .byte), (c_13, .byte), (c_15, .byte), (c_16, .byte), (c_17, .byte), (c_18, .int), (c_20, .byte)] s := hK
  have hP : va_P g vwCl [(h0, .inr (0, [.int (nI 0), .ref q_1, .ref q_2, .ref q_3, .ref q_4, .int (nI 0), .int (nI 0), .int (nI 0), .int (nI 0), .ref q_9, .int (nI 0), .ref q_11, .ref q_12, .ref q_13, .int (nI 0), .ref q_15, .ref q_16, .ref q_17, .ref q_18, .int (nI 0), .null])), (q_1, .inl (c_1, 32, .inl (fun _ => nI 0))), (q_2, .inl (c_2, 32, .inl (fun _ => 0))), (q_3, .inl (c_3, 8, .inl (fun _ => 0))), (q_4, .inl (c_4, 10, .inl (fun _ => 0))), (q_9, .inl (c_9, 297, .inl (fun _ => 0))), (q_11, .inl (c_11, 48, .inl (fun _ => nI 0))), (q_12, .inl (c_12, 48, .inl (fun _ => nI 0))), (q_13, .inl (c_13, 48, .inl (fun _ => nI 0))), (q_15, .inl (c_15, 640, .inl (fun _ => nI 0))), (q_16, .inl (c_16, 640, .inl (fun _ => nI 0))), (q_17, .inl (c_17, 640, .inl (fun _ => nI 0))), (q_18, .inl (c_18, 640, .inl (fun _ => 0))), (q_20, .inl (c_20, 8, .inl (fun _ => nI 0)))] H := hP
  have hD : va_D A [(h0, .inr (0, [.int (nI 0), .ref q_1, .ref q_2, .ref q_3, .ref q_4, .int (nI 0), .int (nI 0), .int (nI 0), .int (nI 0), .ref q_9, .int (nI 0), .ref q_11, .ref q_12, .ref q_13, .int (nI 0), .ref q_15, .ref q_16, .ref q_17, .ref q_18, .int (nI 0), .null])), (q_1, .inl (c_1, 32, .inl (fun _ => nI 0))), (q_2, .inl (c_2, 32, .inl (fun _ => 0))), (q_3, .inl (c_3, 8, .inl (fun _ => 0))), (q_4, .inl (c_4, 10, .inl (fun _ => 0))), (q_9, .inl (c_9, 297, .inl (fun _ => 0))), (q_11, .inl (c_11, 48, .inl (fun _ => nI 0))), (q_12, .inl (c_12, 48, .inl (fun _ => nI 0))), (q_13, .inl (c_13, 48, .inl (fun _ => nI 0))), (q_15, .inl (c_15, 640, .inl (fun _ => nI 0))), (q_16, .inl (c_16, 640, .inl (fun _ => nI 0))), (q_17, .inl (c_17, 640, .inl (fun _ => nI 0))), (q_18, .inl (c_18, 640, .inl (fun _ => 0))), (q_20, .inl (c_20, 8, .inl (fun _ => nI 0)))] := hD
  refine va_putF (D := g) (ci := 0) (v := .ref q_20) (ty := .array .byte) (C := RX0) (T := TX0) (N := 21) (ref := RX0) F.1 F.2.1 hts in_X0 tyX0 tyX0_ok nmX0 hown hK hP hD hS 0 rfl rfl 20 (by decide) (hts _ q59) (fun _ h9 => h9) rfl hin rfl (by decide +kernel) rfl rfl (Nat.le_of_ble_eq_true rfl) dX0_init_110 (fun H locs hP hD hS => ?_)
  have hP : va_P g vwCl [(h0, .inr (0, [.int (nI 0), .ref q_1, .ref q_2, .ref q_3, .ref q_4, .int (nI 0), .int (nI 0), .int (nI 0), .int (nI 0), .ref q_9, .int (nI 0), .ref q_11, .ref q_12, .ref q_13, .int (nI 0), .ref q_15, .ref q_16, .ref q_17, .ref q_18, .int (nI 0), .ref q_20])), (q_1, .inl (c_1, 32, .inl (fun _ => nI 0))), (q_2, .inl (c_2, 32, .inl (fun _ => 0))), (q_3, .inl (c_3, 8, .inl (fun _ => 0))), (q_4, .inl (c_4, 10, .inl (fun _ => 0))), (q_9, .inl (c_9, 297, .inl (fun _ => 0))), (q_11, .inl (c_11, 48, .inl (fun _ => nI 0))), (q_12, .inl (c_12, 48, .inl (fun _ => nI 0))), (q_13, .inl (c_13, 48, .inl (fun _ => nI 0))), (q_15, .inl (c_15, 640, .inl (fun _ => nI 0))), (q_16, .inl (c_16, 640, .inl (fun _ => nI 0))), (q_17, .inl (c_17, 640, .inl (fun _ => nI 0))), (q_18, .inl (c_18, 640, .inl (fun _ => 0))), (q_20, .inl (c_20, 8, .inl (fun _ => nI 0)))] H := hP
  have hD : va_D A [(h0, .inr (0, [.int (nI 0), .ref q_1, .ref q_2, .ref q_3, .ref q_4, .int (nI 0), .int (nI 0), .int (nI 0), .int (nI 0), .ref q_9, .int (nI 0), .ref q_11, .ref q_12, .ref q_13, .int (nI 0), .ref q_15, .ref q_16, .ref q_17, .ref q_18, .int (nI 0), .ref q_20])), (q_1, .inl (c_1, 32, .inl (fun _ => nI 0))), (q_2, .inl (c_2, 32, .inl (fun _ => 0))), (q_3, .inl (c_3, 8, .inl (fun _ => 0))), (q_4, .inl (c_4, 10, .inl (fun _ => 0))), (q_9, .inl (c_9, 297, .inl (fun _ => 0))), (q_11, .inl (c_11, 48, .inl (fun _ => nI 0))), (q_12, .inl (c_12, 48, .inl (fun _ => nI 0))), (q_13, .inl (c_13, 48, .inl (fun _ => nI 0))), (q_15, .inl (c_15, 640, .inl (fun _ => nI 0))), (q_16, .inl (c_16, 640, .inl (fun _ => nI 0))), (q_17, .inl (c_17, 640, .inl (fun _ => nI 0))), (q_18, .inl (c_18, 640, .inl (fun _ => 0))), (q_20, .inl (c_20, 8, .inl (fun _ => nI 0)))] := hD
  refine lv_aload_n F.1 F.2.1 dX0_init_113 rfl (lv_at hl 0 rfl) ?_
  have hI : xI g (pkL [h0, q_1, q_2, q_3, q_4, 0, 0, 0, 0, q_9, 0, q_11, q_12, q_13, 0, q_15, q_16, q_17, q_18, 0, q_20]) (pkL [0, c_1, c_2, c_3, c_4, 0, 0, 0, 0, c_9, 0, c_11, c_12, c_13, 0, c_15, c_16, c_17, c_18, 0, c_20]) A s u0 H locs := ⟨hK, hP, hD, hS⟩
  refine x_callv (n := 0) (rest := []) (av := []) F hI (metX0_forgetBlocks l g _ _ A u0) (lw_V q35 q37 qs0 q25 q38) (by decide +kernel) ⟨Nat.le_of_ble_eq_true rfl, Nat.le_of_ble_eq_true rfl⟩ ⟨rfl, rfl⟩ ⟨Nat.le_of_ble_eq_true rfl, Nat.le_of_ble_eq_true rfl⟩ rfl hl.1 rfl (Nat.le_of_ble_eq_true rfl) dX0_init_114 (fun u2 H locs hp hI => ?_)
  exact W.vret F.1 F.2.1 hr (fun t ht hW => ⟨⟨(pkL [h0, q_1, q_2, q_3, q_4, 0, 0, 0, 0, q_9, 0, q_11, q_12, q_13, 0, q_15, q_16, q_17, q_18, 0, q_20], pkL [0, c_1, c_2, c_3, c_4, 0, 0, 0, 0, c_9, 0, c_11, c_12, c_13, 0, c_15, c_16, c_17, c_18, 0, c_20], u2), rfl, ⟨rfl, hp⟩, x_end hI ht hW⟩, hI.2.2.2.F ht⟩) hI.2.2.2.2.2 dX0_init_117 hlk
end
section
/-! THE LAW's RELATION, pure: the object and the reference answer alike -/
set_option maxRecDepth 100000
def LR (u w : XS) : Prop := w.1 0 = u.1 0 ∧ w.2.1 1 = u.2.1 1 ∧ w.2.2 2 = u.2.2 2 ∧ pOK (u.1 0) (u.2.1 1) (u.2.2 2) ∧ cOK u ∧ tOK (abX u) ∧ eqT (abX u) (abM w)
theorem LR_0 {u : XS} (h : fgP u0 u) : LR u u0 := by
  obtain ⟨hc, hf, -, -⟩ := h.c
  have ha := hf.ab
  obtain ⟨a1, -, -, -, -, a6, a7, -, -⟩ := hf
  refine ⟨a1.symm, a6.symm, a7.symm, ?_, hc, by rw [ha]; exact ⟨Nat.zero_le _, Nat.zero_le _, Nat.zero_le _⟩, by rw [ha]; exact ⟨rfl, fun i hi => absurd hi (Nat.not_lt_zero i), fun _ _ => rfl, rfl⟩⟩
  rw [a1, a6, a7]
  exact ⟨Nat.zero_le _, fun i hi => absurd hi (Nat.not_lt_zero i)⟩
theorem vI_vOK {k : Nat} {a : Int32} (h : vI (nI k) a) (hk : k ≤ 13) : vOK k a := by
  refine ⟨hk, ?_⟩
  unfold vI at h
  rw [nI_toInt (by omega)] at h
  by_cases q : k = 0 ∨ k = 13
  · exact q.elim Or.inl (fun z => Or.inr (Or.inl z))
  · obtain ⟨j, rfl, h2, -⟩ := n_of a (by omega)
    rw [← h2] at h
    exact Or.inr (Or.inr ⟨j, rfl, by omega, fun _ => by omega, fun _ _ => by omega⟩)
theorem pOK_add {L k : Nat} {O : Nat → Nat} {N : Nat → Int32} {a : Int32} (h : pOK L O N) (hL : L < 32) (hv : vOK k a) : pOK (L + 1) (va_up O L k) (upd N L a) := by
  refine ⟨by omega, fun i hi => ?_⟩
  by_cases e : i = L
  · subst e; rw [vu_eq, upd_eq]; exact hv
  · rw [vu_ne _ _ e, upd_ne _ _ e]; exact h.2 i (by omega)
theorem pOK_set {L k q : Nat} {O : Nat → Nat} {N : Nat → Int32} {a : Int32} (h : pOK L O N) (hv : vOK k a) : pOK L (va_up O q k) (upd N q a) := by
  refine ⟨h.1, fun i hi => ?_⟩
  by_cases e : i = q
  · subst e; rw [vu_eq, upd_eq]; exact hv
  · rw [vu_ne _ _ e, upd_ne _ _ e]; exact h.2 i hi
theorem nI_inj {a b : Nat} (ha : a ≤ 64) (hb : b ≤ 64) (h : nI a = nI b) : a = b := (nI_eq (by omega) (by omega)).mp h
/-- a new program: what is kept -/
theorem LR_prog {u w u' u2 w2 : XS} (h : LR u w) (hf : fgP u' u2) (hp : pOK (u'.1 0) (u'.2.1 1) (u'.2.2 2)) (ha : abX u' = abX u) (hm : abM w2 = abM w) (e0 : w2.1 0 = u'.1 0) (eO : w2.2.1 1 = u'.2.1 1) (eN : w2.2.2 2 = u'.2.2 2) : LR u2 w2 := by
  obtain ⟨-, -, -, -, -, ht, he⟩ := h
  obtain ⟨hc, hfr, -, -⟩ := hf.c
  have hab := hfr.ab
  obtain ⟨a1, -, -, -, -, a6, a7, -, -⟩ := hfr
  refine ⟨by rw [a1, e0], by rw [a6, eO], by rw [a7, eN], by rw [a1, a6, a7]; exact hp, hc, by rw [hab, ha]; exact ht, by rw [hab, ha, hm]; exact he⟩
theorem LR_emit {u w u2 w2 : XS} {o a r1 r2 : Int32} (h : LR u w)
    (p1 : (32 ≤ u.1 0 ∧ r1 = -2 ∧ u2 = u) ∨ (u.1 0 < 32 ∧ ¬ vI o a ∧ r1 = -1 ∧ u2 = u) ∨ (u.1 0 < 32 ∧ vI o a ∧ ∃ k : Nat, k ≤ 13 ∧ o = nI k ∧ fgP (xs (xz (xn u 1 (u.1 0) k) 2 (u.1 0) a) 0 (u.1 0 + 1)) u2 ∧ r1 = nI (u.1 0 + 1)))
    (p2 : (32 ≤ w.1 0 ∧ r2 = -2 ∧ w2 = w) ∨ (w.1 0 < 32 ∧ ¬ vI o a ∧ r2 = -1 ∧ w2 = w) ∨ (w.1 0 < 32 ∧ vI o a ∧ ∃ k : Nat, k ≤ 13 ∧ o = nI k ∧ w2 = xs (xz (xn w 1 (w.1 0) k) 2 (w.1 0) a) 0 (w.1 0 + 1) ∧ r2 = nI (w.1 0 + 1))) : r1 = r2 ∧ LR u2 w2 := by
  have e0 := h.1
  rcases p1 with ⟨a1, a2, a3⟩ | ⟨a1, a4, a2, a3⟩ | ⟨a1, a4, k, a5, a6, a7, a8⟩ <;> rcases p2 with ⟨b1, b2, b3⟩ | ⟨b1, b4, b2, b3⟩ | ⟨b1, b4, k2, b5, b6, b7, b8⟩
  · rw [a2, b2, a3, b3]; exact ⟨rfl, h⟩
  · omega
  · omega
  · omega
  · rw [a2, b2, a3, b3]; exact ⟨rfl, h⟩
  · exact absurd b4 a4
  · omega
  · exact absurd a4 b4
  · obtain rfl : k2 = k := nI_inj (by omega) (by omega) (b6.symm.trans a6)
    refine ⟨by rw [a8, b8, e0], ?_⟩
    subst b7
    rw [a6] at a4
    refine LR_prog h a7 (pOK_add h.2.2.2.1 a1 (vI_vOK a4 a5)) rfl rfl ?_ ?_ ?_
    · show w.1 0 + 1 = u.1 0 + 1
      rw [e0]
    · show va_up (w.2.1 1) (w.1 0) k2 = va_up (u.2.1 1) (u.1 0) k2
      rw [e0, h.2.1]
    · show upd (w.2.2 2) (w.1 0) a = upd (u.2.2 2) (u.1 0) a
      rw [e0, h.2.2.1]
theorem LR_patch {u w u2 w2 : XS} {x o a r1 r2 : Int32} (h : LR u w)
    (p1 : (((x.toInt < 0 ∨ (u.1 0 : Int) ≤ x.toInt) ∨ ¬ vI o a) ∧ r1 = -1 ∧ u2 = u) ∨ (∃ q : Nat, q < u.1 0 ∧ x = nI q ∧ vI o a ∧ ∃ k : Nat, k ≤ 13 ∧ o = nI k ∧ fgP (xz (xn u 1 q k) 2 q a) u2 ∧ r1 = nI (u.1 0)))
    (p2 : (((x.toInt < 0 ∨ (w.1 0 : Int) ≤ x.toInt) ∨ ¬ vI o a) ∧ r2 = -1 ∧ w2 = w) ∨ (∃ q : Nat, q < w.1 0 ∧ x = nI q ∧ vI o a ∧ ∃ k : Nat, k ≤ 13 ∧ o = nI k ∧ w2 = xz (xn w 1 q k) 2 q a ∧ r2 = nI (w.1 0))) : r1 = r2 ∧ LR u2 w2 := by
  have e0 := h.1
  have h32 := h.2.2.2.1.1
  have no : ∀ q : Nat, q < u.1 0 → x = nI q → vI o a → ¬ ((x.toInt < 0 ∨ (u.1 0 : Int) ≤ x.toInt) ∨ ¬ vI o a) := by
    intro q h1 h2 h3
    rw [h2, nI_toInt (by omega)]
    rintro (z | z)
    · omega
    · exact z h3
  rcases p1 with ⟨a1, a2, a3⟩ | ⟨q, a1, a2, a4, k, a5, a6, a7, a8⟩ <;> rcases p2 with ⟨b1, b2, b3⟩ | ⟨q2, b1, b2, b4, k2, b5, b6, b7, b8⟩
  · rw [a2, b2, a3, b3]; exact ⟨rfl, h⟩
  · exact absurd a1 (no q2 (by omega) b2 b4)
  · rw [e0] at b1; exact absurd b1 (no q a1 a2 a4)
  · obtain rfl : k2 = k := nI_inj (by omega) (by omega) (b6.symm.trans a6)
    obtain rfl : q2 = q := nI_inj (by omega) (by omega) (b2.symm.trans a2)
    refine ⟨by rw [a8, b8, e0], ?_⟩
    subst b7
    rw [a6] at a4
    refine LR_prog h a7 (pOK_set h.2.2.2.1 (vI_vOK a4 a5)) rfl rfl e0 ?_ ?_
    · show va_up (w.2.1 1) q2 k2 = va_up (u.2.1 1) q2 k2
      rw [h.2.1]
    · show upd (w.2.2 2) q2 a = upd (u.2.2 2) q2 a
      rw [h.2.2.1]
theorem LR_mch {u w u2 w2 : XS} (h : LR u w) (hm : mch u u2) (h0 : w2.1 0 = w.1 0) (hO : w2.2.1 1 = w.2.1 1) (hN : w2.2.2 2 = w.2.2 2) (ht : tOK (abX u2)) (he : eqT (abX u2) (abM w2)) : LR u2 w2 := by
  obtain ⟨a0, aO, aN, hp, hc, -, -⟩ := h
  have f0 : u2.1 0 = u.1 0 := hm.1 0 (by decide) (by decide) (by decide) (by decide)
  have fO : u2.2.1 1 = u.2.1 1 := by rw [hm.2.1]
  have fN : u2.2.2 2 = u.2.2 2 := hm.2.2 2 (by decide) (by decide)
  exact ⟨by rw [h0, a0, f0], by rw [hO, aO, fO], by rw [hN, aN, fN], by rw [f0, fO, fN]; exact hp, cOK_mch hm hc, ht, he⟩
theorem LR_poke {u w u2 w2 : XS} {a v r1 r2 : Int32} (h : LR u w)
    (p1 : (∃ k : Nat, k < 8 ∧ a = nI k ∧ u2 = xz u 3 k v ∧ r1 = nI 1) ∨ ((a.toInt < 0 ∨ 7 < a.toInt) ∧ u2 = u ∧ r1 = nI 0))
    (p2 : (∃ k : Nat, k < 8 ∧ a = nI k ∧ w2 = xz w 5 k v ∧ r2 = nI 1) ∨ ((a.toInt < 0 ∨ 7 < a.toInt) ∧ w2 = w ∧ r2 = nI 0)) : r1 = r2 ∧ LR u2 w2 := by
  rcases p1 with ⟨k, a1, a2, a3, a4⟩ | ⟨a1, a3, a4⟩ <;> rcases p2 with ⟨k2, b1, b2, b3, b4⟩ | ⟨b1, b3, b4⟩
  · obtain rfl : k2 = k := nI_inj (by omega) (by omega) (b2.symm.trans a2)
    refine ⟨by rw [a4, b4], ?_⟩
    subst a3
    subst b3
    have he := h.2.2.2.2.2.2
    refine LR_mch h ⟨fun _ _ _ _ _ => rfl, rfl, fun j h3 _ => by simp [xz, va_up, h3]⟩ rfl rfl rfl h.2.2.2.2.2.1 ⟨he.1, he.2.1, fun i hi => ?_, he.2.2.2⟩
    show upd (u.2.2 3) k2 v i = upd (w.2.2 5) k2 v i
    by_cases e : i = k2
    · subst e; rw [upd_eq, upd_eq]
    · rw [upd_ne _ _ e, upd_ne _ _ e]; exact he.2.2.1 i hi
  · rw [a2, nI_toInt (by omega)] at b1; omega
  · rw [b2, nI_toInt (by omega)] at a1; omega
  · rw [a4, b4, a3, b3]; exact ⟨rfl, h⟩
theorem LR_start {u w : XS} (h : LR u w) : LR (xs (xs (xs (xs u 5 0) 6 0) 8 0) 7 0) (xs (xs (xs (xs w 4 0) 6 0) 7 0) 8 0) := by
  have he := h.2.2.2.2.2.2
  exact LR_mch h (((((mch.rf u).fld (by decide)).fld (by decide)).fld (by decide)).fld (by decide)) rfl rfl rfl ⟨Nat.zero_le _, Nat.zero_le _, Nat.zero_le _⟩ ⟨rfl, fun i hi => absurd hi (Nat.not_lt_zero i), he.2.2.1, rfl⟩
theorem LR_run {u w u2 w2 : XS} {a r1 r2 : Int32} (h : LR u w)
    (p1 : r1 = nI (u2.1 7) ∧ eqT (abX u2) (runT (u.1 0) (u.2.1 1) (u.2.2 2) (nc a) (abX u)) ∧ cOK u2 ∧ tOK (abX u2) ∧ u2.1 0 = u.1 0 ∧ u2.2.1 1 = u.2.1 1 ∧ u2.2.2 2 = u.2.2 2)
    (p2 : r2 = nI (w2.1 8) ∧ eqT (abM w2) (runT (w.1 0) (w.2.1 1) (w.2.2 2) (nc a) (abM w)) ∧ tOK (abM w2) ∧ w2.1 0 = w.1 0 ∧ w2.2.1 = w.2.1 ∧ w2.2.2 2 = w.2.2 2) : r1 = r2 ∧ LR u2 w2 := by
  obtain ⟨e0, eO, eN, hp, hc, ht, he⟩ := h
  obtain ⟨a1, a2, a3, a4, a5, a6, a7⟩ := p1
  obtain ⟨b1, b2, b3, b4, b5, b6⟩ := p2
  rw [e0, eO, eN] at b2
  have hE : eqT (abX u2) (abM w2) := (a2.tr (runT_congr hp (nc a) ht he)).tr b2.sy
  have h7 : u2.1 7 = w2.1 8 := congrArg (fun z : Nat × Nat × Nat => z.2.2) hE.2.2.2
  refine ⟨by rw [a1, b1, h7], by rw [b4, e0, a5], by rw [b5, eO, a6], by rw [b6, eN, a7], by rw [a5, a6, a7]; exact hp, a3, a4, hE⟩
theorem LR_h {u w : XS} (h : LR u w) : w.1 4 = u.1 5 ∧ w.1 6 = u.1 6 ∧ w.1 7 = u.1 8 ∧ u.1 5 ≤ 8 := by
  have he := h.2.2.2.2.2.2
  exact ⟨he.1.symm, (congrArg (fun z : Nat × Nat × Nat => z.1) he.2.2.2).symm, (congrArg (fun z : Nat × Nat × Nat => z.2.1) he.2.2.2).symm, h.2.2.2.2.2.1.1⟩
theorem LR_st {u w : XS} {a r1 r2 : Int32} (h : LR u w)
    (p1 : (∃ k : Nat, k < u.1 5 ∧ a = nI k ∧ r1 = u.2.2 4 (u.1 5 - 1 - k)) ∨ ((a.toInt < 0 ∨ (u.1 5 : Int) ≤ a.toInt) ∧ r1 = nI 0))
    (p2 : (∃ k : Nat, k < w.1 4 ∧ a = nI k ∧ r2 = w.2.2 3 k) ∨ ((a.toInt < 0 ∨ (w.1 4 : Int) ≤ a.toInt) ∧ r2 = nI 0)) : r1 = r2 := by
  have he := h.2.2.2.2.2.2
  obtain ⟨h4, -, -, h8⟩ := LR_h h
  rcases p1 with ⟨k, a1, a2, a3⟩ | ⟨a1, a3⟩ <;> rcases p2 with ⟨k2, b1, b2, b3⟩ | ⟨b1, b3⟩
  · obtain rfl : k2 = k := nI_inj (by omega) (by omega) (b2.symm.trans a2)
    rw [a3, b3]
    have := he.2.1 (u.1 5 - 1 - k2) (show u.1 5 - 1 - k2 < u.1 5 by omega)
    have e2 : u.2.2 4 (u.1 5 - 1 - k2) = w.2.2 3 (w.1 4 - 1 - (u.1 5 - 1 - k2)) := this
    rw [e2, h4, show u.1 5 - 1 - (u.1 5 - 1 - k2) = k2 by omega]
  · rw [a2, nI_toInt (by omega)] at b1; omega
  · rw [b2, nI_toInt (by omega)] at a1; omega
  · rw [a3, b3]
theorem LR_mem {u w : XS} {a r1 r2 : Int32} (h : LR u w)
    (p1 : (∃ k : Nat, k < 8 ∧ a = nI k ∧ r1 = u.2.2 3 k) ∨ ((a.toInt < 0 ∨ 7 < a.toInt) ∧ r1 = nI 0))
    (p2 : (∃ k : Nat, k < 8 ∧ a = nI k ∧ r2 = w.2.2 5 k) ∨ ((a.toInt < 0 ∨ 7 < a.toInt) ∧ r2 = nI 0)) : r1 = r2 := by
  have he := h.2.2.2.2.2.2
  rcases p1 with ⟨k, a1, a2, a3⟩ | ⟨a1, a3⟩ <;> rcases p2 with ⟨k2, b1, b2, b3⟩ | ⟨b1, b3⟩
  · obtain rfl : k2 = k := nI_inj (by omega) (by omega) (b2.symm.trans a2)
    rw [a3, b3]
    exact he.2.2.1 k2 a1
  · rw [a2, nI_toInt (by omega)] at b1; omega
  · rw [b2, nI_toInt (by omega)] at a1; omega
  · rw [a3, b3]
end
section
set_option maxRecDepth 100000
/-! THE CLAIM OUT OF ONE WALK OF THE LAW'S BODY. Your part is whole_start (and what it stands on); all else here is the same for every law, but numbers. -/
def R_law : String := "FpuStackTransLaw"
def lw_P (b : Addr) (xs : List Int32) (args : Array Value) (s : State) : Prop := args = #[.ref b] ∧ s.IntsAt b xs ∧ xs.length ≤ 256 ∧ (Jvm.Cond.and given_1 narrow_1).before args s = true
def lw_Q (_ : Array Value) (s : State) (o : Outcome) (t : State) : Prop := o = .returned (some (.int 1)) ∧ Framed s o t [] 600000 7290000
def lw_Z (below : List Frame) (a : Array Value) (s : State) : State → Prop := fun t => ∃ o, t.status = .running ∧ Ended t below o ∧ lw_Q a s o t
/-- the law's own end, with 1 on the stack, nothing written that was there before, its room as the claim has it -/
theorem lw_ret {p : Program} {l : Launch} {e : Env} {s : State} {m : MethodId} {below : List Frame} {meth : Method} {c : Code} {b : Nat} (hx : p.tables.exec = Jvm.exec) (hb : c.code = code) (hr : meth.sig.returnType = ret) (hlocks : meth.locks = false) {pc : Nat} {H : Heap} {ls : Array Slot} (hdg : decode code pc = .ok (.ireturn, 1)) : W p l e room_1 s m #[Value.ref b] below meth c H [] 600000 7290000 (lw_Z below #[Value.ref b] s) (F0 m pc ls [.int 1]) := by
  intro T hT X
  obtain ⟨fs, hret, hrun, hended, hW, hframe⟩ := X.leave (v := some (.int 1)) (hlocks := hlocks) (fun h => by rw [hr] at h; cases h)
  have hmeth' : T.vm.method? m = some meth := X.method'
  refine ⟨T.setFrames fs, ?_, .returned (some (.int 1)), hrun, hended, rfl, ⟨_, rfl⟩, hW, hframe⟩
  jvm_step X.here [X.here.top, hx, hb, hdg, hmeth', hr, ret, narrow_b1]
  (try refine ⟨rfl, ?_⟩); (try refine ⟨rfl, ?_⟩)
  first | (intro acts; rw [hret _ acts rfl rfl rfl]) | rw [hret _ _ rfl rfl rfl]
  exact Steps.refl _
/-- what holds at the law's entry: the machine, the code, the tables' words (any of lw_tbl by 'hts w (by decide +kernel)'), the script of L ints xs at the cell b, what the Statement gives of the start (any of its parts by flat_of_before) -/
def lw_At (p : Program) (s : State) (m : MethodId) (meth : Method) (c : Code) (b L : Nat) (xs : Nat → Int32) : Prop :=
  p.tables.exec = Jvm.exec ∧ c.code = code ∧ meth.sig.returnType = ret ∧ c.maxLocals = 4 ∧ s.vm.findClass R_law = some m.cls ∧ (∀ w ∈ lw_tbl, w.before #[Value.ref b] s = true) ∧ va_X b L xs s s.heap ∧ b < s.heap.size ∧ meth.locks = false ∧ (Jvm.Cond.and given_1 narrow_1).before #[Value.ref b] s = true
/-! rows for the law: two objects side by side -/
theorem n_inc4 (a : Nat) : nI a + Int32.ofInt 4 = nI (a + 4) := nI_add a 4
def apa (w1 w2 : va_W) : Prop := ∀ (i j : Nat) (p q : Nat × va_E), w1[i]? = some p → w2[j]? = some q → p.1 ≠ q.1
theorem addr_at {ws ws' : va_W} (h : ws.map Prod.fst = ws'.map Prod.fst) {i : Nat} {q : Nat × va_E} (hq : ws'[i]? = some q) : ∃ q0, ws[i]? = some q0 ∧ q0.1 = q.1 := by
  have h1 : (ws'.map Prod.fst)[i]? = some q.1 := by rw [List.getElem?_map, hq]; rfl
  rw [← h, List.getElem?_map] at h1
  cases hi : ws[i]? with
  | none => rw [hi] at h1; cases h1
  | some q0 => rw [hi] at h1; exact ⟨q0, rfl, Option.some.inj h1⟩
theorem va_D.addr {A : Nat → Prop} {ws ws' : va_W} (h : ws.map Prod.fst = ws'.map Prod.fst) (hD : va_D A ws) : va_D A ws' := by
  refine ⟨fun i j p q hi hj e => ?_, fun k q hk => ?_⟩
  · obtain ⟨p0, h1, h2⟩ := addr_at h hi
    obtain ⟨q0, h3, h4⟩ := addr_at h hj
    exact hD.1 i j p0 q0 h1 h3 (by rw [h2, h4]; exact e)
  · obtain ⟨q0, h1, h2⟩ := addr_at h hk
    rw [← h2]; exact hD.2 k q0 h1
theorem apa.sy {w1 w2 : va_W} (h : apa w1 w2) : apa w2 w1 := fun i j p q hi hj e => h j i q p hj hi e.symm
theorem apa.addr {w1 w1' w2 : va_W} (h : w1.map Prod.fst = w1'.map Prod.fst) (ha : apa w1 w2) : apa w1' w2 := by
  intro i j p q hi hj
  obtain ⟨p0, h1, h2⟩ := addr_at h hi
  rw [← h2]
  exact ha i j p0 q h1 hj
theorem P_split {D : va_G} {cl : List vw_C} {w1 w2 : va_W} {H : Heap} (h : va_P D cl (w1 ++ w2) H) : va_P D cl w1 H ∧ va_P D cl w2 H := by
  refine ⟨fun k q hk => ?_, fun k q hk => ?_⟩
  · exact h k q (by rw [List.getElem?_append_left (List.getElem?_eq_some_iff.mp hk).1]; exact hk)
  · exact h (w1.length + k) q (by rw [List.getElem?_append_right (by omega), show w1.length + k - w1.length = k by omega]; exact hk)
theorem D_split {A : Nat → Prop} {w1 w2 : va_W} (h : va_D A (w1 ++ w2)) : va_D A w1 ∧ va_D A w2 ∧ apa w1 w2 := by
  have l1 : ∀ (k : Nat) (q : Nat × va_E), w1[k]? = some q → (w1 ++ w2)[k]? = some q := fun k q hk => by rw [List.getElem?_append_left (List.getElem?_eq_some_iff.mp hk).1]; exact hk
  have l2 : ∀ (k : Nat) (q : Nat × va_E), w2[k]? = some q → (w1 ++ w2)[w1.length + k]? = some q := fun k q hk => by rw [List.getElem?_append_right (by omega), show w1.length + k - w1.length = k by omega]; exact hk
  refine ⟨⟨fun i j p q hi hj e => h.1 i j p q (l1 i p hi) (l1 j q hj) e, fun k q hk => h.2 k q (l1 k q hk)⟩, ⟨fun i j p q hi hj e => ?_, fun k q hk => h.2 _ q (l2 k q hk)⟩, fun i j p q hi hj e => ?_⟩
  · have := h.1 _ _ p q (l2 i p hi) (l2 j q hj) e
    omega
  · have := h.1 _ _ p q (l1 i p hi) (l2 j q hj) e
    have := (List.getElem?_eq_some_iff.mp hi).1
    omega
def AX (ws : va_W) : Nat → Prop := fun q => ∃ (k : Nat) (e : va_E), ws[k]? = some (q, e)
abbrev AL (s : State) : Nat → Prop := fun q => s.heap.size ≤ q
def lI (g : va_G) (ax : Nat → Nat) (dx : Nat → ClassId) (am : Nat → Nat) (dm : Nat → ClassId) (s : State) (u w : XS) (H : Heap) (locs : List Loc) : Prop := va_K g vwCl (xT dx) s ∧ va_K g vwCl (mT dm) s ∧ va_P g vwCl (xW ax dx u) H ∧ va_P g vwCl (mW am dm w) H ∧ va_D (AL s) (xW ax dx u) ∧ va_D (AL s) (mW am dm w) ∧ apa (xW ax dx u) (mW am dm w) ∧ va_S (AL s) s.heap H locs
section LR0
variable {p : Program} {l : Launch} {e : Env} {R : Room} {s : State} {m : MethodId} {args : Array Value} {below : List Frame} {meth : Method} {c : Code} {H : Heap} {locs : List Loc} {cells slots : Nat} {Q : State → Prop}
variable {cc : ByteArray} {nL pc : Nat} {ls : Array Slot} {rest : List Value} {own : String}
variable {g : va_G} {ax am : Nat → Nat} {dx dm : Nat → ClassId} {u w : XS}

theorem l_slen {b L : Nat} {sc : Nat → Int32} {A : Nat → Prop} {H0 : Heap} (F : CallFix p m c cc nL s args lw_all own) (hX : va_X b L sc s H0) (hbl : b < H0.size) (hbA : ¬ A b) (hS : va_S A H0 H locs) (hdg : decode cc pc = .ok (.arraylength, 1)) (kk : W p l e R s m args below meth c H locs cells slots Q (F0 m (pc + 1) ls (.int (nI L) :: rest))) : W p l e R s m args below meth c H locs cells slots Q (F0 m pc ls (.ref b :: rest)) := va_slen F.1 F.2.1 hX hbl hbA hS hdg kk
theorem l_sld {b L q : Nat} {sc : Nat → Int32} {A : Nat → Prop} {H0 : Heap} (F : CallFix p m c cc nL s args lw_all own) (hX : va_X b L sc s H0) (hbl : b < H0.size) (hbA : ¬ A b) (hS : va_S A H0 H locs) (hq : q < L) (hL : L ≤ 256) (hdg : decode cc pc = .ok (.iaload, 1)) (kk : W p l e R s m args below meth c H locs cells slots Q (F0 m (pc + 1) ls (.int (sc q) :: rest))) : W p l e R s m args below meth c H locs cells slots Q (F0 m pc ls (.int (nI q) :: .ref b :: rest)) := by
  refine va_sld F.1 F.2.1 hX hbl hbA hS (vp_in_nI hq (by omega)) hdg ?_
  rw [nI_clamp (by omega)]
  exact kk
theorem lx_callv (F : CallFix p m c cc nL s args lw_all own) (hI : lI g ax dx am dm s u w H locs) {y : MethodName} {b : ByteArray} {L idx n : Nat} {rm : Room} {av : List Value} {post : XS → Prop} (hM : ∀ A : Nat → Prop, Met l y (ws_ y b L none) rm (xPc g ax dx A u av) (xQv g ax dx A post) 0 0 A)
    (hw : GoodIn lw_all (wsV own idx RX0 y (ws_ y b L none))) (hd : y.cls = RX0 ∧ y.cls ≠ "java/lang/invoke/MethodHandle" ∧ y.cls ≠ "java/lang/invoke/VarHandle" ∧ (parseMethodDescriptor y.desc).map (fun d => d.parameters.length) = some n) (hR : rm.frames + 1 ≤ R.frames ∧ 8 + (L + 11) + rm.locals ≤ R.locals) (hz : rm.cells = 0 ∧ rm.slots = 0) (hc : cells ≤ R.cells ∧ slots ≤ R.slots) {st : List Value} (hn : av.length = n) (hls : ls.size = nL) (hst : st = av.reverse ++ .ref (ax 0) :: rest) (hrest : (rest.map fun v => v.category).sum ≤ 8) (hdg : decode cc pc = .ok (.invokevirtual idx, 3))
    (kk : ∀ (u2 : XS) (H : Heap) (locs : List Loc), post u2 → lI g ax dx am dm s u2 w H locs → W p l e R s m args below meth c H locs cells slots Q (F0 m (pc + 3) ls rest)) : W p l e R s m args below meth c H locs cells slots Q (F0 m pc ls st) := by
  obtain ⟨hKx, hKm, hPx, hPm, hDx, hDm, hap, hS⟩ := hI
  have hDc : va_D (AX (xW ax dx u)) (xW ax dx u) := ⟨hDx.1, fun k q hk => ⟨k, q.2, hk⟩⟩
  have hsub : ∀ q, AX (xW ax dx u) q → AL s q := fun q h => by obtain ⟨k, e, h⟩ := h; exact hDx.2 k (q, e) h
  have pre : PreV s H RX0 (ax 0) (xPc g ax dx (AX (xW ax dx u)) u av) av := ⟨fun a U g mk q => ⟨q.1, va_K.moved (u := U) (U := U.calling g mk a) (Vm.Alike.refl U.vm) q.2.1, q.2.2.1, q.2.2.2⟩, va_recv hKx hPx (ci := 0) (q0 := 0) (q := (RX0, TX0, 21)) rfl rfl, fun U hU hW => ⟨rfl, va_K.moved hW.alike hKx, by rw [hU]; exact hPx, hDc⟩⟩
  refine va_callv (va_runV F (hM _) (cwV n F.2.2.2.2 hw rfl hz.1 hz.2 hd hR) pre rfl hn hls hst (lv_room hrest) hdg hc) hS (fun q _ h => hsub q h) hsub (fun u2 t H1 locs1 ht hvm hp hB hz1 hk1 hS1 => ?_)
  have hO := hPm.kept (H1 := H1) (fun k q hk => hk1 q.1 (hPm k q hk).lt (fun h => by obtain ⟨j, e, hj⟩ := h; exact hap j k (q.1, e) q hj hk rfl))
  exact kk u2 H1 locs1 hp ⟨hKx, hKm, by rw [← ht]; exact hB.2.1, hO, va_D.addr (ws := xW ax dx u) rfl hDx, hDm, apa.addr (w1 := xW ax dx u) rfl hap, hS1⟩
theorem lx_calli (F : CallFix p m c cc nL s args lw_all own) (hI : lI g ax dx am dm s u w H locs) {y : MethodName} {b : ByteArray} {L idx n : Nat} {ret : Option FieldType} {rm : Room} {av : List Value} {post : Int32 → XS → Prop} (hM : ∀ A : Nat → Prop, Met l y (ws_ y b L ret) rm (xPc g ax dx A u av) (xQi g ax dx A post) 0 0 A)
    (hw : GoodIn lw_all (wsV own idx RX0 y (ws_ y b L ret))) (hd : y.cls = RX0 ∧ y.cls ≠ "java/lang/invoke/MethodHandle" ∧ y.cls ≠ "java/lang/invoke/VarHandle" ∧ (parseMethodDescriptor y.desc).map (fun d => d.parameters.length) = some n) (hR : rm.frames + 1 ≤ R.frames ∧ 8 + (L + 11) + rm.locals ≤ R.locals) (hz : rm.cells = 0 ∧ rm.slots = 0) (hc : cells ≤ R.cells ∧ slots ≤ R.slots) {st : List Value} (hn : av.length = n) (hls : ls.size = nL) (hst : st = av.reverse ++ .ref (ax 0) :: rest) (hrest : (rest.map fun v => v.category).sum ≤ 8) (hdg : decode cc pc = .ok (.invokevirtual idx, 3))
    (kk : ∀ (r : Int32) (u2 : XS) (H : Heap) (locs : List Loc), post r u2 → lI g ax dx am dm s u2 w H locs → W p l e R s m args below meth c H locs cells slots Q (F0 m (pc + 3) ls (.int r :: rest))) : W p l e R s m args below meth c H locs cells slots Q (F0 m pc ls st) := by
  obtain ⟨hKx, hKm, hPx, hPm, hDx, hDm, hap, hS⟩ := hI
  have hDc : va_D (AX (xW ax dx u)) (xW ax dx u) := ⟨hDx.1, fun k q hk => ⟨k, q.2, hk⟩⟩
  have hsub : ∀ q, AX (xW ax dx u) q → AL s q := fun q h => by obtain ⟨k, e, h⟩ := h; exact hDx.2 k (q, e) h
  have pre : PreV s H RX0 (ax 0) (xPc g ax dx (AX (xW ax dx u)) u av) av := ⟨fun a U g mk q => ⟨q.1, va_K.moved (u := U) (U := U.calling g mk a) (Vm.Alike.refl U.vm) q.2.1, q.2.2.1, q.2.2.2⟩, va_recv hKx hPx (ci := 0) (q0 := 0) (q := (RX0, TX0, 21)) rfl rfl, fun U hU hW => ⟨rfl, va_K.moved hW.alike hKx, by rw [hU]; exact hPx, hDc⟩⟩
  refine va_calli (va_runV F (hM _) (cwV n F.2.2.2.2 hw rfl hz.1 hz.2 hd hR) pre rfl hn hls hst (lv_room hrest) hdg hc) hS (fun q _ h => hsub q h) hsub (fun r u2 t H1 locs1 ht hvm hp hB hz1 hk1 hS1 => ?_)
  have hO := hPm.kept (H1 := H1) (fun k q hk => hk1 q.1 (hPm k q hk).lt (fun h => by obtain ⟨j, e, hj⟩ := h; exact hap j k (q.1, e) q hj hk rfl))
  exact kk r u2 H1 locs1 hp ⟨hKx, hKm, by rw [← ht]; exact hB.2.1, hO, va_D.addr (ws := xW ax dx u) rfl hDx, hDm, apa.addr (w1 := xW ax dx u) rfl hap, hS1⟩
theorem lm_callv (F : CallFix p m c cc nL s args lw_all own) (hI : lI g ax dx am dm s u w H locs) {y : MethodName} {b : ByteArray} {L idx n : Nat} {rm : Room} {av : List Value} {post : XS → Prop} (hM : ∀ A : Nat → Prop, Met l y (ws_ y b L none) rm (mPc g am dm A w av) (mQv g am dm A post) 0 0 A)
    (hw : GoodIn lw_all (wsV own idx RX1 y (ws_ y b L none))) (hd : y.cls = RX1 ∧ y.cls ≠ "java/lang/invoke/MethodHandle" ∧ y.cls ≠ "java/lang/invoke/VarHandle" ∧ (parseMethodDescriptor y.desc).map (fun d => d.parameters.length) = some n) (hR : rm.frames + 1 ≤ R.frames ∧ 8 + (L + 11) + rm.locals ≤ R.locals) (hz : rm.cells = 0 ∧ rm.slots = 0) (hc : cells ≤ R.cells ∧ slots ≤ R.slots) {st : List Value} (hn : av.length = n) (hls : ls.size = nL) (hst : st = av.reverse ++ .ref (am 0) :: rest) (hrest : (rest.map fun v => v.category).sum ≤ 8) (hdg : decode cc pc = .ok (.invokevirtual idx, 3))
    (kk : ∀ (u2 : XS) (H : Heap) (locs : List Loc), post u2 → lI g ax dx am dm s u u2 H locs → W p l e R s m args below meth c H locs cells slots Q (F0 m (pc + 3) ls rest)) : W p l e R s m args below meth c H locs cells slots Q (F0 m pc ls st) := by
  obtain ⟨hKx, hKm, hPx, hPm, hDx, hDm, hap, hS⟩ := hI
  have hDc : va_D (AX (mW am dm w)) (mW am dm w) := ⟨hDm.1, fun k q hk => ⟨k, q.2, hk⟩⟩
  have hsub : ∀ q, AX (mW am dm w) q → AL s q := fun q h => by obtain ⟨k, e, h⟩ := h; exact hDm.2 k (q, e) h
  have pre : PreV s H RX1 (am 0) (mPc g am dm (AX (mW am dm w)) w av) av := ⟨fun a U g mk q => ⟨q.1, va_K.moved (u := U) (U := U.calling g mk a) (Vm.Alike.refl U.vm) q.2.1, q.2.2.1, q.2.2.2⟩, va_recv hKm hPm (ci := 1) (q0 := 0) (q := (RX1, TX1, 9)) rfl rfl, fun U hU hW => ⟨rfl, va_K.moved hW.alike hKm, by rw [hU]; exact hPm, hDc⟩⟩
  refine va_callv (va_runV F (hM _) (cwV n F.2.2.2.2 hw rfl hz.1 hz.2 hd hR) pre rfl hn hls hst (lv_room hrest) hdg hc) hS (fun q _ h => hsub q h) hsub (fun u2 t H1 locs1 ht hvm hp hB hz1 hk1 hS1 => ?_)
  have hO := hPx.kept (H1 := H1) (fun k q hk => hk1 q.1 (hPx k q hk).lt (fun h => by obtain ⟨j, e, hj⟩ := h; exact hap k j q (q.1, e) hk hj rfl))
  exact kk u2 H1 locs1 hp ⟨hKx, hKm, hO, by rw [← ht]; exact hB.2.1, hDx, va_D.addr (ws := mW am dm w) rfl hDm, (apa.addr (w1 := mW am dm w) (w1' := mW am dm u2) rfl hap.sy).sy, hS1⟩
theorem lm_calli (F : CallFix p m c cc nL s args lw_all own) (hI : lI g ax dx am dm s u w H locs) {y : MethodName} {b : ByteArray} {L idx n : Nat} {ret : Option FieldType} {rm : Room} {av : List Value} {post : Int32 → XS → Prop} (hM : ∀ A : Nat → Prop, Met l y (ws_ y b L ret) rm (mPc g am dm A w av) (mQi g am dm A post) 0 0 A)
    (hw : GoodIn lw_all (wsV own idx RX1 y (ws_ y b L ret))) (hd : y.cls = RX1 ∧ y.cls ≠ "java/lang/invoke/MethodHandle" ∧ y.cls ≠ "java/lang/invoke/VarHandle" ∧ (parseMethodDescriptor y.desc).map (fun d => d.parameters.length) = some n) (hR : rm.frames + 1 ≤ R.frames ∧ 8 + (L + 11) + rm.locals ≤ R.locals) (hz : rm.cells = 0 ∧ rm.slots = 0) (hc : cells ≤ R.cells ∧ slots ≤ R.slots) {st : List Value} (hn : av.length = n) (hls : ls.size = nL) (hst : st = av.reverse ++ .ref (am 0) :: rest) (hrest : (rest.map fun v => v.category).sum ≤ 8) (hdg : decode cc pc = .ok (.invokevirtual idx, 3))
    (kk : ∀ (r : Int32) (u2 : XS) (H : Heap) (locs : List Loc), post r u2 → lI g ax dx am dm s u u2 H locs → W p l e R s m args below meth c H locs cells slots Q (F0 m (pc + 3) ls (.int r :: rest))) : W p l e R s m args below meth c H locs cells slots Q (F0 m pc ls st) := by
  obtain ⟨hKx, hKm, hPx, hPm, hDx, hDm, hap, hS⟩ := hI
  have hDc : va_D (AX (mW am dm w)) (mW am dm w) := ⟨hDm.1, fun k q hk => ⟨k, q.2, hk⟩⟩
  have hsub : ∀ q, AX (mW am dm w) q → AL s q := fun q h => by obtain ⟨k, e, h⟩ := h; exact hDm.2 k (q, e) h
  have pre : PreV s H RX1 (am 0) (mPc g am dm (AX (mW am dm w)) w av) av := ⟨fun a U g mk q => ⟨q.1, va_K.moved (u := U) (U := U.calling g mk a) (Vm.Alike.refl U.vm) q.2.1, q.2.2.1, q.2.2.2⟩, va_recv hKm hPm (ci := 1) (q0 := 0) (q := (RX1, TX1, 9)) rfl rfl, fun U hU hW => ⟨rfl, va_K.moved hW.alike hKm, by rw [hU]; exact hPm, hDc⟩⟩
  refine va_calli (va_runV F (hM _) (cwV n F.2.2.2.2 hw rfl hz.1 hz.2 hd hR) pre rfl hn hls hst (lv_room hrest) hdg hc) hS (fun q _ h => hsub q h) hsub (fun r u2 t H1 locs1 ht hvm hp hB hz1 hk1 hS1 => ?_)
  have hO := hPx.kept (H1 := H1) (fun k q hk => hk1 q.1 (hPx k q hk).lt (fun h => by obtain ⟨j, e, hj⟩ := h; exact hap k j q (q.1, e) hk hj rfl))
  exact kk r u2 H1 locs1 hp ⟨hKx, hKm, hO, by rw [← ht]; exact hB.2.1, hDx, va_D.addr (ws := mW am dm w) rfl hDm, (apa.addr (w1 := mW am dm w) (w1' := mW am dm u2) rfl hap.sy).sy, hS1⟩
end LR0
end
section
set_option maxRecDepth 100000
set_option maxHeartbeats 8000000 in
theorem law_loop {p : Program} {l : Launch} {e : Env} {s : State} {m : MethodId} {below : List Frame} {meth : Method} {c : Code} {g : va_G} {ax am : Nat → Nat} {dx dm : Nat → ClassId} {b L : Nat} {sc : Nat → Int32} (hL : L ≤ 256) (C0 : lw_At p s m meth c b L sc) :
    ∀ (k q : Nat) (u w : XS) (H : Heap) (locs : List Loc) (ls : Array Slot), L < q + 4 * k → q ≤ 256 → LR u w → lI g ax dx am dm s u w H locs → lv_has ls 4 [(3, .int (nI q)), (2, .ref (am 0)), (1, .ref (ax 0)), (0, .ref b)] → W p l e room_1 s m #[Value.ref b] below meth c H locs 19 3201 (lw_Z below #[Value.ref b] s) (F0 m 18 ls []) := by
  obtain ⟨hx, hb, hr, hml, hown, hts0, hX, hbl, hlocks, hgv⟩ := C0
  have F : CallFix p m c code 4 s #[Value.ref b] lw_all R_law := ⟨hx, hb, hml, hown, fun w h => hts0 w (lw_all_tbl h)⟩
  have hbA : ¬ AL s b := Nat.not_le.mpr hbl
  have hsub : (nI L - nI 4).toInt = (L : Int) - 4 := pk_sub_toInt (by omega) (by omega)
  intro k
  induction k with
  | zero =>
    intro q u w H locs ls hk hq256 hLR hI hl
    refine lv_iload_n F.1 F.2.1 dL_law_18 rfl (lv_at hl 0 rfl) ?_
    refine lv_aload_n F.1 F.2.1 dL_law_19 rfl (lv_at hl 3 rfl) ?_
    refine l_slen F hX hbl hbA hI.2.2.2.2.2.2.2 dL_law_20 ?_
    refine lv_iconst (v := nI 4) F.1 F.2.1 dL_law_21 (by decide) ?_
    refine lv_isub F.1 F.2.1 dL_law_22 ?_
    refine t_icmp_gt (tgt := 322) F (nI_toInt (by omega)) rfl dL_law_23 (by decide) (fun b_23 => ?_) (fun b_23 => absurd b_23 (by omega))
    refine lv_iconst (v := 1) F.1 F.2.1 dL_law_322 (by decide) ?_
    refine va_forget (fun q hq => hI.2.2.2.2.2.2.2.2.2 q hq) ?_
    refine W.widen (k := 600000) (n := 7290000) (by decide) (by decide) ?_
    exact lw_ret F.1 F.2.1 hr hlocks dL_law_323
  | succ k ih =>
    intro q u w H locs ls hk hq256 hLR hI hl
    refine lv_iload_n F.1 F.2.1 dL_law_18 rfl (lv_at hl 0 rfl) ?_
    refine lv_aload_n F.1 F.2.1 dL_law_19 rfl (lv_at hl 3 rfl) ?_
    refine l_slen F hX hbl hbA hI.2.2.2.2.2.2.2 dL_law_20 ?_
    refine lv_iconst (v := nI 4) F.1 F.2.1 dL_law_21 (by decide) ?_
    refine lv_isub F.1 F.2.1 dL_law_22 ?_
    refine t_icmp_gt (tgt := 322) F (nI_toInt (by omega)) rfl dL_law_23 (by decide) (fun b_23 => ?_) (fun b_23 => ?_)
    · refine lv_iconst (v := 1) F.1 F.2.1 dL_law_322 (by decide) ?_
      refine va_forget (fun q hq => hI.2.2.2.2.2.2.2.2.2 q hq) ?_
      refine W.widen (k := 600000) (n := 7290000) (by decide) (by decide) ?_
      exact lw_ret F.1 F.2.1 hr hlocks dL_law_323
    · refine lv_aload_n F.1 F.2.1 dL_law_26 rfl (lv_at hl 3 rfl) ?_
      refine lv_iload_n F.1 F.2.1 dL_law_27 rfl (lv_at hl 0 rfl) ?_
      refine l_sld (q := q) F hX hbl hbA hI.2.2.2.2.2.2.2 (by omega) hL dL_law_28 ?_
      refine lv_bipush (v := nI 15) F.1 F.2.1 dL_law_29 (by decide) ?_
      refine lv_iand F.1 F.2.1 dL_law_31 ?_
      obtain ⟨j, hj, ej⟩ := pk_andE (sc q) (m := nI 15) 4 (by decide)
      rw [ej]
      obtain rfl | rfl | rfl | rfl | rfl | rfl | rfl | rfl | rfl | rfl | hj10 : j = 0 ∨ j = 1 ∨ j = 2 ∨ j = 3 ∨ j = 4 ∨ j = 5 ∨ j = 6 ∨ j = 7 ∨ j = 8 ∨ j = 9 ∨ 10 ≤ j := by omega
      · refine lv_tableIn (off := 56) (tgt := 88) F.1 F.2.1 dL_law_32 (by decide) (by decide) (by decide) (by decide) ?_
        refine lv_aload_n F.1 F.2.1 dL_law_88 rfl (lv_at hl 2 rfl) ?_
        refine lv_aload_n F.1 F.2.1 dL_law_89 rfl (lv_at hl 3 rfl) ?_
        refine lv_iload_n F.1 F.2.1 dL_law_90 rfl (lv_at hl 0 rfl) ?_
        refine lv_iconst (v := nI 1) F.1 F.2.1 dL_law_91 (by decide) ?_
        refine n_iadd F dL_law_92 ?_
        refine l_sld (q := q + 1) F hX hbl hbA hI.2.2.2.2.2.2.2 (by omega) hL dL_law_93 ?_
        refine lv_aload_n F.1 F.2.1 dL_law_94 rfl (lv_at hl 3 rfl) ?_
        refine lv_iload_n F.1 F.2.1 dL_law_95 rfl (lv_at hl 0 rfl) ?_
        refine lv_iconst (v := nI 2) F.1 F.2.1 dL_law_96 (by decide) ?_
        refine n_iadd F dL_law_97 ?_
        refine l_sld (q := q + 2) F hX hbl hbA hI.2.2.2.2.2.2.2 (by omega) hL dL_law_98 ?_
        refine lx_calli (n := 2) (rest := []) (av := [.int (sc (q + 1)), .int (sc (q + 2))]) F hI (fun A => metX0_emit l g ax dx A u (sc (q + 1)) (sc (q + 2)) hLR.2.2.2.1.1) (lw_V q106 q107 q108 q25 q109) (by decide +kernel) ⟨Nat.le_of_ble_eq_true rfl, Nat.le_of_ble_eq_true rfl⟩ ⟨rfl, rfl⟩ ⟨Nat.le_of_ble_eq_true rfl, Nat.le_of_ble_eq_true rfl⟩ rfl hl.1 rfl (Nat.le_of_ble_eq_true rfl) dL_law_99 (fun r99 u99 H locs hp99 hI => ?_)
        refine lv_aload_n F.1 F.2.1 dL_law_102 rfl (lv_at hl 1 rfl) ?_
        refine lv_aload_n F.1 F.2.1 dL_law_103 rfl (lv_at hl 3 rfl) ?_
        refine lv_iload_n F.1 F.2.1 dL_law_104 rfl (lv_at hl 0 rfl) ?_
        refine lv_iconst (v := nI 1) F.1 F.2.1 dL_law_105 (by decide) ?_
        refine n_iadd F dL_law_106 ?_
        refine l_sld (q := q + 1) F hX hbl hbA hI.2.2.2.2.2.2.2 (by omega) hL dL_law_107 ?_
        refine lv_aload_n F.1 F.2.1 dL_law_108 rfl (lv_at hl 3 rfl) ?_
        refine lv_iload_n F.1 F.2.1 dL_law_109 rfl (lv_at hl 0 rfl) ?_
        refine lv_iconst (v := nI 2) F.1 F.2.1 dL_law_110 (by decide) ?_
        refine n_iadd F dL_law_111 ?_
        refine l_sld (q := q + 2) F hX hbl hbA hI.2.2.2.2.2.2.2 (by omega) hL dL_law_112 ?_
        refine lm_calli (n := 2) (rest := [.int r99]) (av := [.int (sc (q + 1)), .int (sc (q + 2))]) F hI (fun A => metX1_emit l g am dm A w (sc (q + 1)) (sc (q + 2)) (by rw [hLR.1]; exact hLR.2.2.2.1.1)) (lw_V q244 q245 q246 q26 q247) (by decide +kernel) ⟨Nat.le_of_ble_eq_true rfl, Nat.le_of_ble_eq_true rfl⟩ ⟨rfl, rfl⟩ ⟨Nat.le_of_ble_eq_true rfl, Nat.le_of_ble_eq_true rfl⟩ rfl hl.1 rfl (Nat.le_of_ble_eq_true rfl) dL_law_113 (fun r113 u113 H locs hp113 hI => ?_)
        obtain ⟨hreq, hLR⟩ := LR_emit hLR hp99 hp113
        refine t_icmp_eq (tgt := 316) F rfl rfl dL_law_116 (by decide) (fun b_116 => ?_) (fun b_116 => absurd b_116 (by simp [hreq]))
        refine lv_iinc (v := nI (q + 4)) (lv' := [(3, .int (nI (q + 4))), (2, .ref (am 0)), (1, .ref (ax 0)), (0, .ref b)]) F.1 F.2.1 dL_law_316 hl (k := 0) rfl (n_inc4 _) (by decide) rfl (fun ls hl => ?_)
        refine lv_goto (tgt := 18) F.1 F.2.1 dL_law_319 (by decide) ?_
        exact ih (q + 4) u99 u113 H locs ls (by omega) (by omega) hLR hI (lv_sub hl [0, 1, 2, 3] rfl)
      · refine lv_tableIn (off := 89) (tgt := 121) F.1 F.2.1 dL_law_32 (by decide) (by decide) (by decide) (by decide) ?_
        refine lv_aload_n F.1 F.2.1 dL_law_121 rfl (lv_at hl 2 rfl) ?_
        refine lv_aload_n F.1 F.2.1 dL_law_122 rfl (lv_at hl 3 rfl) ?_
        refine lv_iload_n F.1 F.2.1 dL_law_123 rfl (lv_at hl 0 rfl) ?_
        refine lv_iconst (v := nI 1) F.1 F.2.1 dL_law_124 (by decide) ?_
        refine n_iadd F dL_law_125 ?_
        refine l_sld (q := q + 1) F hX hbl hbA hI.2.2.2.2.2.2.2 (by omega) hL dL_law_126 ?_
        refine lv_aload_n F.1 F.2.1 dL_law_127 rfl (lv_at hl 3 rfl) ?_
        refine lv_iload_n F.1 F.2.1 dL_law_128 rfl (lv_at hl 0 rfl) ?_
        refine lv_iconst (v := nI 2) F.1 F.2.1 dL_law_129 (by decide) ?_
        refine n_iadd F dL_law_130 ?_
        refine l_sld (q := q + 2) F hX hbl hbA hI.2.2.2.2.2.2.2 (by omega) hL dL_law_131 ?_
        refine lv_aload_n F.1 F.2.1 dL_law_132 rfl (lv_at hl 3 rfl) ?_
        refine lv_iload_n F.1 F.2.1 dL_law_133 rfl (lv_at hl 0 rfl) ?_
        refine lv_iconst (v := nI 3) F.1 F.2.1 dL_law_134 (by decide) ?_
        refine n_iadd F dL_law_135 ?_
        refine l_sld (q := q + 3) F hX hbl hbA hI.2.2.2.2.2.2.2 (by omega) hL dL_law_136 ?_
        refine lx_calli (n := 3) (rest := []) (av := [.int (sc (q + 1)), .int (sc (q + 2)), .int (sc (q + 3))]) F hI (fun A => metX0_patch l g ax dx A u (sc (q + 1)) (sc (q + 2)) (sc (q + 3)) hLR.2.2.2.1.1) (lw_V q114 q115 q116 q25 q117) (by decide +kernel) ⟨Nat.le_of_ble_eq_true rfl, Nat.le_of_ble_eq_true rfl⟩ ⟨rfl, rfl⟩ ⟨Nat.le_of_ble_eq_true rfl, Nat.le_of_ble_eq_true rfl⟩ rfl hl.1 rfl (Nat.le_of_ble_eq_true rfl) dL_law_137 (fun r137 u137 H locs hp137 hI => ?_)
        refine lv_aload_n F.1 F.2.1 dL_law_140 rfl (lv_at hl 1 rfl) ?_
        refine lv_aload_n F.1 F.2.1 dL_law_141 rfl (lv_at hl 3 rfl) ?_
        refine lv_iload_n F.1 F.2.1 dL_law_142 rfl (lv_at hl 0 rfl) ?_
        refine lv_iconst (v := nI 1) F.1 F.2.1 dL_law_143 (by decide) ?_
        refine n_iadd F dL_law_144 ?_
        refine l_sld (q := q + 1) F hX hbl hbA hI.2.2.2.2.2.2.2 (by omega) hL dL_law_145 ?_
        refine lv_aload_n F.1 F.2.1 dL_law_146 rfl (lv_at hl 3 rfl) ?_
        refine lv_iload_n F.1 F.2.1 dL_law_147 rfl (lv_at hl 0 rfl) ?_
        refine lv_iconst (v := nI 2) F.1 F.2.1 dL_law_148 (by decide) ?_
        refine n_iadd F dL_law_149 ?_
        refine l_sld (q := q + 2) F hX hbl hbA hI.2.2.2.2.2.2.2 (by omega) hL dL_law_150 ?_
        refine lv_aload_n F.1 F.2.1 dL_law_151 rfl (lv_at hl 3 rfl) ?_
        refine lv_iload_n F.1 F.2.1 dL_law_152 rfl (lv_at hl 0 rfl) ?_
        refine lv_iconst (v := nI 3) F.1 F.2.1 dL_law_153 (by decide) ?_
        refine n_iadd F dL_law_154 ?_
        refine l_sld (q := q + 3) F hX hbl hbA hI.2.2.2.2.2.2.2 (by omega) hL dL_law_155 ?_
        refine lm_calli (n := 3) (rest := [.int r137]) (av := [.int (sc (q + 1)), .int (sc (q + 2)), .int (sc (q + 3))]) F hI (fun A => metX1_patch l g am dm A w (sc (q + 1)) (sc (q + 2)) (sc (q + 3)) (by rw [hLR.1]; exact hLR.2.2.2.1.1)) (lw_V q252 q253 q254 q26 q255) (by decide +kernel) ⟨Nat.le_of_ble_eq_true rfl, Nat.le_of_ble_eq_true rfl⟩ ⟨rfl, rfl⟩ ⟨Nat.le_of_ble_eq_true rfl, Nat.le_of_ble_eq_true rfl⟩ rfl hl.1 rfl (Nat.le_of_ble_eq_true rfl) dL_law_156 (fun r156 u156 H locs hp156 hI => ?_)
        obtain ⟨hreq, hLR⟩ := LR_patch hLR hp137 hp156
        refine t_icmp_eq (tgt := 316) F rfl rfl dL_law_159 (by decide) (fun b_159 => ?_) (fun b_159 => absurd b_159 (by simp [hreq]))
        refine lv_iinc (v := nI (q + 4)) (lv' := [(3, .int (nI (q + 4))), (2, .ref (am 0)), (1, .ref (ax 0)), (0, .ref b)]) F.1 F.2.1 dL_law_316 hl (k := 0) rfl (n_inc4 _) (by decide) rfl (fun ls hl => ?_)
        refine lv_goto (tgt := 18) F.1 F.2.1 dL_law_319 (by decide) ?_
        exact ih (q + 4) u137 u156 H locs ls (by omega) (by omega) hLR hI (lv_sub hl [0, 1, 2, 3] rfl)
      · refine lv_tableIn (off := 132) (tgt := 164) F.1 F.2.1 dL_law_32 (by decide) (by decide) (by decide) (by decide) ?_
        refine lv_aload_n F.1 F.2.1 dL_law_164 rfl (lv_at hl 2 rfl) ?_
        refine lv_aload_n F.1 F.2.1 dL_law_165 rfl (lv_at hl 3 rfl) ?_
        refine lv_iload_n F.1 F.2.1 dL_law_166 rfl (lv_at hl 0 rfl) ?_
        refine lv_iconst (v := nI 1) F.1 F.2.1 dL_law_167 (by decide) ?_
        refine n_iadd F dL_law_168 ?_
        refine l_sld (q := q + 1) F hX hbl hbA hI.2.2.2.2.2.2.2 (by omega) hL dL_law_169 ?_
        refine lv_aload_n F.1 F.2.1 dL_law_170 rfl (lv_at hl 3 rfl) ?_
        refine lv_iload_n F.1 F.2.1 dL_law_171 rfl (lv_at hl 0 rfl) ?_
        refine lv_iconst (v := nI 2) F.1 F.2.1 dL_law_172 (by decide) ?_
        refine n_iadd F dL_law_173 ?_
        refine l_sld (q := q + 2) F hX hbl hbA hI.2.2.2.2.2.2.2 (by omega) hL dL_law_174 ?_
        refine lx_calli (n := 2) (rest := []) (av := [.int (sc (q + 1)), .int (sc (q + 2))]) F hI (fun A => metX0_poke l g ax dx A u (sc (q + 1)) (sc (q + 2))) (lw_V q118 q119 q120 q25 q121) (by decide +kernel) ⟨Nat.le_of_ble_eq_true rfl, Nat.le_of_ble_eq_true rfl⟩ ⟨rfl, rfl⟩ ⟨Nat.le_of_ble_eq_true rfl, Nat.le_of_ble_eq_true rfl⟩ rfl hl.1 rfl (Nat.le_of_ble_eq_true rfl) dL_law_175 (fun r175 u175 H locs hp175 hI => ?_)
        refine lv_aload_n F.1 F.2.1 dL_law_178 rfl (lv_at hl 1 rfl) ?_
        refine lv_aload_n F.1 F.2.1 dL_law_179 rfl (lv_at hl 3 rfl) ?_
        refine lv_iload_n F.1 F.2.1 dL_law_180 rfl (lv_at hl 0 rfl) ?_
        refine lv_iconst (v := nI 1) F.1 F.2.1 dL_law_181 (by decide) ?_
        refine n_iadd F dL_law_182 ?_
        refine l_sld (q := q + 1) F hX hbl hbA hI.2.2.2.2.2.2.2 (by omega) hL dL_law_183 ?_
        refine lv_aload_n F.1 F.2.1 dL_law_184 rfl (lv_at hl 3 rfl) ?_
        refine lv_iload_n F.1 F.2.1 dL_law_185 rfl (lv_at hl 0 rfl) ?_
        refine lv_iconst (v := nI 2) F.1 F.2.1 dL_law_186 (by decide) ?_
        refine n_iadd F dL_law_187 ?_
        refine l_sld (q := q + 2) F hX hbl hbA hI.2.2.2.2.2.2.2 (by omega) hL dL_law_188 ?_
        refine lm_calli (n := 2) (rest := [.int r175]) (av := [.int (sc (q + 1)), .int (sc (q + 2))]) F hI (fun A => metX1_poke l g am dm A w (sc (q + 1)) (sc (q + 2))) (lw_V q256 q257 q258 q26 q259) (by decide +kernel) ⟨Nat.le_of_ble_eq_true rfl, Nat.le_of_ble_eq_true rfl⟩ ⟨rfl, rfl⟩ ⟨Nat.le_of_ble_eq_true rfl, Nat.le_of_ble_eq_true rfl⟩ rfl hl.1 rfl (Nat.le_of_ble_eq_true rfl) dL_law_189 (fun r189 u189 H locs hp189 hI => ?_)
        obtain ⟨hreq, hLR⟩ := LR_poke hLR hp175 hp189
        refine t_icmp_eq (tgt := 316) F rfl rfl dL_law_192 (by decide) (fun b_192 => ?_) (fun b_192 => absurd b_192 (by simp [hreq]))
        refine lv_iinc (v := nI (q + 4)) (lv' := [(3, .int (nI (q + 4))), (2, .ref (am 0)), (1, .ref (ax 0)), (0, .ref b)]) F.1 F.2.1 dL_law_316 hl (k := 0) rfl (n_inc4 _) (by decide) rfl (fun ls hl => ?_)
        refine lv_goto (tgt := 18) F.1 F.2.1 dL_law_319 (by decide) ?_
        exact ih (q + 4) u175 u189 H locs ls (by omega) (by omega) hLR hI (lv_sub hl [0, 1, 2, 3] rfl)
      · refine lv_tableIn (off := 165) (tgt := 197) F.1 F.2.1 dL_law_32 (by decide) (by decide) (by decide) (by decide) ?_
        refine lv_aload_n F.1 F.2.1 dL_law_197 rfl (lv_at hl 2 rfl) ?_
        refine lx_callv (n := 0) (rest := []) (av := []) F hI (fun A => metX0_start l g ax dx A u) (lw_V q122 q123 q124 q25 q125) (by decide +kernel) ⟨Nat.le_of_ble_eq_true rfl, Nat.le_of_ble_eq_true rfl⟩ ⟨rfl, rfl⟩ ⟨Nat.le_of_ble_eq_true rfl, Nat.le_of_ble_eq_true rfl⟩ rfl hl.1 rfl (Nat.le_of_ble_eq_true rfl) dL_law_198 (fun u198 H locs hp198 hI => ?_)
        subst hp198
        refine lv_aload_n F.1 F.2.1 dL_law_201 rfl (lv_at hl 1 rfl) ?_
        refine lm_callv (n := 0) (rest := []) (av := []) F hI (fun A => metX1_start l g am dm A w) (lw_V q260 q261 q262 q26 q263) (by decide +kernel) ⟨Nat.le_of_ble_eq_true rfl, Nat.le_of_ble_eq_true rfl⟩ ⟨rfl, rfl⟩ ⟨Nat.le_of_ble_eq_true rfl, Nat.le_of_ble_eq_true rfl⟩ rfl hl.1 rfl (Nat.le_of_ble_eq_true rfl) dL_law_202 (fun u202 H locs hp202 hI => ?_)
        subst hp202
        have hLR := LR_start hLR
        refine lv_goto (tgt := 316) F.1 F.2.1 dL_law_205 (by decide) ?_
        refine lv_iinc (v := nI (q + 4)) (lv' := [(3, .int (nI (q + 4))), (2, .ref (am 0)), (1, .ref (ax 0)), (0, .ref b)]) F.1 F.2.1 dL_law_316 hl (k := 0) rfl (n_inc4 _) (by decide) rfl (fun ls hl => ?_)
        refine lv_goto (tgt := 18) F.1 F.2.1 dL_law_319 (by decide) ?_
        exact ih (q + 4) (xs (xs (xs (xs u 5 0) 6 0) 8 0) 7 0) (xs (xs (xs (xs w 4 0) 6 0) 7 0) 8 0) H locs ls (by omega) (by omega) hLR hI (lv_sub hl [0, 1, 2, 3] rfl)
      · refine lv_tableIn (off := 176) (tgt := 208) F.1 F.2.1 dL_law_32 (by decide) (by decide) (by decide) (by decide) ?_
        refine lv_aload_n F.1 F.2.1 dL_law_208 rfl (lv_at hl 2 rfl) ?_
        refine lv_aload_n F.1 F.2.1 dL_law_209 rfl (lv_at hl 3 rfl) ?_
        refine lv_iload_n F.1 F.2.1 dL_law_210 rfl (lv_at hl 0 rfl) ?_
        refine lv_iconst (v := nI 1) F.1 F.2.1 dL_law_211 (by decide) ?_
        refine n_iadd F dL_law_212 ?_
        refine l_sld (q := q + 1) F hX hbl hbA hI.2.2.2.2.2.2.2 (by omega) hL dL_law_213 ?_
        refine lx_calli (n := 1) (rest := []) (av := [.int (sc (q + 1))]) F hI (fun A => metX0_run l g ax dx A u (sc (q + 1)) hLR.2.2.2.1 hLR.2.2.2.2.1 hLR.2.2.2.2.2.1) (lw_V q126 q127 q128 q25 q129) (by decide +kernel) ⟨Nat.le_of_ble_eq_true rfl, Nat.le_of_ble_eq_true rfl⟩ ⟨rfl, rfl⟩ ⟨Nat.le_of_ble_eq_true rfl, Nat.le_of_ble_eq_true rfl⟩ rfl hl.1 rfl (Nat.le_of_ble_eq_true rfl) dL_law_214 (fun r214 u214 H locs hp214 hI => ?_)
        refine lv_aload_n F.1 F.2.1 dL_law_217 rfl (lv_at hl 1 rfl) ?_
        refine lv_aload_n F.1 F.2.1 dL_law_218 rfl (lv_at hl 3 rfl) ?_
        refine lv_iload_n F.1 F.2.1 dL_law_219 rfl (lv_at hl 0 rfl) ?_
        refine lv_iconst (v := nI 1) F.1 F.2.1 dL_law_220 (by decide) ?_
        refine n_iadd F dL_law_221 ?_
        refine l_sld (q := q + 1) F hX hbl hbA hI.2.2.2.2.2.2.2 (by omega) hL dL_law_222 ?_
        refine lm_calli (n := 1) (rest := [.int r214]) (av := [.int (sc (q + 1))]) F hI (fun A => metX1_run l g am dm A w (sc (q + 1)) (by rw [hLR.1, hLR.2.1, hLR.2.2.1]; exact hLR.2.2.2.1) (tOK_eq hLR.2.2.2.2.2.2 hLR.2.2.2.2.2.1)) (lw_V q264 q265 q266 q26 q267) (by decide +kernel) ⟨Nat.le_of_ble_eq_true rfl, Nat.le_of_ble_eq_true rfl⟩ ⟨rfl, rfl⟩ ⟨Nat.le_of_ble_eq_true rfl, Nat.le_of_ble_eq_true rfl⟩ rfl hl.1 rfl (Nat.le_of_ble_eq_true rfl) dL_law_223 (fun r223 u223 H locs hp223 hI => ?_)
        obtain ⟨hreq, hLR⟩ := LR_run hLR hp214 hp223
        refine t_icmp_eq (tgt := 316) F rfl rfl dL_law_226 (by decide) (fun b_226 => ?_) (fun b_226 => absurd b_226 (by simp [hreq]))
        refine lv_iinc (v := nI (q + 4)) (lv' := [(3, .int (nI (q + 4))), (2, .ref (am 0)), (1, .ref (ax 0)), (0, .ref b)]) F.1 F.2.1 dL_law_316 hl (k := 0) rfl (n_inc4 _) (by decide) rfl (fun ls hl => ?_)
        refine lv_goto (tgt := 18) F.1 F.2.1 dL_law_319 (by decide) ?_
        exact ih (q + 4) u214 u223 H locs ls (by omega) (by omega) hLR hI (lv_sub hl [0, 1, 2, 3] rfl)
      · refine lv_tableIn (off := 199) (tgt := 231) F.1 F.2.1 dL_law_32 (by decide) (by decide) (by decide) (by decide) ?_
        refine lv_aload_n F.1 F.2.1 dL_law_231 rfl (lv_at hl 2 rfl) ?_
        refine lx_calli (n := 0) (rest := []) (av := []) F hI (fun A => metX0_depth l g ax dx A u) (lw_V q190 q191 q192 q25 q193) (by decide +kernel) ⟨Nat.le_of_ble_eq_true rfl, Nat.le_of_ble_eq_true rfl⟩ ⟨rfl, rfl⟩ ⟨Nat.le_of_ble_eq_true rfl, Nat.le_of_ble_eq_true rfl⟩ rfl hl.1 rfl (Nat.le_of_ble_eq_true rfl) dL_law_232 (fun r232 u232 H locs hp232 hI => ?_)
        rw [hp232.1] at hI
        refine lv_aload_n F.1 F.2.1 dL_law_235 rfl (lv_at hl 1 rfl) ?_
        refine lm_calli (n := 0) (rest := [.int r232]) (av := []) F hI (fun A => metX1_depth l g am dm A w) (lw_V q292 q293 q294 q26 q295) (by decide +kernel) ⟨Nat.le_of_ble_eq_true rfl, Nat.le_of_ble_eq_true rfl⟩ ⟨rfl, rfl⟩ ⟨Nat.le_of_ble_eq_true rfl, Nat.le_of_ble_eq_true rfl⟩ rfl hl.1 rfl (Nat.le_of_ble_eq_true rfl) dL_law_236 (fun r236 u236 H locs hp236 hI => ?_)
        rw [hp236.1] at hI
        have hreq : r232 = r236 := by rw [hp232.2, hp236.2, (LR_h hLR).1]
        refine t_icmp_eq (tgt := 316) F rfl rfl dL_law_239 (by decide) (fun b_239 => ?_) (fun b_239 => absurd b_239 (by simp [hreq]))
        refine lv_iinc (v := nI (q + 4)) (lv' := [(3, .int (nI (q + 4))), (2, .ref (am 0)), (1, .ref (ax 0)), (0, .ref b)]) F.1 F.2.1 dL_law_316 hl (k := 0) rfl (n_inc4 _) (by decide) rfl (fun ls hl => ?_)
        refine lv_goto (tgt := 18) F.1 F.2.1 dL_law_319 (by decide) ?_
        exact ih (q + 4) u w H locs ls (by omega) (by omega) hLR hI (lv_sub hl [0, 1, 2, 3] rfl)
      · refine lv_tableIn (off := 212) (tgt := 244) F.1 F.2.1 dL_law_32 (by decide) (by decide) (by decide) (by decide) ?_
        refine lv_aload_n F.1 F.2.1 dL_law_244 rfl (lv_at hl 2 rfl) ?_
        refine lv_aload_n F.1 F.2.1 dL_law_245 rfl (lv_at hl 3 rfl) ?_
        refine lv_iload_n F.1 F.2.1 dL_law_246 rfl (lv_at hl 0 rfl) ?_
        refine lv_iconst (v := nI 1) F.1 F.2.1 dL_law_247 (by decide) ?_
        refine n_iadd F dL_law_248 ?_
        refine l_sld (q := q + 1) F hX hbl hbA hI.2.2.2.2.2.2.2 (by omega) hL dL_law_249 ?_
        refine lx_calli (n := 1) (rest := []) (av := [.int (sc (q + 1))]) F hI (fun A => metX0_st l g ax dx A u (sc (q + 1)) (LR_h hLR).2.2.2) (lw_V q194 q195 q196 q25 q197) (by decide +kernel) ⟨Nat.le_of_ble_eq_true rfl, Nat.le_of_ble_eq_true rfl⟩ ⟨rfl, rfl⟩ ⟨Nat.le_of_ble_eq_true rfl, Nat.le_of_ble_eq_true rfl⟩ rfl hl.1 rfl (Nat.le_of_ble_eq_true rfl) dL_law_250 (fun r250 u250 H locs hp250 hI => ?_)
        rw [hp250.1] at hI
        refine lv_aload_n F.1 F.2.1 dL_law_253 rfl (lv_at hl 1 rfl) ?_
        refine lv_aload_n F.1 F.2.1 dL_law_254 rfl (lv_at hl 3 rfl) ?_
        refine lv_iload_n F.1 F.2.1 dL_law_255 rfl (lv_at hl 0 rfl) ?_
        refine lv_iconst (v := nI 1) F.1 F.2.1 dL_law_256 (by decide) ?_
        refine n_iadd F dL_law_257 ?_
        refine l_sld (q := q + 1) F hX hbl hbA hI.2.2.2.2.2.2.2 (by omega) hL dL_law_258 ?_
        refine lm_calli (n := 1) (rest := [.int r250]) (av := [.int (sc (q + 1))]) F hI (fun A => metX1_st l g am dm A w (sc (q + 1)) (by rw [(LR_h hLR).1]; exact (LR_h hLR).2.2.2)) (lw_V q296 q297 q298 q26 q299) (by decide +kernel) ⟨Nat.le_of_ble_eq_true rfl, Nat.le_of_ble_eq_true rfl⟩ ⟨rfl, rfl⟩ ⟨Nat.le_of_ble_eq_true rfl, Nat.le_of_ble_eq_true rfl⟩ rfl hl.1 rfl (Nat.le_of_ble_eq_true rfl) dL_law_259 (fun r259 u259 H locs hp259 hI => ?_)
        rw [hp259.1] at hI
        have hreq := LR_st hLR hp250.2 hp259.2
        refine t_icmp_eq (tgt := 316) F rfl rfl dL_law_262 (by decide) (fun b_262 => ?_) (fun b_262 => absurd b_262 (by simp [hreq]))
        refine lv_iinc (v := nI (q + 4)) (lv' := [(3, .int (nI (q + 4))), (2, .ref (am 0)), (1, .ref (ax 0)), (0, .ref b)]) F.1 F.2.1 dL_law_316 hl (k := 0) rfl (n_inc4 _) (by decide) rfl (fun ls hl => ?_)
        refine lv_goto (tgt := 18) F.1 F.2.1 dL_law_319 (by decide) ?_
        exact ih (q + 4) u w H locs ls (by omega) (by omega) hLR hI (lv_sub hl [0, 1, 2, 3] rfl)
      · refine lv_tableIn (off := 235) (tgt := 267) F.1 F.2.1 dL_law_32 (by decide) (by decide) (by decide) (by decide) ?_
        refine lv_aload_n F.1 F.2.1 dL_law_267 rfl (lv_at hl 2 rfl) ?_
        refine lv_aload_n F.1 F.2.1 dL_law_268 rfl (lv_at hl 3 rfl) ?_
        refine lv_iload_n F.1 F.2.1 dL_law_269 rfl (lv_at hl 0 rfl) ?_
        refine lv_iconst (v := nI 1) F.1 F.2.1 dL_law_270 (by decide) ?_
        refine n_iadd F dL_law_271 ?_
        refine l_sld (q := q + 1) F hX hbl hbA hI.2.2.2.2.2.2.2 (by omega) hL dL_law_272 ?_
        refine lx_calli (n := 1) (rest := []) (av := [.int (sc (q + 1))]) F hI (fun A => metX0_memory l g ax dx A u (sc (q + 1))) (lw_V q198 q199 q200 q25 q201) (by decide +kernel) ⟨Nat.le_of_ble_eq_true rfl, Nat.le_of_ble_eq_true rfl⟩ ⟨rfl, rfl⟩ ⟨Nat.le_of_ble_eq_true rfl, Nat.le_of_ble_eq_true rfl⟩ rfl hl.1 rfl (Nat.le_of_ble_eq_true rfl) dL_law_273 (fun r273 u273 H locs hp273 hI => ?_)
        rw [hp273.1] at hI
        refine lv_aload_n F.1 F.2.1 dL_law_276 rfl (lv_at hl 1 rfl) ?_
        refine lv_aload_n F.1 F.2.1 dL_law_277 rfl (lv_at hl 3 rfl) ?_
        refine lv_iload_n F.1 F.2.1 dL_law_278 rfl (lv_at hl 0 rfl) ?_
        refine lv_iconst (v := nI 1) F.1 F.2.1 dL_law_279 (by decide) ?_
        refine n_iadd F dL_law_280 ?_
        refine l_sld (q := q + 1) F hX hbl hbA hI.2.2.2.2.2.2.2 (by omega) hL dL_law_281 ?_
        refine lm_calli (n := 1) (rest := [.int r273]) (av := [.int (sc (q + 1))]) F hI (fun A => metX1_memory l g am dm A w (sc (q + 1))) (lw_V q300 q301 q302 q26 q303) (by decide +kernel) ⟨Nat.le_of_ble_eq_true rfl, Nat.le_of_ble_eq_true rfl⟩ ⟨rfl, rfl⟩ ⟨Nat.le_of_ble_eq_true rfl, Nat.le_of_ble_eq_true rfl⟩ rfl hl.1 rfl (Nat.le_of_ble_eq_true rfl) dL_law_282 (fun r282 u282 H locs hp282 hI => ?_)
        rw [hp282.1] at hI
        have hreq := LR_mem hLR hp273.2 hp282.2
        refine t_icmp_eq (tgt := 316) F rfl rfl dL_law_285 (by decide) (fun b_285 => ?_) (fun b_285 => absurd b_285 (by simp [hreq]))
        refine lv_iinc (v := nI (q + 4)) (lv' := [(3, .int (nI (q + 4))), (2, .ref (am 0)), (1, .ref (ax 0)), (0, .ref b)]) F.1 F.2.1 dL_law_316 hl (k := 0) rfl (n_inc4 _) (by decide) rfl (fun ls hl => ?_)
        refine lv_goto (tgt := 18) F.1 F.2.1 dL_law_319 (by decide) ?_
        exact ih (q + 4) u w H locs ls (by omega) (by omega) hLR hI (lv_sub hl [0, 1, 2, 3] rfl)
      · refine lv_tableIn (off := 258) (tgt := 290) F.1 F.2.1 dL_law_32 (by decide) (by decide) (by decide) (by decide) ?_
        refine lv_aload_n F.1 F.2.1 dL_law_290 rfl (lv_at hl 2 rfl) ?_
        refine lx_calli (n := 0) (rest := []) (av := []) F hI (fun A => metX0_place l g ax dx A u) (lw_V q202 q203 q204 q25 q205) (by decide +kernel) ⟨Nat.le_of_ble_eq_true rfl, Nat.le_of_ble_eq_true rfl⟩ ⟨rfl, rfl⟩ ⟨Nat.le_of_ble_eq_true rfl, Nat.le_of_ble_eq_true rfl⟩ rfl hl.1 rfl (Nat.le_of_ble_eq_true rfl) dL_law_291 (fun r291 u291 H locs hp291 hI => ?_)
        rw [hp291.1] at hI
        refine lv_aload_n F.1 F.2.1 dL_law_294 rfl (lv_at hl 1 rfl) ?_
        refine lm_calli (n := 0) (rest := [.int r291]) (av := []) F hI (fun A => metX1_place l g am dm A w) (lw_V q304 q305 q306 q26 q307) (by decide +kernel) ⟨Nat.le_of_ble_eq_true rfl, Nat.le_of_ble_eq_true rfl⟩ ⟨rfl, rfl⟩ ⟨Nat.le_of_ble_eq_true rfl, Nat.le_of_ble_eq_true rfl⟩ rfl hl.1 rfl (Nat.le_of_ble_eq_true rfl) dL_law_295 (fun r295 u295 H locs hp295 hI => ?_)
        rw [hp295.1] at hI
        have hreq : r291 = r295 := by rw [hp291.2, hp295.2, (LR_h hLR).2.1]
        refine t_icmp_eq (tgt := 316) F rfl rfl dL_law_298 (by decide) (fun b_298 => ?_) (fun b_298 => absurd b_298 (by simp [hreq]))
        refine lv_iinc (v := nI (q + 4)) (lv' := [(3, .int (nI (q + 4))), (2, .ref (am 0)), (1, .ref (ax 0)), (0, .ref b)]) F.1 F.2.1 dL_law_316 hl (k := 0) rfl (n_inc4 _) (by decide) rfl (fun ls hl => ?_)
        refine lv_goto (tgt := 18) F.1 F.2.1 dL_law_319 (by decide) ?_
        exact ih (q + 4) u w H locs ls (by omega) (by omega) hLR hI (lv_sub hl [0, 1, 2, 3] rfl)
      · refine lv_tableIn (off := 271) (tgt := 303) F.1 F.2.1 dL_law_32 (by decide) (by decide) (by decide) (by decide) ?_
        refine lv_aload_n F.1 F.2.1 dL_law_303 rfl (lv_at hl 2 rfl) ?_
        refine lx_calli (n := 0) (rest := []) (av := []) F hI (fun A => metX0_executed l g ax dx A u) (lw_V q206 q207 q208 q25 q209) (by decide +kernel) ⟨Nat.le_of_ble_eq_true rfl, Nat.le_of_ble_eq_true rfl⟩ ⟨rfl, rfl⟩ ⟨Nat.le_of_ble_eq_true rfl, Nat.le_of_ble_eq_true rfl⟩ rfl hl.1 rfl (Nat.le_of_ble_eq_true rfl) dL_law_304 (fun r304 u304 H locs hp304 hI => ?_)
        rw [hp304.1] at hI
        refine lv_aload_n F.1 F.2.1 dL_law_307 rfl (lv_at hl 1 rfl) ?_
        refine lm_calli (n := 0) (rest := [.int r304]) (av := []) F hI (fun A => metX1_executed l g am dm A w) (lw_V q308 q309 q310 q26 q311) (by decide +kernel) ⟨Nat.le_of_ble_eq_true rfl, Nat.le_of_ble_eq_true rfl⟩ ⟨rfl, rfl⟩ ⟨Nat.le_of_ble_eq_true rfl, Nat.le_of_ble_eq_true rfl⟩ rfl hl.1 rfl (Nat.le_of_ble_eq_true rfl) dL_law_308 (fun r308 u308 H locs hp308 hI => ?_)
        rw [hp308.1] at hI
        have hreq : r304 = r308 := by rw [hp304.2, hp308.2, (LR_h hLR).2.2.1]
        refine t_icmp_eq (tgt := 316) F rfl rfl dL_law_311 (by decide) (fun b_311 => ?_) (fun b_311 => absurd b_311 (by simp [hreq]))
        refine lv_iinc (v := nI (q + 4)) (lv' := [(3, .int (nI (q + 4))), (2, .ref (am 0)), (1, .ref (ax 0)), (0, .ref b)]) F.1 F.2.1 dL_law_316 hl (k := 0) rfl (n_inc4 _) (by decide) rfl (fun ls hl => ?_)
        refine lv_goto (tgt := 18) F.1 F.2.1 dL_law_319 (by decide) ?_
        exact ih (q + 4) u w H locs ls (by omega) (by omega) hLR hI (lv_sub hl [0, 1, 2, 3] rfl)
      · refine lv_tableOut (tgt := 316) F.1 F.2.1 dL_law_32 (Or.inr (by rw [nI_toInt (by omega)]; omega)) (by decide) ?_
        refine lv_iinc (v := nI (q + 4)) (lv' := [(3, .int (nI (q + 4))), (2, .ref (am 0)), (1, .ref (ax 0)), (0, .ref b)]) F.1 F.2.1 dL_law_316 hl (k := 0) rfl (n_inc4 _) (by decide) rfl (fun ls hl => ?_)
        refine lv_goto (tgt := 18) F.1 F.2.1 dL_law_319 (by decide) ?_
        exact ih (q + 4) u w H locs ls (by omega) (by omega) hLR hI (lv_sub hl [0, 1, 2, 3] rfl)
end
section
set_option maxRecDepth 100000
set_option maxHeartbeats 8000000 in
set_option maxRecDepth 100000 in
/-- from the entry, for every script of at most 256 ints, the law comes to its end with true -/
theorem whole_start {p : Program} {e : Env} {s : State} {m : MethodId} {below : List Frame} {meth : Method} {c : Code} (l : Launch) {b L : Nat} {xs : Nat → Int32} (hL : L ≤ 256) (C0 : lw_At p s m meth c b L xs) : W p l e room_1 s m #[Value.ref b] below meth c s.heap [] 0 0 (lw_Z below #[Value.ref b] s) (entryFrame m ([Value.ref b] : List Value).toArray 4) := by
  obtain ⟨hx, hb, hr, hml, hown, hts0, hX, hbl, hlocks, hgv⟩ := id C0
  have hts : ∀ w ∈ lw_all, w.before #[Value.ref b] s = true := fun w h => hts0 w (lw_all_tbl h)
  have F : CallFix p m c code 4 s #[Value.ref b] lw_all R_law := ⟨hx, hb, hml, hown, hts⟩
  have hA : ∀ q : Nat, s.heap.size ≤ q → AL s q := fun _ h => h
  obtain ⟨c0_, iS0, hKn0⟩ := u_known (C := RX0) (T := TX0) (N := 21) (n := 21) hts in_X0 (hts _ q28)
  obtain ⟨c1_, iS1, hKn1⟩ := u_known (C := RX1) (T := TX1) (N := 9) (n := 9) hts in_X1 (hts _ q211)
  obtain ⟨dC, dI, hKc⟩ : ∃ (dC : Nat → ClassId) (dI : Nat → Nat → Nat), ∀ (k : Nat) (q : vw_C), vwCl[k]? = some q → u_Kn s q.1 q.2.1 q.2.2 (dC k) (dI k) := by
    refine ⟨fun k => if k = 0 then c0_ else c1_, fun k => if k = 0 then iS0 else iS1, ?_⟩
    intro k q hq
    match k, hq with
    | 0, hq => cases hq; exact hKn0
    | 1, hq => cases hq; exact hKn1
    | k + 2, hq => simp [vwCl] at hq
  have hS : va_S (AL s) s.heap s.heap [] := va_S.rf
  have hK : va_K (dC, dI) vwCl [] s := ⟨hKc, fun k q h => by simp at h⟩
  have hP : va_P (dC, dI) vwCl [] s.heap := fun k q h => by simp at h
  have hD : va_D (AL s) [] := ⟨fun i j p q h => by simp at h, fun k q h => by simp at h⟩
  have hl := lv_entry ([.ref b]) (n := 4) (Nat.le_of_ble_eq_true rfl)
  rw [lg_entry_eq]
  generalize (lg_sl ([.ref b]) ++ List.replicate (4 - (lg_sl ([.ref b])).length) Slot.unset).toArray = ls at hl ⊢
  have hl : lv_has ls 4 [(0, .ref b)] := hl
  refine va_new (ci := 0) (fs := xZ) (C := RX0) (T := TX0) (N := 21) hx hb hts in_X0 tyX0 tyX0_ok hown (hts _ q27) (hts _ q28) (hts _ q25) hK hP hD hS hA rfl (fun j hj => by rcases (show j = 0 ∨ j = 1 ∨ j = 2 ∨ j = 3 ∨ j = 4 ∨ j = 5 ∨ j = 6 ∨ j = 7 ∨ j = 8 ∨ j = 9 ∨ j = 10 ∨ j = 11 ∨ j = 12 ∨ j = 13 ∨ j = 14 ∨ j = 15 ∨ j = 16 ∨ j = 17 ∨ j = 18 ∨ j = 19 ∨ j = 20 by omega) with rfl | rfl | rfl | rfl | rfl | rfl | rfl | rfl | rfl | rfl | rfl | rfl | rfl | rfl | rfl | rfl | rfl | rfl | rfl | rfl | rfl <;> rfl) (Nat.le_of_ble_eq_true rfl) (Nat.le_of_ble_eq_true rfl) dL_law_0 (fun qx H hP hD hS => ?_)
  have hP : va_P (dC, dI) vwCl [(qx, .inr (0, xZ))] H := hP
  have hD : va_D (AL s) [(qx, .inr (0, xZ))] := hD
  refine W.widen (k := 1) (n := 21) (by decide) (by decide) ?_
  refine lv_dup hx hb dL_law_3 rfl ?_
  have hFc := va_free (wc := [(qx, .inr (0, xZ))]) hD hS hA [0] rfl
  refine va_callv (va_runI (As := []) (rest := [.ref qx]) F (metX0_init l (dC, dI) qx H.size) (cwI 0 hts (lw_meth q31) rfl rfl rfl (hts _ q25) (hts _ q29) (hts _ q30) rfl (by decide +kernel) ⟨Nat.le_of_ble_eq_true rfl, Nat.le_of_ble_eq_true rfl⟩) ⟨fun a U g mk q => by obtain ⟨q0, q1, qP, qK, qD⟩ := q; exact ⟨q0, q1, qP, va_K.moved (u := U) (U := U.calling g mk a) (Vm.Alike.refl U.vm) qK, qD⟩, fun U hU hW => ⟨rfl, by rw [hU], by rw [hU]; exact hP, va_K.moved hW.alike hK, hD.weaken (fun _ _ _ _ => trivial)⟩⟩ rfl rfl hl.1 rfl (lv_room (Nat.le_of_ble_eq_true rfl)) dL_law_4 ⟨Nat.le_of_ble_eq_true rfl, Nat.le_of_ble_eq_true rfl⟩) hS (fun q _ h => hFc q h) hFc (fun z t H1 locs ht hvm hw hB hz1 hk1 hS => ?_)
  obtain ⟨ax, dx, u⟩ := z
  obtain ⟨hax, hfg⟩ := hw
  have hax : ax 0 = qx := hax
  subst hax
  obtain ⟨hKx, hPx, hDx⟩ := hB
  rw [ht] at hPx
  have hKx : va_K (dC, dI) vwCl (xT dx) s := va_K.moved hvm.symm hKx
  have hDx : va_D (AL s) (xW ax dx u) := hDx.weaken (fun _ _ _ h => hFc _ h)
  have hPx : va_P (dC, dI) vwCl (xW ax dx u) H1 := hPx
  refine W.widen (k := 14) (n := 3112) (by decide) (by decide) ?_
  refine lv_astore_n (lv' := [(1, .ref (ax 0)), (0, .ref b)]) hx hb dL_law_7 rfl hl (by decide) rfl (fun ls hl => ?_)
  refine va_new (ci := 1) (fs := mZ) (C := RX1) (T := TX1) (N := 9) hx hb hts in_X1 tyX1 tyX1_ok hown (hts _ q210) (hts _ q211) (hts _ q26) hKx hPx hDx hS hA rfl (fun j hj => by rcases (show j = 0 ∨ j = 1 ∨ j = 2 ∨ j = 3 ∨ j = 4 ∨ j = 5 ∨ j = 6 ∨ j = 7 ∨ j = 8 by omega) with rfl | rfl | rfl | rfl | rfl | rfl | rfl | rfl | rfl <;> rfl) (Nat.le_of_ble_eq_true rfl) (Nat.le_of_ble_eq_true rfl) dL_law_8 (fun qm H hP hD hS => ?_)
  refine W.widen (k := 15) (n := 3121) (by decide) (by decide) ?_
  refine lv_dup hx hb dL_law_11 rfl ?_
  have hPc := hP.sub (ws' := [(qm, .inr (1, mZ))]) [14] rfl
  have hDc := hD.sub (ws' := [(qm, .inr (1, mZ))]) [14] (by decide) rfl
  have hFc := va_free (wc := [(qm, .inr (1, mZ))]) hD hS hA [14] rfl
  refine va_callv (va_runI (As := []) (rest := [.ref qm]) F (metX1_init l (dC, dI) qm H.size) (cwI 0 hts (lw_meth q214) rfl rfl rfl (hts _ q26) (hts _ q212) (hts _ q213) rfl (by decide +kernel) ⟨Nat.le_of_ble_eq_true rfl, Nat.le_of_ble_eq_true rfl⟩) ⟨fun a U g mk q => by obtain ⟨q0, q1, qP, qK, qD⟩ := q; exact ⟨q0, q1, qP, va_K.moved (u := U) (U := U.calling g mk a) (Vm.Alike.refl U.vm) qK, qD⟩, fun U hU hW => ⟨rfl, by rw [hU], by rw [hU]; exact hPc, va_K.moved hW.alike hK, hDc.weaken (fun _ _ _ _ => trivial)⟩⟩ rfl rfl hl.1 rfl (lv_room (Nat.le_of_ble_eq_true rfl)) dL_law_12 ⟨Nat.le_of_ble_eq_true rfl, Nat.le_of_ble_eq_true rfl⟩) hS (fun q _ h => hFc q h) hFc (fun z t H1 locs ht hvm hw hB hz1 hk1 hS => ?_)
  obtain ⟨am, dm, w⟩ := z
  obtain ⟨ham, hw0⟩ := hw
  have ham : am 0 = qm := ham
  have hw0 : w = u0 := hw0
  subst ham
  subst hw0
  obtain ⟨hKm, hPm, hDm⟩ := hB
  rw [ht] at hPm
  have hKm : va_K (dC, dI) vwCl (mT dm) s := va_K.moved hvm.symm hKm
  obtain ⟨hP, hD⟩ := va_join (wr := xW ax dx u) (w1 := mW am dm u0) hP hD [14] [0, 1, 2, 3, 4, 5, 6, 7, 8, 9, 10, 11, 12, 13] rfl rfl (by decide) (by decide) hk1 hFc hPm hDm
  obtain ⟨hPx, hPm⟩ := P_split hP
  obtain ⟨hDx, hDm, hap⟩ := D_split hD
  refine W.widen (k := 19) (n := 3201) (by decide) (by decide) ?_
  refine lv_astore_n (lv' := [(2, .ref (am 0)), (1, .ref (ax 0)), (0, .ref b)]) hx hb dL_law_15 rfl hl (by decide) rfl (fun ls hl => ?_)
  refine lv_iconst (v := nI 0) hx hb dL_law_16 (by decide) ?_
  refine lv_istore_n (lv' := [(3, .int (nI 0)), (2, .ref (am 0)), (1, .ref (ax 0)), (0, .ref b)]) hx hb dL_law_17 rfl hl (by decide) rfl (fun ls hl => ?_)
  exact law_loop (g := (dC, dI)) hL C0 65 0 u u0 H1 locs ls (by omega) (by omega) (LR_0 hfg) ⟨hKx, hKm, hPx, hPm, hDx, hDm, hap, hS⟩ hl
set_option maxHeartbeats 4000000 in
theorem lw_walk (l : Launch) (b : Addr) (xs : List Int32) : MetFree l x (headSpec (Jvm.Cond.code x code maxLocals ret :: tables_1) room_1) (lw_P b xs) (fun _ _ _ _ _ => True) lw_Q := by
  refine MetFree.of_bodyS (code := code) (maxLocals := maxLocals) (ret := ret) (by decide) ?_ ?_
  · intro args s m h hn
    obtain ⟨meth, c, h1, h2, h3, h4, h5, h6, -, -⟩ := Cond.code_spec hn (atoms_spec (ws := Jvm.Cond.code x code maxLocals ret :: tables_1) h _ List.mem_cons_self)
    exact ⟨meth, c, h1, h2, h3, h4, h5, h6⟩
  · intro p e s m args below meth c s₁ B hml0 hP _
    obtain ⟨rfl, hx, hbd, hgv⟩ := hP
    obtain ⟨scr, harrAt, hlist, hof, hsmall⟩ := hx
    obtain ⟨hcb, hkn, -, -⟩ := State.arrayAt?_spec harrAt
    have hown : s.vm.findClass R_law = some m.cls := findClass_of_methodNamed B.named
    have hts0 : ∀ c ∈ (Jvm.Cond.code x code maxLocals ret :: tables_1), c.before #[Value.ref b] s = true := atoms_spec (ws := Jvm.Cond.code x code maxLocals ret :: tables_1) B.pre
    have hts : ∀ w ∈ lw_tbl, w.before #[Value.ref b] s = true := k2_hts_sels lw_privs (fun w hw => hts0 w (List.mem_cons_of_mem _ hw)) lw_privs_ok
    have hml : c.maxLocals = 4 := B.maxLocals_eq (hts0 _ List.mem_cons_self)
    have X₀ : Stand p l e room_1 s m #[Value.ref b] below meth c s₁ [] 0 0 := Stand.of_body B
    have hh0 : s₁.heap = s.heap := by rw [B.state]; rfl
    have hsz : scr.slots.size = xs.length := by rw [← Array.length_toList, hlist, List.length_map]
    have hval : ∀ j : Nat, j < xs.length → scr.slots[j]? = some (.int (xs.getD j 0)) := fun j hj => by
      rw [← Array.getElem?_toList, hlist]
      simp [hj]
    have hbl : b < s.heap.size := (Array.getElem?_eq_some_iff.mp hcb).1
    have hX : va_X b xs.length (fun j => xs.getD j 0) s s.heap := ⟨scr, hcb, hof, hkn, hsz, hval⟩
    have K : W p l e room_1 s m #[Value.ref b] below meth c s₁.heap [] 0 0 (lw_Z below #[Value.ref b] s) (entryFrame m ([Value.ref b] : List Value).toArray 4) := by
      rw [hh0]
      exact whole_start l hbd ⟨B.exec, B.bytes, B.returns, hml, hown, hts, hX, hbl, B.notSynchronized, hgv⟩
    obtain ⟨t, a1, o, b1, b2, b3⟩ := K s₁ rfl X₀
    exact ⟨t, o, a1, b1, b2, b3⟩
theorem lw_pre_spec {args : Array Value} {s : State} (h : (Jvm.Cond.and given_1 narrow_1).before args s = true) (hr : rest_1_c.before args s = true) : ∃ (b : Addr) (xs : List Int32), lw_P b xs args s := by
  have hs := flat_of_before _ h
  have hq := flat_of_before _ hr
  have hc : (Cond.count 1).before args s = true := hs _ (by decide +kernel)
  have harr : (Cond.arrayOf (.arg 0) .int).before args s = true := hs _ (by decide +kernel)
  have hle : (Cond.le (.length (.arg 0)) (.int 256)).before args s = true := hs _ (by decide +kernel)
  have hlen : (Cond.isInt (.length (.arg 0))).before args s = true := hq _ (by decide +kernel)
  have hall : (Cond.all (.arg 0) (.isInt (.elem (.arg 0) (.index 0)))).before args s = true := hq _ (by decide +kernel)
  obtain ⟨b, xs, hb, hx⟩ := State.ints_of_pre rfl harr hlen hall
  have hsm : xs.length < 2 ^ 31 := hx.choose_spec.2.2.2
  have hev : (Term.length (.arg 0)).eval args s none [] s = some (.int xs.length.toInt32) := hx.length_eval hb
  have hv := Cond.le_ints hev (show (Term.int 256).eval args s none [] s = some (.int 256) from rfl)
  have hd : xs.length.toInt32 ≤ 256 := by
    simpa [Cond.before, Cond.holds, hv] using hle
  have hN : xs.length ≤ 256 := (Int32.ofNat_le_ofNat hsm (by decide)).mp (show Int32.ofNat xs.length ≤ Int32.ofNat 256 from hd)
  exact ⟨b, xs, Cond.one_arg hc (show args[0]? = some (.ref b) from hb), hx, hN, h⟩
theorem lw_comes (l : Launch) : Comes l x (Jvm.Cond.code x code maxLocals ret :: tables_1) room_1 (fun tb e args s => Calls_1 tb e args s ∧ rest_1 tb e args s ∧ Pre_1 tb e args s)
    (fun _ _ args s o t => lw_Q args s o t) := by
  intro p e ha hc hk s m args below hf hfit hheap happ hpre
  obtain ⟨b, xs, hP⟩ := lw_pre_spec hpre.2.2 hpre.2.1
  obtain ⟨k, o, h1, h2, h3, hQ⟩ := lw_walk l b xs p e ha hc hk s m args below hf ((Spec.applies_iff_loose hf).mp happ).1 hP trivial
  exact ⟨k, o, h1, h2, h3, hQ⟩
theorem lw_frame {s t : State} {o : Outcome} {args : Array Value} (h : Framed s o t [] 600000 7290000) :
    Framed s o t (fieldLocs frame_1_writes args s ++ arrayLocs frame_1_arrays args s ++ staticLocs frame_1_statics s) 600000 7290000 := h
theorem lw_limb (L : Cond) (hL : ∀ (args : Array Value) (s t : State), L.after args s (.returned (some (.int 1))) t = true) :
    ArmFor flags0 classFile x code maxLocals ret World_1 tables_1 room_1 Calls_1 rest_1 Pre_1
      (fun tb e a s o t => postC L tb e a s o t ∧ Framed s o t (fieldLocs frame_1_writes a s ++ arrayLocs frame_1_arrays a s ++ staticLocs frame_1_statics s) 600000 7290000) := by
  intro l _ _ _ p e ha hc hk s m args below hf hfit hheap happ hpre
  obtain ⟨k, o, h1, h2, h3, rfl, hF⟩ := lw_comes l p e ha hc hk s m args below hf hfit hheap happ hpre
  exact ⟨k, _, h1, h2, h3, hL args s _, lw_frame hF⟩
theorem i_vc : Claimed_1_1 ∧ Claimed_1_2 := ⟨lw_limb limb_1_1 (fun args s t => by simp [limb_1_1, Cond.after, Cond.holds, Cond.value]), lw_limb limb_1_2 (fun args s t => Cond.after_iff.mpr (by
  first | (rw [show limb_1_2 = Cond.eq .result (.int 1) from rfl, Cond.eq_ints (x := 1) (y := 1) rfl rfl]; simp; done) | (simp [limb_1_2, Cond.value, Term.eval]; done)))⟩
end
