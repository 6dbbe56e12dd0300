section
-- ===== PART A: goes FIRST, ahead of the names: the tables' words, and 'selects' of the private methods out of them =====
/-- a private method of a class that the tables say can be made, by its rows of tables_1 -/
def lw_okq (q : MethodName × Nat) : Prop := (q.1.cls ≠ "java/lang/invoke/MethodHandle" ∧ q.1.cls ≠ "java/lang/invoke/VarHandle") ∧ Cond.instantiable q.1.cls q.2 ∈ tables_1 ∧ Cond.privateMethod q.1 ∈ tables_1 ∧ Cond.instanceMethod q.1 ∈ tables_1
set_option maxRecDepth 100000
theorem lw_t1 {w : Cond} (h : w ∈ tables_1_1) : w ∈ tables_1 := List.mem_append_left _ h
theorem lw_t2 {w : Cond} (h : w ∈ tables_1_2) : w ∈ tables_1 := List.mem_append_right _ h
theorem lw_p0 : lw_okq (⟨"TreeContract", "kindOf", "(I)I"⟩, 33) := ⟨⟨by decide +kernel, by decide +kernel⟩, lw_t1 (List.mem_of_getElem? (i := 4) rfl), lw_t1 (List.mem_of_getElem? (i := 118) rfl), lw_t1 (List.mem_of_getElem? (i := 119) rfl)⟩
theorem lw_p1 : lw_okq (⟨"TreeContract", "freeNode", "(I)I"⟩, 33) := ⟨⟨by decide +kernel, by decide +kernel⟩, lw_t1 (List.mem_of_getElem? (i := 4) rfl), lw_t1 (List.mem_of_getElem? (i := 122) rfl), lw_t1 (List.mem_of_getElem? (i := 123) rfl)⟩
theorem lw_p2 : lw_okq (⟨"TreeContract", "makeLeaf", "(II)V"⟩, 33) := ⟨⟨by decide +kernel, by decide +kernel⟩, lw_t1 (List.mem_of_getElem? (i := 4) rfl), lw_t1 (List.mem_of_getElem? (i := 126) rfl), lw_t1 (List.mem_of_getElem? (i := 127) rfl)⟩
theorem lw_p3 : lw_okq (⟨"TreeContract", "renew", "(I)V"⟩, 33) := ⟨⟨by decide +kernel, by decide +kernel⟩, lw_t1 (List.mem_of_getElem? (i := 4) rfl), lw_t1 (List.mem_of_getElem? (i := 141) rfl), lw_t1 (List.mem_of_getElem? (i := 142) rfl)⟩
theorem lw_p4 : lw_okq (⟨"TreeContract", "workOut", "(I)V"⟩, 33) := ⟨⟨by decide +kernel, by decide +kernel⟩, lw_t1 (List.mem_of_getElem? (i := 4) rfl), lw_t1 (List.mem_of_getElem? (i := 145) rfl), lw_t1 (List.mem_of_getElem? (i := 146) rfl)⟩
theorem lw_p5 : lw_okq (⟨"TreeContract", "leafValue", "(I)I"⟩, 33) := ⟨⟨by decide +kernel, by decide +kernel⟩, lw_t1 (List.mem_of_getElem? (i := 4) rfl), lw_t1 (List.mem_of_getElem? (i := 149) rfl), lw_t1 (List.mem_of_getElem? (i := 150) rfl)⟩
theorem lw_p6 : lw_okq (⟨"TreeContract", "fixLeaf", "(III)V"⟩, 33) := ⟨⟨by decide +kernel, by decide +kernel⟩, lw_t1 (List.mem_of_getElem? (i := 4) rfl), lw_t1 (List.mem_of_getElem? (i := 153) rfl), lw_t1 (List.mem_of_getElem? (i := 154) rfl)⟩
theorem lw_p7 : lw_okq (⟨"TreeContract", "contract", "()V"⟩, 33) := ⟨⟨by decide +kernel, by decide +kernel⟩, lw_t1 (List.mem_of_getElem? (i := 4) rfl), lw_t1 (List.mem_of_getElem? (i := 169) rfl), lw_t1 (List.mem_of_getElem? (i := 170) rfl)⟩
theorem lw_p8 : lw_okq (⟨"TreeContract", "linkParents", "()V"⟩, 33) := ⟨⟨by decide +kernel, by decide +kernel⟩, lw_t1 (List.mem_of_getElem? (i := 4) rfl), lw_t1 (List.mem_of_getElem? (i := 173) rfl), lw_t1 (List.mem_of_getElem? (i := 174) rfl)⟩
theorem lw_p9 : lw_okq (⟨"TreeContract", "listLeaves", "()V"⟩, 33) := ⟨⟨by decide +kernel, by decide +kernel⟩, lw_t1 (List.mem_of_getElem? (i := 4) rfl), lw_t1 (List.mem_of_getElem? (i := 177) rfl), lw_t1 (List.mem_of_getElem? (i := 178) rfl)⟩
theorem lw_p10 : lw_okq (⟨"TreeContract", "takeLeaves", "(Z)V"⟩, 33) := ⟨⟨by decide +kernel, by decide +kernel⟩, lw_t1 (List.mem_of_getElem? (i := 4) rfl), lw_t1 (List.mem_of_getElem? (i := 181) rfl), lw_t1 (List.mem_of_getElem? (i := 182) rfl)⟩
theorem lw_p11 : lw_okq (⟨"TreeContract", "takeLeaf", "(IIZ)V"⟩, 33) := ⟨⟨by decide +kernel, by decide +kernel⟩, lw_t1 (List.mem_of_getElem? (i := 4) rfl), lw_t1 (List.mem_of_getElem? (i := 185) rfl), lw_t1 (List.mem_of_getElem? (i := 186) rfl)⟩
theorem lw_p12 : lw_okq (⟨"TreeContract", "changeStep", "(II)V"⟩, 33) := ⟨⟨by decide +kernel, by decide +kernel⟩, lw_t1 (List.mem_of_getElem? (i := 4) rfl), lw_t1 (List.mem_of_getElem? (i := 193) rfl), lw_t1 (List.mem_of_getElem? (i := 194) rfl)⟩
theorem lw_p13 : lw_okq (⟨"TreeContractModel", "isLeaf", "(I)Z"⟩, 8) := ⟨⟨by decide +kernel, by decide +kernel⟩, lw_t1 (List.mem_of_getElem? (i := 209) rfl), lw_t2 (List.mem_of_getElem? (i := 4) rfl), lw_t2 (List.mem_of_getElem? (i := 5) rfl)⟩
theorem lw_p14 : lw_okq (⟨"TreeContractModel", "nodes", "()I"⟩, 8) := ⟨⟨by decide +kernel, by decide +kernel⟩, lw_t1 (List.mem_of_getElem? (i := 209) rfl), lw_t2 (List.mem_of_getElem? (i := 8) rfl), lw_t2 (List.mem_of_getElem? (i := 9) rfl)⟩
theorem lw_p15 : lw_okq (⟨"TreeContractModel", "leaf", "(I)I"⟩, 8) := ⟨⟨by decide +kernel, by decide +kernel⟩, lw_t1 (List.mem_of_getElem? (i := 209) rfl), lw_t2 (List.mem_of_getElem? (i := 12) rfl), lw_t2 (List.mem_of_getElem? (i := 13) rfl)⟩
def lw_privs_1 : List (MethodName × Nat) := [(⟨"TreeContract", "kindOf", "(I)I"⟩, 33), (⟨"TreeContract", "freeNode", "(I)I"⟩, 33), (⟨"TreeContract", "makeLeaf", "(II)V"⟩, 33), (⟨"TreeContract", "renew", "(I)V"⟩, 33), (⟨"TreeContract", "workOut", "(I)V"⟩, 33), (⟨"TreeContract", "leafValue", "(I)I"⟩, 33), (⟨"TreeContract", "fixLeaf", "(III)V"⟩, 33), (⟨"TreeContract", "contract", "()V"⟩, 33), (⟨"TreeContract", "linkParents", "()V"⟩, 33), (⟨"TreeContract", "listLeaves", "()V"⟩, 33), (⟨"TreeContract", "takeLeaves", "(Z)V"⟩, 33), (⟨"TreeContract", "takeLeaf", "(IIZ)V"⟩, 33), (⟨"TreeContract", "changeStep", "(II)V"⟩, 33), (⟨"TreeContractModel", "isLeaf", "(I)Z"⟩, 8), (⟨"TreeContractModel", "nodes", "()I"⟩, 8), (⟨"TreeContractModel", "leaf", "(I)I"⟩, 8)]
theorem lw_r1 : ∀ q ∈ lw_privs_1, lw_okq q := List.forall_mem_cons.mpr ⟨lw_p0, List.forall_mem_cons.mpr ⟨lw_p1, List.forall_mem_cons.mpr ⟨lw_p2, List.forall_mem_cons.mpr ⟨lw_p3, List.forall_mem_cons.mpr ⟨lw_p4, List.forall_mem_cons.mpr ⟨lw_p5, List.forall_mem_cons.mpr ⟨lw_p6, List.forall_mem_cons.mpr ⟨lw_p7, List.forall_mem_cons.mpr ⟨lw_p8, List.forall_mem_cons.mpr ⟨lw_p9, List.forall_mem_cons.mpr ⟨lw_p10, List.forall_mem_cons.mpr ⟨lw_p11, List.forall_mem_cons.mpr ⟨lw_p12, List.forall_mem_cons.mpr ⟨lw_p13, List.forall_mem_cons.mpr ⟨lw_p14, List.forall_mem_cons.mpr ⟨lw_p15, fun _ h => absurd h List.not_mem_nil⟩⟩⟩⟩⟩⟩⟩⟩⟩⟩⟩⟩⟩⟩⟩⟩
theorem lw_p16 : lw_okq (⟨"TreeContractModel", "isJoint", "(I)Z"⟩, 8) := ⟨⟨by decide +kernel, by decide +kernel⟩, lw_t1 (List.mem_of_getElem? (i := 209) rfl), lw_t2 (List.mem_of_getElem? (i := 20) rfl), lw_t2 (List.mem_of_getElem? (i := 21) rfl)⟩
theorem lw_p17 : lw_okq (⟨"TreeContractModel", "evaluate", "()V"⟩, 8) := ⟨⟨by decide +kernel, by decide +kernel⟩, lw_t1 (List.mem_of_getElem? (i := 209) rfl), lw_t2 (List.mem_of_getElem? (i := 43) rfl), lw_t2 (List.mem_of_getElem? (i := 44) rfl)⟩
def lw_privs_2 : List (MethodName × Nat) := [(⟨"TreeContractModel", "isJoint", "(I)Z"⟩, 8), (⟨"TreeContractModel", "evaluate", "()V"⟩, 8)]
theorem lw_r2 : ∀ q ∈ lw_privs_2, lw_okq q := List.forall_mem_cons.mpr ⟨lw_p16, List.forall_mem_cons.mpr ⟨lw_p17, fun _ h => absurd h List.not_mem_nil⟩⟩
def lw_privs : List (MethodName × Nat) := lw_privs_1 ++ (lw_privs_2)
def lw_tbl : List Cond := k2_sels lw_privs ++ tables_1
theorem lw_privs_ok : ∀ q ∈ lw_privs, lw_okq q := by
  show ∀ q ∈ lw_privs_1 ++ (lw_privs_2), lw_okq q
  exact List.forall_mem_append.mpr ⟨lw_r1, lw_r2⟩
-- ===== ONE list of words for every method: the tables' words that hold all through a run =====
def lw_all : List Cond := lw_tbl.filter goodWord
/-- a word of the tables by its place: claim/WORDS.tsv -/
theorem lw_w {w : Cond} (i : Nat) (h : lw_tbl[i]? = some w) (g : goodWord w = true) : w ∈ lw_all := List.mem_filter.mpr ⟨List.mem_of_getElem? h, g⟩
theorem lw_all_tbl {w : Cond} (h : w ∈ lw_all) : w ∈ lw_tbl := (List.mem_filter.mp h).1
theorem lw_self : GoodIn lw_all lw_all := fun w h => ⟨h, good_of_word (List.mem_filter.mp h).2⟩
/-- a class's field words, by their places -/
theorem lw_in (ws : List Cond) (ps : List Nat) (hp : ws = ps.filterMap (fun i => lw_tbl[i]?)) (hg : ws.all goodWord = true) : ∀ w ∈ ws, w ∈ lw_all := by
  intro w h
  have h1 := List.all_eq_true.mp hg w h
  rw [hp] at h
  obtain ⟨i, -, hi⟩ := List.mem_filterMap.mp h
  exact lw_w i hi h1
/-- the words of a contract for the method y with code b, L locals, answer r -/
abbrev ws_ (y : MethodName) (b : ByteArray) (L : Nat) (r : Option FieldType) : List Cond := Cond.code y b L r :: lw_all
theorem lw_meth {y : MethodName} {b : ByteArray} {L : Nat} {r : Option FieldType} (h : Cond.code y b L r ∈ lw_all) : GoodIn lw_all (ws_ y b L r) := by
  intro w hw
  rcases List.mem_cons.mp hw with e | e
  · rw [e]
    exact lw_self _ h
  · exact lw_self _ e
theorem lw_app {a c : List Cond} (ha : ∀ w ∈ a, w ∈ lw_all) (hc : GoodIn lw_all c) : GoodIn lw_all (a ++ c) := by
  intro w hw
  rcases List.mem_append.mp hw with e | e
  · exact lw_self w (ha w e)
  · exact hc w e
/-- what a call through an object asks: cwV n hts (lw_V ..) -/
theorem lw_V {own : String} {idx : Nat} {C : String} {y : MethodName} {b : ByteArray} {L : Nat} {r : Option FieldType} (h1 : Cond.methodLink own idx y ∈ lw_all) (h2 : Cond.instanceMethod y ∈ lw_all) (h3 : Cond.selects C y y ∈ lw_all) (h4 : Cond.initialized C ∈ lw_all) (h5 : Cond.code y b L r ∈ lw_all) : GoodIn lw_all (wsV own idx C y (ws_ y b L r)) := by
  refine lw_app ?_ (lw_meth h5)
  intro w hw
  simp only [List.mem_cons, List.not_mem_nil, or_false] at hw
  rcases hw with e | e | e | e
  · rw [e]; exact h1
  · rw [e]; exact h2
  · rw [e]; exact h3
  · rw [e]; exact h4
/-- what a static call asks: va_cwS n hts (lw_S ..) -/
theorem lw_S {own : String} {idx : Nat} {y : MethodName} {b : ByteArray} {L : Nat} {r : Option FieldType} (h1 : Cond.methodLink own idx y ∈ lw_all) (h2 : Cond.static y ∈ lw_all) (h3 : Cond.initialized y.cls ∈ lw_all) (h4 : Cond.code y b L r ∈ lw_all) : GoodIn lw_all (va_wsS own idx y (ws_ y b L r)) := by
  refine lw_app ?_ (lw_meth h4)
  intro w hw
  simp only [List.mem_cons, List.not_mem_nil, or_false] at hw
  rcases hw with e | e | e
  · rw [e]; exact h1
  · rw [e]; exact h2
  · rw [e]; exact h3
/-- the words of a contract for a method WITH HANDLERS (hh: its table) -/
abbrev wsW_ (y : MethodName) (b : ByteArray) (L : Nat) (r : Option FieldType) (hh : List (Nat × Nat × Nat × Nat)) : List Cond := Cond.codeWith y b L r hh :: lw_all
theorem lw_methW {y : MethodName} {b : ByteArray} {L : Nat} {r : Option FieldType} {hh : List (Nat × Nat × Nat × Nat)} (h : Cond.codeWith y b L r hh ∈ lw_all) : GoodIn lw_all (wsW_ y b L r hh) := by
  intro w hw
  rcases List.mem_cons.mp hw with e | e
  · rw [e]
    exact lw_self _ h
  · exact lw_self _ e
/-- any list of words by their places (lw_in), good -/
theorem lw_good {ws : List Cond} (h : ∀ w ∈ ws, w ∈ lw_all) : GoodIn lw_all ws := fun w hw => lw_self w (h w hw)
/-- what a call of a method with handlers asks: vx_cwVW n hts (lw_VW ..), vx_cwSW n hts (lw_SW ..) -/
theorem lw_VW {own : String} {idx : Nat} {C : String} {y : MethodName} {b : ByteArray} {L : Nat} {r : Option FieldType} {hh : List (Nat × Nat × Nat × Nat)} (h1 : Cond.methodLink own idx y ∈ lw_all) (h2 : Cond.instanceMethod y ∈ lw_all) (h3 : Cond.selects C y y ∈ lw_all) (h4 : Cond.initialized C ∈ lw_all) (h5 : Cond.codeWith y b L r hh ∈ lw_all) : GoodIn lw_all (wsV own idx C y (wsW_ y b L r hh)) := by
  refine lw_app ?_ (lw_methW h5)
  intro w hw
  simp only [List.mem_cons, List.not_mem_nil, or_false] at hw
  rcases hw with e | e | e | e
  · rw [e]; exact h1
  · rw [e]; exact h2
  · rw [e]; exact h3
  · rw [e]; exact h4
theorem lw_SW {own : String} {idx : Nat} {y : MethodName} {b : ByteArray} {L : Nat} {r : Option FieldType} {hh : List (Nat × Nat × Nat × Nat)} (h1 : Cond.methodLink own idx y ∈ lw_all) (h2 : Cond.static y ∈ lw_all) (h3 : Cond.initialized y.cls ∈ lw_all) (h4 : Cond.codeWith y b L r hh ∈ lw_all) : GoodIn lw_all (va_wsS own idx y (wsW_ y b L r hh)) := by
  refine lw_app ?_ (lw_methW h4)
  intro w hw
  simp only [List.mem_cons, List.not_mem_nil, or_false] at hw
  rcases hw with e | e | e
  · rw [e]; exact h1
  · rw [e]; exact h2
  · rw [e]; exact h3
/-- a word by its place in its run of the tables -/
theorem lw_at {r : List Cond} (hr : ∀ w ∈ r, w ∈ lw_tbl) {w : Cond} (i : Nat) (h : r[i]? = some w) : w ∈ lw_tbl := hr w (List.mem_of_getElem? h)
theorem lw_g {w : Cond} (h : w ∈ lw_tbl) (g : goodWord w = true) : w ∈ lw_all := List.mem_filter.mpr ⟨h, g⟩
theorem lw_ms : ∀ w ∈ k2_sels lw_privs, w ∈ lw_tbl := fun w h => show w ∈ k2_sels lw_privs ++ tables_1 from List.mem_append_left _ h
theorem lw_m1 : ∀ w ∈ tables_1_1, w ∈ lw_tbl := fun w h => show w ∈ k2_sels lw_privs ++ tables_1 from List.mem_append_right (k2_sels lw_privs) (show w ∈ tables_1 from List.mem_append_left _ h)
theorem lw_m2 : ∀ w ∈ tables_1_2, w ∈ lw_tbl := fun w h => show w ∈ k2_sels lw_privs ++ tables_1 from List.mem_append_right (k2_sels lw_privs) (show w ∈ tables_1 from List.mem_append_right _ h)
theorem qs0 : (Cond.selects "TreeContract" ⟨"TreeContract", "kindOf", "(I)I"⟩ ⟨"TreeContract", "kindOf", "(I)I"⟩) ∈ lw_all := lw_g (lw_at lw_ms 0 rfl) rfl
theorem qs1 : (Cond.selects "TreeContract" ⟨"TreeContract", "freeNode", "(I)I"⟩ ⟨"TreeContract", "freeNode", "(I)I"⟩) ∈ lw_all := lw_g (lw_at lw_ms 1 rfl) rfl
theorem qs2 : (Cond.selects "TreeContract" ⟨"TreeContract", "makeLeaf", "(II)V"⟩ ⟨"TreeContract", "makeLeaf", "(II)V"⟩) ∈ lw_all := lw_g (lw_at lw_ms 2 rfl) rfl
theorem qs3 : (Cond.selects "TreeContract" ⟨"TreeContract", "renew", "(I)V"⟩ ⟨"TreeContract", "renew", "(I)V"⟩) ∈ lw_all := lw_g (lw_at lw_ms 3 rfl) rfl
theorem qs4 : (Cond.selects "TreeContract" ⟨"TreeContract", "workOut", "(I)V"⟩ ⟨"TreeContract", "workOut", "(I)V"⟩) ∈ lw_all := lw_g (lw_at lw_ms 4 rfl) rfl
theorem qs5 : (Cond.selects "TreeContract" ⟨"TreeContract", "leafValue", "(I)I"⟩ ⟨"TreeContract", "leafValue", "(I)I"⟩) ∈ lw_all := lw_g (lw_at lw_ms 5 rfl) rfl
theorem qs6 : (Cond.selects "TreeContract" ⟨"TreeContract", "fixLeaf", "(III)V"⟩ ⟨"TreeContract", "fixLeaf", "(III)V"⟩) ∈ lw_all := lw_g (lw_at lw_ms 6 rfl) rfl
theorem qs7 : (Cond.selects "TreeContract" ⟨"TreeContract", "contract", "()V"⟩ ⟨"TreeContract", "contract", "()V"⟩) ∈ lw_all := lw_g (lw_at lw_ms 7 rfl) rfl
theorem qs8 : (Cond.selects "TreeContract" ⟨"TreeContract", "linkParents", "()V"⟩ ⟨"TreeContract", "linkParents", "()V"⟩) ∈ lw_all := lw_g (lw_at lw_ms 8 rfl) rfl
theorem qs9 : (Cond.selects "TreeContract" ⟨"TreeContract", "listLeaves", "()V"⟩ ⟨"TreeContract", "listLeaves", "()V"⟩) ∈ lw_all := lw_g (lw_at lw_ms 9 rfl) rfl
theorem qs10 : (Cond.selects "TreeContract" ⟨"TreeContract", "takeLeaves", "(Z)V"⟩ ⟨"TreeContract", "takeLeaves", "(Z)V"⟩) ∈ lw_all := lw_g (lw_at lw_ms 10 rfl) rfl
theorem qs11 : (Cond.selects "TreeContract" ⟨"TreeContract", "takeLeaf", "(IIZ)V"⟩ ⟨"TreeContract", "takeLeaf", "(IIZ)V"⟩) ∈ lw_all := lw_g (lw_at lw_ms 11 rfl) rfl
theorem qs12 : (Cond.selects "TreeContract" ⟨"TreeContract", "changeStep", "(II)V"⟩ ⟨"TreeContract", "changeStep", "(II)V"⟩) ∈ lw_all := lw_g (lw_at lw_ms 12 rfl) rfl
theorem qs13 : (Cond.selects "TreeContractModel" ⟨"TreeContractModel", "isLeaf", "(I)Z"⟩ ⟨"TreeContractModel", "isLeaf", "(I)Z"⟩) ∈ lw_all := lw_g (lw_at lw_ms 13 rfl) rfl
theorem qs14 : (Cond.selects "TreeContractModel" ⟨"TreeContractModel", "nodes", "()I"⟩ ⟨"TreeContractModel", "nodes", "()I"⟩) ∈ lw_all := lw_g (lw_at lw_ms 14 rfl) rfl
theorem qs15 : (Cond.selects "TreeContractModel" ⟨"TreeContractModel", "leaf", "(I)I"⟩ ⟨"TreeContractModel", "leaf", "(I)I"⟩) ∈ lw_all := lw_g (lw_at lw_ms 15 rfl) rfl
theorem qs16 : (Cond.selects "TreeContractModel" ⟨"TreeContractModel", "isJoint", "(I)Z"⟩ ⟨"TreeContractModel", "isJoint", "(I)Z"⟩) ∈ lw_all := lw_g (lw_at lw_ms 16 rfl) rfl
theorem qs17 : (Cond.selects "TreeContractModel" ⟨"TreeContractModel", "evaluate", "()V"⟩ ⟨"TreeContractModel", "evaluate", "()V"⟩) ∈ lw_all := lw_g (lw_at lw_ms 17 rfl) rfl
end
section
/-! TreeContract -/
set_option maxRecDepth 100000
def RX0 : String := "TreeContract"
def TX0 : u_T := fun k => match k with
  | 0 => ("TreeContract", "kind", "[I", true)
  | 1 => ("TreeContract", "sortOf", "[I", true)
  | 2 => ("TreeContract", "valueOf", "[I", true)
  | 3 => ("TreeContract", "leftOf", "[I", true)
  | 4 => ("TreeContract", "rightOf", "[I", true)
  | 5 => ("TreeContract", "jointCount", "I", false)
  | 6 => ("TreeContract", "nowLeft", "[I", true)
  | 7 => ("TreeContract", "nowRight", "[I", true)
  | 8 => ("TreeContract", "nowParent", "[I", true)
  | 9 => ("TreeContract", "slotOf", "[I", true)
  | 10 => ("TreeContract", "top", "I", false)
  | 11 => ("TreeContract", "leaves", "I", false)
  | 12 => ("TreeContract", "leafRow", "[I", true)
  | 13 => ("TreeContract", "stack", "[I", true)
  | 14 => ("TreeContract", "factor", "[I", true)
  | 15 => ("TreeContract", "summand", "[I", true)
  | 16 => ("TreeContract", "factorChange", "[I", true)
  | 17 => ("TreeContract", "summandChange", "[I", true)
  | 18 => ("TreeContract", "touched", "[Z", true)
  | 19 => ("TreeContract", "contracted", "Z", false)
  | 20 => ("TreeContract", "steps", "I", false)
  | 21 => ("TreeContract", "leafAt", "[I", true)
  | 22 => ("TreeContract", "jointAt", "[I", true)
  | 23 => ("TreeContract", "otherAt", "[I", true)
  | 24 => ("TreeContract", "leafIsLeft", "[Z", true)
  | 25 => ("TreeContract", "leafSlot", "[I", true)
  | 26 => ("TreeContract", "jointSlot", "[I", true)
  | 27 => ("TreeContract", "otherSlot", "[I", true)
  | 28 => ("TreeContract", "stepOf", "[I", true)
  | 29 => ("TreeContract", "opFactor", "I", false)
  | 30 => ("TreeContract", "opSummand", "I", false)
  | 31 => ("TreeContract", "opFactorChange", "I", false)
  | _ => ("TreeContract", "opSummandChange", "I", false)
def tyX0 : Nat → FieldType := fun k => match k with
  | 0 => .array .int
  | 1 => .array .int
  | 2 => .array .int
  | 3 => .array .int
  | 4 => .array .int
  | 5 => .int
  | 6 => .array .int
  | 7 => .array .int
  | 8 => .array .int
  | 9 => .array .int
  | 10 => .int
  | 11 => .int
  | 12 => .array .int
  | 13 => .array .int
  | 14 => .array .int
  | 15 => .array .int
  | 16 => .array .int
  | 17 => .array .int
  | 18 => .array .boolean
  | 19 => .boolean
  | 20 => .int
  | 21 => .array .int
  | 22 => .array .int
  | 23 => .array .int
  | 24 => .array .boolean
  | 25 => .array .int
  | 26 => .array .int
  | 27 => .array .int
  | 28 => .array .int
  | 29 => .int
  | 30 => .int
  | 31 => .int
  | _ => .int
abbrev wsX00 : List Cond := u_ws RX0 TX0 33
set_option maxRecDepth 100000 in
theorem nmX0 : ∀ a, a < 33 → ∀ b, b < 33 → a ≠ b → (TX0 a).2.1 ≠ (TX0 b).2.1 := by decide +kernel
set_option maxRecDepth 100000 in
theorem tyX0_ok : ∀ k, k < 33 → parseFieldDescriptor (TX0 k).2.2.1 = some (tyX0 k) := by decide +kernel
abbrev cX0_init : ByteArray := prog_1_method_1_code
def yX0_init : MethodName := ⟨RX0, "<init>", "()V"⟩
abbrev cX0_grow : ByteArray := prog_1_method_2_code
def yX0_grow : MethodName := ⟨RX0, "grow", "(IIII)I"⟩
abbrev cX0_kindOf : ByteArray := prog_1_method_12_code
def yX0_kindOf : MethodName := ⟨RX0, "kindOf", "(I)I"⟩
abbrev cX0_freeNode : ByteArray := prog_1_method_13_code
def yX0_freeNode : MethodName := ⟨RX0, "freeNode", "(I)I"⟩
abbrev cX0_makeLeaf : ByteArray := prog_1_method_14_code
def yX0_makeLeaf : MethodName := ⟨RX0, "makeLeaf", "(II)V"⟩
abbrev cX0_shrink : ByteArray := prog_1_method_3_code
def yX0_shrink : MethodName := ⟨RX0, "shrink", "(I)I"⟩
abbrev cX0_calculate : ByteArray := prog_1_method_15_code
def yX0_calculate : MethodName := ⟨RX0, "calculate", "(III)I"⟩
abbrev cX0_set : ByteArray := prog_1_method_4_code
def yX0_set : MethodName := ⟨RX0, "set", "(II)I"⟩
abbrev cX0_renew : ByteArray := prog_1_method_25_code
def yX0_renew : MethodName := ⟨RX0, "renew", "(I)V"⟩
abbrev cX0_workOut : ByteArray := prog_1_method_23_code
def yX0_workOut : MethodName := ⟨RX0, "workOut", "(I)V"⟩
abbrev cX0_leafValue : ByteArray := prog_1_method_21_code
def yX0_leafValue : MethodName := ⟨RX0, "leafValue", "(I)I"⟩
abbrev cX0_fixLeaf : ByteArray := prog_1_method_22_code
def yX0_fixLeaf : MethodName := ⟨RX0, "fixLeaf", "(III)V"⟩
abbrev cX0_setSort : ByteArray := prog_1_method_5_code
def yX0_setSort : MethodName := ⟨RX0, "setSort", "(II)I"⟩
abbrev cX0_turn : ByteArray := prog_1_method_6_code
def yX0_turn : MethodName := ⟨RX0, "turn", "(I)I"⟩
abbrev cX0_value : ByteArray := prog_1_method_7_code
def yX0_value : MethodName := ⟨RX0, "value", "(I)I"⟩
abbrev cX0_contract : ByteArray := prog_1_method_16_code
def yX0_contract : MethodName := ⟨RX0, "contract", "()V"⟩
abbrev cX0_linkParents : ByteArray := prog_1_method_17_code
def yX0_linkParents : MethodName := ⟨RX0, "linkParents", "()V"⟩
abbrev cX0_listLeaves : ByteArray := prog_1_method_18_code
def yX0_listLeaves : MethodName := ⟨RX0, "listLeaves", "()V"⟩
abbrev cX0_takeLeaves : ByteArray := prog_1_method_19_code
def yX0_takeLeaves : MethodName := ⟨RX0, "takeLeaves", "(Z)V"⟩
abbrev cX0_takeLeaf : ByteArray := prog_1_method_20_code
def yX0_takeLeaf : MethodName := ⟨RX0, "takeLeaf", "(IIZ)V"⟩
abbrev cX0_slope : ByteArray := prog_1_method_8_code
def yX0_slope : MethodName := ⟨RX0, "slope", "(I)I"⟩
abbrev cX0_changeStep : ByteArray := prog_1_method_24_code
def yX0_changeStep : MethodName := ⟨RX0, "changeStep", "(II)V"⟩
abbrev cX0_left : ByteArray := prog_1_method_9_code
def yX0_left : MethodName := ⟨RX0, "left", "(I)I"⟩
abbrev cX0_right : ByteArray := prog_1_method_10_code
def yX0_right : MethodName := ⟨RX0, "right", "(I)I"⟩
abbrev cX0_joints : ByteArray := prog_1_method_11_code
def yX0_joints : MethodName := ⟨RX0, "joints", "()I"⟩
theorem q19 : (Jvm.Cond.initialized "TreeContract") ∈ lw_all := lw_g (lw_at lw_m1 1 rfl) rfl
theorem q22 : (Jvm.Cond.instantiable "TreeContract" (33 : Nat)) ∈ lw_all := lw_g (lw_at lw_m1 4 rfl) rfl
theorem q24 : (Jvm.Cond.instanceMethod ({ cls := "TreeContract", name := "<init>", desc := "()V" } : Jvm.MethodName)) ∈ lw_all := lw_g (lw_at lw_m1 6 rfl) rfl
theorem q25 : (Jvm.Cond.code ({ cls := "TreeContract", name := "<init>", desc := "()V" } : Jvm.MethodName) prog_1_method_1_code (1 : Nat) (Option.none : Option Jvm.ClassFile.FieldType)) ∈ lw_all := lw_g (lw_at lw_m1 7 rfl) rfl
theorem q26 : (Jvm.Cond.methodLink "TreeContract" (1 : Nat) ({ cls := "java/lang/Object", name := "<init>", desc := "()V" } : Jvm.MethodName)) ∈ lw_all := lw_g (lw_at lw_m1 8 rfl) rfl
theorem q29 : (Jvm.Cond.fieldLink "TreeContract" (7 : Nat) "TreeContract" "kind" "[I") ∈ lw_all := lw_g (lw_at lw_m1 11 rfl) rfl
theorem q30 : (Jvm.Cond.fieldLink "TreeContract" (13 : Nat) "TreeContract" "sortOf" "[I") ∈ lw_all := lw_g (lw_at lw_m1 12 rfl) rfl
theorem q31 : (Jvm.Cond.fieldLink "TreeContract" (16 : Nat) "TreeContract" "valueOf" "[I") ∈ lw_all := lw_g (lw_at lw_m1 13 rfl) rfl
theorem q32 : (Jvm.Cond.fieldLink "TreeContract" (19 : Nat) "TreeContract" "leftOf" "[I") ∈ lw_all := lw_g (lw_at lw_m1 14 rfl) rfl
theorem q33 : (Jvm.Cond.fieldLink "TreeContract" (22 : Nat) "TreeContract" "rightOf" "[I") ∈ lw_all := lw_g (lw_at lw_m1 15 rfl) rfl
theorem q34 : (Jvm.Cond.fieldLink "TreeContract" (87 : Nat) "TreeContract" "jointCount" "I") ∈ lw_all := lw_g (lw_at lw_m1 16 rfl) rfl
theorem q35 : (Jvm.Cond.fieldLink "TreeContract" (25 : Nat) "TreeContract" "nowLeft" "[I") ∈ lw_all := lw_g (lw_at lw_m1 17 rfl) rfl
theorem q36 : (Jvm.Cond.fieldLink "TreeContract" (28 : Nat) "TreeContract" "nowRight" "[I") ∈ lw_all := lw_g (lw_at lw_m1 18 rfl) rfl
theorem q37 : (Jvm.Cond.fieldLink "TreeContract" (31 : Nat) "TreeContract" "nowParent" "[I") ∈ lw_all := lw_g (lw_at lw_m1 19 rfl) rfl
theorem q38 : (Jvm.Cond.fieldLink "TreeContract" (34 : Nat) "TreeContract" "slotOf" "[I") ∈ lw_all := lw_g (lw_at lw_m1 20 rfl) rfl
theorem q39 : (Jvm.Cond.fieldLink "TreeContract" (122 : Nat) "TreeContract" "top" "I") ∈ lw_all := lw_g (lw_at lw_m1 21 rfl) rfl
theorem q40 : (Jvm.Cond.fieldLink "TreeContract" (135 : Nat) "TreeContract" "leaves" "I") ∈ lw_all := lw_g (lw_at lw_m1 22 rfl) rfl
theorem q41 : (Jvm.Cond.fieldLink "TreeContract" (37 : Nat) "TreeContract" "leafRow" "[I") ∈ lw_all := lw_g (lw_at lw_m1 23 rfl) rfl
theorem q42 : (Jvm.Cond.fieldLink "TreeContract" (40 : Nat) "TreeContract" "stack" "[I") ∈ lw_all := lw_g (lw_at lw_m1 24 rfl) rfl
theorem q43 : (Jvm.Cond.fieldLink "TreeContract" (43 : Nat) "TreeContract" "factor" "[I") ∈ lw_all := lw_g (lw_at lw_m1 25 rfl) rfl
theorem q44 : (Jvm.Cond.fieldLink "TreeContract" (46 : Nat) "TreeContract" "summand" "[I") ∈ lw_all := lw_g (lw_at lw_m1 26 rfl) rfl
theorem q45 : (Jvm.Cond.fieldLink "TreeContract" (49 : Nat) "TreeContract" "factorChange" "[I") ∈ lw_all := lw_g (lw_at lw_m1 27 rfl) rfl
theorem q46 : (Jvm.Cond.fieldLink "TreeContract" (52 : Nat) "TreeContract" "summandChange" "[I") ∈ lw_all := lw_g (lw_at lw_m1 28 rfl) rfl
theorem q47 : (Jvm.Cond.fieldLink "TreeContract" (55 : Nat) "TreeContract" "touched" "[Z") ∈ lw_all := lw_g (lw_at lw_m1 29 rfl) rfl
theorem q48 : (Jvm.Cond.fieldLink "TreeContract" (98 : Nat) "TreeContract" "contracted" "Z") ∈ lw_all := lw_g (lw_at lw_m1 30 rfl) rfl
theorem q49 : (Jvm.Cond.fieldLink "TreeContract" (116 : Nat) "TreeContract" "steps" "I") ∈ lw_all := lw_g (lw_at lw_m1 31 rfl) rfl
theorem q50 : (Jvm.Cond.fieldLink "TreeContract" (59 : Nat) "TreeContract" "leafAt" "[I") ∈ lw_all := lw_g (lw_at lw_m1 32 rfl) rfl
theorem q51 : (Jvm.Cond.fieldLink "TreeContract" (62 : Nat) "TreeContract" "jointAt" "[I") ∈ lw_all := lw_g (lw_at lw_m1 33 rfl) rfl
theorem q52 : (Jvm.Cond.fieldLink "TreeContract" (65 : Nat) "TreeContract" "otherAt" "[I") ∈ lw_all := lw_g (lw_at lw_m1 34 rfl) rfl
theorem q53 : (Jvm.Cond.fieldLink "TreeContract" (68 : Nat) "TreeContract" "leafIsLeft" "[Z") ∈ lw_all := lw_g (lw_at lw_m1 35 rfl) rfl
theorem q54 : (Jvm.Cond.fieldLink "TreeContract" (71 : Nat) "TreeContract" "leafSlot" "[I") ∈ lw_all := lw_g (lw_at lw_m1 36 rfl) rfl
theorem q55 : (Jvm.Cond.fieldLink "TreeContract" (74 : Nat) "TreeContract" "jointSlot" "[I") ∈ lw_all := lw_g (lw_at lw_m1 37 rfl) rfl
theorem q56 : (Jvm.Cond.fieldLink "TreeContract" (77 : Nat) "TreeContract" "otherSlot" "[I") ∈ lw_all := lw_g (lw_at lw_m1 38 rfl) rfl
theorem q57 : (Jvm.Cond.fieldLink "TreeContract" (80 : Nat) "TreeContract" "stepOf" "[I") ∈ lw_all := lw_g (lw_at lw_m1 39 rfl) rfl
theorem q58 : (Jvm.Cond.fieldLink "TreeContract" (145 : Nat) "TreeContract" "opFactor" "I") ∈ lw_all := lw_g (lw_at lw_m1 40 rfl) rfl
theorem q59 : (Jvm.Cond.fieldLink "TreeContract" (148 : Nat) "TreeContract" "opSummand" "I") ∈ lw_all := lw_g (lw_at lw_m1 41 rfl) rfl
theorem q60 : (Jvm.Cond.fieldLink "TreeContract" (151 : Nat) "TreeContract" "opFactorChange" "I") ∈ lw_all := lw_g (lw_at lw_m1 42 rfl) rfl
theorem q61 : (Jvm.Cond.fieldLink "TreeContract" (154 : Nat) "TreeContract" "opSummandChange" "I") ∈ lw_all := lw_g (lw_at lw_m1 43 rfl) rfl
theorem q62 : (Jvm.Cond.laysFinal "TreeContract" "TreeContract" "kind" "[I") ∈ lw_all := lw_g (lw_at lw_m1 44 rfl) rfl
theorem q63 : (Jvm.Cond.soleField "TreeContract" "kind") ∈ lw_all := lw_g (lw_at lw_m1 45 rfl) rfl
theorem q64 : (Jvm.Cond.laysFinal "TreeContract" "TreeContract" "sortOf" "[I") ∈ lw_all := lw_g (lw_at lw_m1 46 rfl) rfl
theorem q65 : (Jvm.Cond.soleField "TreeContract" "sortOf") ∈ lw_all := lw_g (lw_at lw_m1 47 rfl) rfl
theorem q66 : (Jvm.Cond.laysFinal "TreeContract" "TreeContract" "valueOf" "[I") ∈ lw_all := lw_g (lw_at lw_m1 48 rfl) rfl
theorem q67 : (Jvm.Cond.soleField "TreeContract" "valueOf") ∈ lw_all := lw_g (lw_at lw_m1 49 rfl) rfl
theorem q68 : (Jvm.Cond.laysFinal "TreeContract" "TreeContract" "leftOf" "[I") ∈ lw_all := lw_g (lw_at lw_m1 50 rfl) rfl
theorem q69 : (Jvm.Cond.soleField "TreeContract" "leftOf") ∈ lw_all := lw_g (lw_at lw_m1 51 rfl) rfl
theorem q70 : (Jvm.Cond.laysFinal "TreeContract" "TreeContract" "rightOf" "[I") ∈ lw_all := lw_g (lw_at lw_m1 52 rfl) rfl
theorem q71 : (Jvm.Cond.soleField "TreeContract" "rightOf") ∈ lw_all := lw_g (lw_at lw_m1 53 rfl) rfl
theorem q72 : (Jvm.Cond.lays "TreeContract" "TreeContract" "jointCount" "I") ∈ lw_all := lw_g (lw_at lw_m1 54 rfl) rfl
theorem q73 : (Jvm.Cond.soleField "TreeContract" "jointCount") ∈ lw_all := lw_g (lw_at lw_m1 55 rfl) rfl
theorem q74 : (Jvm.Cond.laysFinal "TreeContract" "TreeContract" "nowLeft" "[I") ∈ lw_all := lw_g (lw_at lw_m1 56 rfl) rfl
theorem q75 : (Jvm.Cond.soleField "TreeContract" "nowLeft") ∈ lw_all := lw_g (lw_at lw_m1 57 rfl) rfl
theorem q76 : (Jvm.Cond.laysFinal "TreeContract" "TreeContract" "nowRight" "[I") ∈ lw_all := lw_g (lw_at lw_m1 58 rfl) rfl
theorem q77 : (Jvm.Cond.soleField "TreeContract" "nowRight") ∈ lw_all := lw_g (lw_at lw_m1 59 rfl) rfl
theorem q78 : (Jvm.Cond.laysFinal "TreeContract" "TreeContract" "nowParent" "[I") ∈ lw_all := lw_g (lw_at lw_m1 60 rfl) rfl
theorem q79 : (Jvm.Cond.soleField "TreeContract" "nowParent") ∈ lw_all := lw_g (lw_at lw_m1 61 rfl) rfl
theorem q80 : (Jvm.Cond.laysFinal "TreeContract" "TreeContract" "slotOf" "[I") ∈ lw_all := lw_g (lw_at lw_m1 62 rfl) rfl
theorem q81 : (Jvm.Cond.soleField "TreeContract" "slotOf") ∈ lw_all := lw_g (lw_at lw_m1 63 rfl) rfl
theorem q82 : (Jvm.Cond.lays "TreeContract" "TreeContract" "top" "I") ∈ lw_all := lw_g (lw_at lw_m1 64 rfl) rfl
theorem q83 : (Jvm.Cond.soleField "TreeContract" "top") ∈ lw_all := lw_g (lw_at lw_m1 65 rfl) rfl
theorem q84 : (Jvm.Cond.lays "TreeContract" "TreeContract" "leaves" "I") ∈ lw_all := lw_g (lw_at lw_m1 66 rfl) rfl
theorem q85 : (Jvm.Cond.soleField "TreeContract" "leaves") ∈ lw_all := lw_g (lw_at lw_m1 67 rfl) rfl
theorem q86 : (Jvm.Cond.laysFinal "TreeContract" "TreeContract" "leafRow" "[I") ∈ lw_all := lw_g (lw_at lw_m1 68 rfl) rfl
theorem q87 : (Jvm.Cond.soleField "TreeContract" "leafRow") ∈ lw_all := lw_g (lw_at lw_m1 69 rfl) rfl
theorem q88 : (Jvm.Cond.laysFinal "TreeContract" "TreeContract" "stack" "[I") ∈ lw_all := lw_g (lw_at lw_m1 70 rfl) rfl
theorem q89 : (Jvm.Cond.soleField "TreeContract" "stack") ∈ lw_all := lw_g (lw_at lw_m1 71 rfl) rfl
theorem q90 : (Jvm.Cond.laysFinal "TreeContract" "TreeContract" "factor" "[I") ∈ lw_all := lw_g (lw_at lw_m1 72 rfl) rfl
theorem q91 : (Jvm.Cond.soleField "TreeContract" "factor") ∈ lw_all := lw_g (lw_at lw_m1 73 rfl) rfl
theorem q92 : (Jvm.Cond.laysFinal "TreeContract" "TreeContract" "summand" "[I") ∈ lw_all := lw_g (lw_at lw_m1 74 rfl) rfl
theorem q93 : (Jvm.Cond.soleField "TreeContract" "summand") ∈ lw_all := lw_g (lw_at lw_m1 75 rfl) rfl
theorem q94 : (Jvm.Cond.laysFinal "TreeContract" "TreeContract" "factorChange" "[I") ∈ lw_all := lw_g (lw_at lw_m1 76 rfl) rfl
theorem q95 : (Jvm.Cond.soleField "TreeContract" "factorChange") ∈ lw_all := lw_g (lw_at lw_m1 77 rfl) rfl
theorem q96 : (Jvm.Cond.laysFinal "TreeContract" "TreeContract" "summandChange" "[I") ∈ lw_all := lw_g (lw_at lw_m1 78 rfl) rfl
theorem q97 : (Jvm.Cond.soleField "TreeContract" "summandChange") ∈ lw_all := lw_g (lw_at lw_m1 79 rfl) rfl
theorem q98 : (Jvm.Cond.laysFinal "TreeContract" "TreeContract" "touched" "[Z") ∈ lw_all := lw_g (lw_at lw_m1 80 rfl) rfl
theorem q99 : (Jvm.Cond.soleField "TreeContract" "touched") ∈ lw_all := lw_g (lw_at lw_m1 81 rfl) rfl
theorem q100 : (Jvm.Cond.lays "TreeContract" "TreeContract" "contracted" "Z") ∈ lw_all := lw_g (lw_at lw_m1 82 rfl) rfl
theorem q101 : (Jvm.Cond.soleField "TreeContract" "contracted") ∈ lw_all := lw_g (lw_at lw_m1 83 rfl) rfl
theorem q102 : (Jvm.Cond.lays "TreeContract" "TreeContract" "steps" "I") ∈ lw_all := lw_g (lw_at lw_m1 84 rfl) rfl
theorem q103 : (Jvm.Cond.soleField "TreeContract" "steps") ∈ lw_all := lw_g (lw_at lw_m1 85 rfl) rfl
theorem q104 : (Jvm.Cond.laysFinal "TreeContract" "TreeContract" "leafAt" "[I") ∈ lw_all := lw_g (lw_at lw_m1 86 rfl) rfl
theorem q105 : (Jvm.Cond.soleField "TreeContract" "leafAt") ∈ lw_all := lw_g (lw_at lw_m1 87 rfl) rfl
theorem q106 : (Jvm.Cond.laysFinal "TreeContract" "TreeContract" "jointAt" "[I") ∈ lw_all := lw_g (lw_at lw_m1 88 rfl) rfl
theorem q107 : (Jvm.Cond.soleField "TreeContract" "jointAt") ∈ lw_all := lw_g (lw_at lw_m1 89 rfl) rfl
theorem q108 : (Jvm.Cond.laysFinal "TreeContract" "TreeContract" "otherAt" "[I") ∈ lw_all := lw_g (lw_at lw_m1 90 rfl) rfl
theorem q109 : (Jvm.Cond.soleField "TreeContract" "otherAt") ∈ lw_all := lw_g (lw_at lw_m1 91 rfl) rfl
theorem q110 : (Jvm.Cond.laysFinal "TreeContract" "TreeContract" "leafIsLeft" "[Z") ∈ lw_all := lw_g (lw_at lw_m1 92 rfl) rfl
theorem q111 : (Jvm.Cond.soleField "TreeContract" "leafIsLeft") ∈ lw_all := lw_g (lw_at lw_m1 93 rfl) rfl
theorem q112 : (Jvm.Cond.laysFinal "TreeContract" "TreeContract" "leafSlot" "[I") ∈ lw_all := lw_g (lw_at lw_m1 94 rfl) rfl
theorem q113 : (Jvm.Cond.soleField "TreeContract" "leafSlot") ∈ lw_all := lw_g (lw_at lw_m1 95 rfl) rfl
theorem q114 : (Jvm.Cond.laysFinal "TreeContract" "TreeContract" "jointSlot" "[I") ∈ lw_all := lw_g (lw_at lw_m1 96 rfl) rfl
theorem q115 : (Jvm.Cond.soleField "TreeContract" "jointSlot") ∈ lw_all := lw_g (lw_at lw_m1 97 rfl) rfl
theorem q116 : (Jvm.Cond.laysFinal "TreeContract" "TreeContract" "otherSlot" "[I") ∈ lw_all := lw_g (lw_at lw_m1 98 rfl) rfl
theorem q117 : (Jvm.Cond.soleField "TreeContract" "otherSlot") ∈ lw_all := lw_g (lw_at lw_m1 99 rfl) rfl
theorem q118 : (Jvm.Cond.laysFinal "TreeContract" "TreeContract" "stepOf" "[I") ∈ lw_all := lw_g (lw_at lw_m1 100 rfl) rfl
theorem q119 : (Jvm.Cond.soleField "TreeContract" "stepOf") ∈ lw_all := lw_g (lw_at lw_m1 101 rfl) rfl
theorem q120 : (Jvm.Cond.lays "TreeContract" "TreeContract" "opFactor" "I") ∈ lw_all := lw_g (lw_at lw_m1 102 rfl) rfl
theorem q121 : (Jvm.Cond.soleField "TreeContract" "opFactor") ∈ lw_all := lw_g (lw_at lw_m1 103 rfl) rfl
theorem q122 : (Jvm.Cond.lays "TreeContract" "TreeContract" "opSummand" "I") ∈ lw_all := lw_g (lw_at lw_m1 104 rfl) rfl
theorem q123 : (Jvm.Cond.soleField "TreeContract" "opSummand") ∈ lw_all := lw_g (lw_at lw_m1 105 rfl) rfl
theorem q124 : (Jvm.Cond.lays "TreeContract" "TreeContract" "opFactorChange" "I") ∈ lw_all := lw_g (lw_at lw_m1 106 rfl) rfl
theorem q125 : (Jvm.Cond.soleField "TreeContract" "opFactorChange") ∈ lw_all := lw_g (lw_at lw_m1 107 rfl) rfl
theorem q126 : (Jvm.Cond.lays "TreeContract" "TreeContract" "opSummandChange" "I") ∈ lw_all := lw_g (lw_at lw_m1 108 rfl) rfl
theorem q127 : (Jvm.Cond.soleField "TreeContract" "opSummandChange") ∈ lw_all := lw_g (lw_at lw_m1 109 rfl) rfl
theorem q128 : (Jvm.Cond.superclass "TreeContract" "java/lang/Object") ∈ lw_all := lw_g (lw_at lw_m1 110 rfl) rfl
theorem q132 : (Jvm.Cond.instanceMethod ({ cls := "TreeContract", name := "grow", desc := "(IIII)I" } : Jvm.MethodName)) ∈ lw_all := lw_g (lw_at lw_m1 114 rfl) rfl
theorem q133 : (Jvm.Cond.selects "TreeContract" ({ cls := "TreeContract", name := "grow", desc := "(IIII)I" } : Jvm.MethodName) ({ cls := "TreeContract", name := "grow", desc := "(IIII)I" } : Jvm.MethodName)) ∈ lw_all := lw_g (lw_at lw_m1 115 rfl) rfl
theorem q134 : (Jvm.Cond.code ({ cls := "TreeContract", name := "grow", desc := "(IIII)I" } : Jvm.MethodName) prog_1_method_2_code (7 : Nat) (Option.some Jvm.ClassFile.FieldType.int)) ∈ lw_all := lw_g (lw_at lw_m1 116 rfl) rfl
theorem q135 : (Jvm.Cond.methodLink "TreeContract" (83 : Nat) ({ cls := "TreeContract", name := "kindOf", desc := "(I)I" } : Jvm.MethodName)) ∈ lw_all := lw_g (lw_at lw_m1 117 rfl) rfl
theorem q136 : (Jvm.Cond.privateMethod ({ cls := "TreeContract", name := "kindOf", desc := "(I)I" } : Jvm.MethodName)) ∈ lw_tbl := lw_at lw_m1 118 rfl
theorem q137 : (Jvm.Cond.instanceMethod ({ cls := "TreeContract", name := "kindOf", desc := "(I)I" } : Jvm.MethodName)) ∈ lw_all := lw_g (lw_at lw_m1 119 rfl) rfl
theorem q138 : (Jvm.Cond.code ({ cls := "TreeContract", name := "kindOf", desc := "(I)I" } : Jvm.MethodName) prog_1_method_12_code (2 : Nat) (Option.some Jvm.ClassFile.FieldType.int)) ∈ lw_all := lw_g (lw_at lw_m1 120 rfl) rfl
theorem q139 : (Jvm.Cond.methodLink "TreeContract" (91 : Nat) ({ cls := "TreeContract", name := "freeNode", desc := "(I)I" } : Jvm.MethodName)) ∈ lw_all := lw_g (lw_at lw_m1 121 rfl) rfl
theorem q140 : (Jvm.Cond.privateMethod ({ cls := "TreeContract", name := "freeNode", desc := "(I)I" } : Jvm.MethodName)) ∈ lw_tbl := lw_at lw_m1 122 rfl
theorem q141 : (Jvm.Cond.instanceMethod ({ cls := "TreeContract", name := "freeNode", desc := "(I)I" } : Jvm.MethodName)) ∈ lw_all := lw_g (lw_at lw_m1 123 rfl) rfl
theorem q142 : (Jvm.Cond.code ({ cls := "TreeContract", name := "freeNode", desc := "(I)I" } : Jvm.MethodName) prog_1_method_13_code (3 : Nat) (Option.some Jvm.ClassFile.FieldType.int)) ∈ lw_all := lw_g (lw_at lw_m1 124 rfl) rfl
theorem q143 : (Jvm.Cond.methodLink "TreeContract" (94 : Nat) ({ cls := "TreeContract", name := "makeLeaf", desc := "(II)V" } : Jvm.MethodName)) ∈ lw_all := lw_g (lw_at lw_m1 125 rfl) rfl
theorem q144 : (Jvm.Cond.privateMethod ({ cls := "TreeContract", name := "makeLeaf", desc := "(II)V" } : Jvm.MethodName)) ∈ lw_tbl := lw_at lw_m1 126 rfl
theorem q145 : (Jvm.Cond.instanceMethod ({ cls := "TreeContract", name := "makeLeaf", desc := "(II)V" } : Jvm.MethodName)) ∈ lw_all := lw_g (lw_at lw_m1 127 rfl) rfl
theorem q146 : (Jvm.Cond.code ({ cls := "TreeContract", name := "makeLeaf", desc := "(II)V" } : Jvm.MethodName) prog_1_method_14_code (3 : Nat) (Option.none : Option Jvm.ClassFile.FieldType)) ∈ lw_all := lw_g (lw_at lw_m1 128 rfl) rfl
theorem q148 : (Jvm.Cond.instanceMethod ({ cls := "TreeContract", name := "shrink", desc := "(I)I" } : Jvm.MethodName)) ∈ lw_all := lw_g (lw_at lw_m1 130 rfl) rfl
theorem q149 : (Jvm.Cond.selects "TreeContract" ({ cls := "TreeContract", name := "shrink", desc := "(I)I" } : Jvm.MethodName) ({ cls := "TreeContract", name := "shrink", desc := "(I)I" } : Jvm.MethodName)) ∈ lw_all := lw_g (lw_at lw_m1 131 rfl) rfl
theorem q150 : (Jvm.Cond.code ({ cls := "TreeContract", name := "shrink", desc := "(I)I" } : Jvm.MethodName) prog_1_method_3_code (5 : Nat) (Option.some Jvm.ClassFile.FieldType.int)) ∈ lw_all := lw_g (lw_at lw_m1 132 rfl) rfl
theorem q151 : (Jvm.Cond.methodLink "TreeContract" (102 : Nat) ({ cls := "TreeContract", name := "calculate", desc := "(III)I" } : Jvm.MethodName)) ∈ lw_all := lw_g (lw_at lw_m1 133 rfl) rfl
theorem q152 : (Jvm.Cond.static ({ cls := "TreeContract", name := "calculate", desc := "(III)I" } : Jvm.MethodName)) ∈ lw_all := lw_g (lw_at lw_m1 134 rfl) rfl
theorem q153 : (Jvm.Cond.code ({ cls := "TreeContract", name := "calculate", desc := "(III)I" } : Jvm.MethodName) prog_1_method_15_code (3 : Nat) (Option.some Jvm.ClassFile.FieldType.int)) ∈ lw_all := lw_g (lw_at lw_m1 135 rfl) rfl
theorem q155 : (Jvm.Cond.instanceMethod ({ cls := "TreeContract", name := "set", desc := "(II)I" } : Jvm.MethodName)) ∈ lw_all := lw_g (lw_at lw_m1 137 rfl) rfl
theorem q156 : (Jvm.Cond.selects "TreeContract" ({ cls := "TreeContract", name := "set", desc := "(II)I" } : Jvm.MethodName) ({ cls := "TreeContract", name := "set", desc := "(II)I" } : Jvm.MethodName)) ∈ lw_all := lw_g (lw_at lw_m1 138 rfl) rfl
theorem q157 : (Jvm.Cond.code ({ cls := "TreeContract", name := "set", desc := "(II)I" } : Jvm.MethodName) prog_1_method_4_code (3 : Nat) (Option.some Jvm.ClassFile.FieldType.int)) ∈ lw_all := lw_g (lw_at lw_m1 139 rfl) rfl
theorem q158 : (Jvm.Cond.methodLink "TreeContract" (106 : Nat) ({ cls := "TreeContract", name := "renew", desc := "(I)V" } : Jvm.MethodName)) ∈ lw_all := lw_g (lw_at lw_m1 140 rfl) rfl
theorem q159 : (Jvm.Cond.privateMethod ({ cls := "TreeContract", name := "renew", desc := "(I)V" } : Jvm.MethodName)) ∈ lw_tbl := lw_at lw_m1 141 rfl
theorem q160 : (Jvm.Cond.instanceMethod ({ cls := "TreeContract", name := "renew", desc := "(I)V" } : Jvm.MethodName)) ∈ lw_all := lw_g (lw_at lw_m1 142 rfl) rfl
theorem q161 : (Jvm.Cond.code ({ cls := "TreeContract", name := "renew", desc := "(I)V" } : Jvm.MethodName) prog_1_method_25_code (4 : Nat) (Option.none : Option Jvm.ClassFile.FieldType)) ∈ lw_all := lw_g (lw_at lw_m1 143 rfl) rfl
theorem q162 : (Jvm.Cond.methodLink "TreeContract" (142 : Nat) ({ cls := "TreeContract", name := "workOut", desc := "(I)V" } : Jvm.MethodName)) ∈ lw_all := lw_g (lw_at lw_m1 144 rfl) rfl
theorem q163 : (Jvm.Cond.privateMethod ({ cls := "TreeContract", name := "workOut", desc := "(I)V" } : Jvm.MethodName)) ∈ lw_tbl := lw_at lw_m1 145 rfl
theorem q164 : (Jvm.Cond.instanceMethod ({ cls := "TreeContract", name := "workOut", desc := "(I)V" } : Jvm.MethodName)) ∈ lw_all := lw_g (lw_at lw_m1 146 rfl) rfl
theorem q165 : (Jvm.Cond.code ({ cls := "TreeContract", name := "workOut", desc := "(I)V" } : Jvm.MethodName) prog_1_method_23_code (6 : Nat) (Option.none : Option Jvm.ClassFile.FieldType)) ∈ lw_all := lw_g (lw_at lw_m1 147 rfl) rfl
theorem q166 : (Jvm.Cond.methodLink "TreeContract" (113 : Nat) ({ cls := "TreeContract", name := "leafValue", desc := "(I)I" } : Jvm.MethodName)) ∈ lw_all := lw_g (lw_at lw_m1 148 rfl) rfl
theorem q167 : (Jvm.Cond.privateMethod ({ cls := "TreeContract", name := "leafValue", desc := "(I)I" } : Jvm.MethodName)) ∈ lw_tbl := lw_at lw_m1 149 rfl
theorem q168 : (Jvm.Cond.instanceMethod ({ cls := "TreeContract", name := "leafValue", desc := "(I)I" } : Jvm.MethodName)) ∈ lw_all := lw_g (lw_at lw_m1 150 rfl) rfl
theorem q169 : (Jvm.Cond.code ({ cls := "TreeContract", name := "leafValue", desc := "(I)I" } : Jvm.MethodName) prog_1_method_21_code (3 : Nat) (Option.some Jvm.ClassFile.FieldType.int)) ∈ lw_all := lw_g (lw_at lw_m1 151 rfl) rfl
theorem q170 : (Jvm.Cond.methodLink "TreeContract" (157 : Nat) ({ cls := "TreeContract", name := "fixLeaf", desc := "(III)V" } : Jvm.MethodName)) ∈ lw_all := lw_g (lw_at lw_m1 152 rfl) rfl
theorem q171 : (Jvm.Cond.privateMethod ({ cls := "TreeContract", name := "fixLeaf", desc := "(III)V" } : Jvm.MethodName)) ∈ lw_tbl := lw_at lw_m1 153 rfl
theorem q172 : (Jvm.Cond.instanceMethod ({ cls := "TreeContract", name := "fixLeaf", desc := "(III)V" } : Jvm.MethodName)) ∈ lw_all := lw_g (lw_at lw_m1 154 rfl) rfl
theorem q173 : (Jvm.Cond.code ({ cls := "TreeContract", name := "fixLeaf", desc := "(III)V" } : Jvm.MethodName) prog_1_method_22_code (6 : Nat) (Option.none : Option Jvm.ClassFile.FieldType)) ∈ lw_all := lw_g (lw_at lw_m1 155 rfl) rfl
theorem q175 : (Jvm.Cond.instanceMethod ({ cls := "TreeContract", name := "setSort", desc := "(II)I" } : Jvm.MethodName)) ∈ lw_all := lw_g (lw_at lw_m1 157 rfl) rfl
theorem q176 : (Jvm.Cond.selects "TreeContract" ({ cls := "TreeContract", name := "setSort", desc := "(II)I" } : Jvm.MethodName) ({ cls := "TreeContract", name := "setSort", desc := "(II)I" } : Jvm.MethodName)) ∈ lw_all := lw_g (lw_at lw_m1 158 rfl) rfl
theorem q177 : (Jvm.Cond.code ({ cls := "TreeContract", name := "setSort", desc := "(II)I" } : Jvm.MethodName) prog_1_method_5_code (3 : Nat) (Option.some Jvm.ClassFile.FieldType.int)) ∈ lw_all := lw_g (lw_at lw_m1 159 rfl) rfl
theorem q179 : (Jvm.Cond.instanceMethod ({ cls := "TreeContract", name := "turn", desc := "(I)I" } : Jvm.MethodName)) ∈ lw_all := lw_g (lw_at lw_m1 161 rfl) rfl
theorem q180 : (Jvm.Cond.selects "TreeContract" ({ cls := "TreeContract", name := "turn", desc := "(I)I" } : Jvm.MethodName) ({ cls := "TreeContract", name := "turn", desc := "(I)I" } : Jvm.MethodName)) ∈ lw_all := lw_g (lw_at lw_m1 162 rfl) rfl
theorem q181 : (Jvm.Cond.code ({ cls := "TreeContract", name := "turn", desc := "(I)I" } : Jvm.MethodName) prog_1_method_6_code (3 : Nat) (Option.some Jvm.ClassFile.FieldType.int)) ∈ lw_all := lw_g (lw_at lw_m1 163 rfl) rfl
theorem q183 : (Jvm.Cond.instanceMethod ({ cls := "TreeContract", name := "value", desc := "(I)I" } : Jvm.MethodName)) ∈ lw_all := lw_g (lw_at lw_m1 165 rfl) rfl
theorem q184 : (Jvm.Cond.selects "TreeContract" ({ cls := "TreeContract", name := "value", desc := "(I)I" } : Jvm.MethodName) ({ cls := "TreeContract", name := "value", desc := "(I)I" } : Jvm.MethodName)) ∈ lw_all := lw_g (lw_at lw_m1 166 rfl) rfl
theorem q185 : (Jvm.Cond.code ({ cls := "TreeContract", name := "value", desc := "(I)I" } : Jvm.MethodName) prog_1_method_7_code (10 : Nat) (Option.some Jvm.ClassFile.FieldType.int)) ∈ lw_all := lw_g (lw_at lw_m1 167 rfl) rfl
theorem q186 : (Jvm.Cond.methodLink "TreeContract" (110 : Nat) ({ cls := "TreeContract", name := "contract", desc := "()V" } : Jvm.MethodName)) ∈ lw_all := lw_g (lw_at lw_m1 168 rfl) rfl
theorem q187 : (Jvm.Cond.privateMethod ({ cls := "TreeContract", name := "contract", desc := "()V" } : Jvm.MethodName)) ∈ lw_tbl := lw_at lw_m1 169 rfl
theorem q188 : (Jvm.Cond.instanceMethod ({ cls := "TreeContract", name := "contract", desc := "()V" } : Jvm.MethodName)) ∈ lw_all := lw_g (lw_at lw_m1 170 rfl) rfl
theorem q189 : (Jvm.Cond.code ({ cls := "TreeContract", name := "contract", desc := "()V" } : Jvm.MethodName) prog_1_method_16_code (2 : Nat) (Option.none : Option Jvm.ClassFile.FieldType)) ∈ lw_all := lw_g (lw_at lw_m1 171 rfl) rfl
theorem q190 : (Jvm.Cond.methodLink "TreeContract" (125 : Nat) ({ cls := "TreeContract", name := "linkParents", desc := "()V" } : Jvm.MethodName)) ∈ lw_all := lw_g (lw_at lw_m1 172 rfl) rfl
theorem q191 : (Jvm.Cond.privateMethod ({ cls := "TreeContract", name := "linkParents", desc := "()V" } : Jvm.MethodName)) ∈ lw_tbl := lw_at lw_m1 173 rfl
theorem q192 : (Jvm.Cond.instanceMethod ({ cls := "TreeContract", name := "linkParents", desc := "()V" } : Jvm.MethodName)) ∈ lw_all := lw_g (lw_at lw_m1 174 rfl) rfl
theorem q193 : (Jvm.Cond.code ({ cls := "TreeContract", name := "linkParents", desc := "()V" } : Jvm.MethodName) prog_1_method_17_code (2 : Nat) (Option.none : Option Jvm.ClassFile.FieldType)) ∈ lw_all := lw_g (lw_at lw_m1 175 rfl) rfl
theorem q194 : (Jvm.Cond.methodLink "TreeContract" (128 : Nat) ({ cls := "TreeContract", name := "listLeaves", desc := "()V" } : Jvm.MethodName)) ∈ lw_all := lw_g (lw_at lw_m1 176 rfl) rfl
theorem q195 : (Jvm.Cond.privateMethod ({ cls := "TreeContract", name := "listLeaves", desc := "()V" } : Jvm.MethodName)) ∈ lw_tbl := lw_at lw_m1 177 rfl
theorem q196 : (Jvm.Cond.instanceMethod ({ cls := "TreeContract", name := "listLeaves", desc := "()V" } : Jvm.MethodName)) ∈ lw_all := lw_g (lw_at lw_m1 178 rfl) rfl
theorem q197 : (Jvm.Cond.code ({ cls := "TreeContract", name := "listLeaves", desc := "()V" } : Jvm.MethodName) prog_1_method_18_code (4 : Nat) (Option.none : Option Jvm.ClassFile.FieldType)) ∈ lw_all := lw_g (lw_at lw_m1 179 rfl) rfl
theorem q198 : (Jvm.Cond.methodLink "TreeContract" (131 : Nat) ({ cls := "TreeContract", name := "takeLeaves", desc := "(Z)V" } : Jvm.MethodName)) ∈ lw_all := lw_g (lw_at lw_m1 180 rfl) rfl
theorem q199 : (Jvm.Cond.privateMethod ({ cls := "TreeContract", name := "takeLeaves", desc := "(Z)V" } : Jvm.MethodName)) ∈ lw_tbl := lw_at lw_m1 181 rfl
theorem q200 : (Jvm.Cond.instanceMethod ({ cls := "TreeContract", name := "takeLeaves", desc := "(Z)V" } : Jvm.MethodName)) ∈ lw_all := lw_g (lw_at lw_m1 182 rfl) rfl
theorem q201 : (Jvm.Cond.code ({ cls := "TreeContract", name := "takeLeaves", desc := "(Z)V" } : Jvm.MethodName) prog_1_method_19_code (6 : Nat) (Option.none : Option Jvm.ClassFile.FieldType)) ∈ lw_all := lw_g (lw_at lw_m1 183 rfl) rfl
theorem q202 : (Jvm.Cond.methodLink "TreeContract" (138 : Nat) ({ cls := "TreeContract", name := "takeLeaf", desc := "(IIZ)V" } : Jvm.MethodName)) ∈ lw_all := lw_g (lw_at lw_m1 184 rfl) rfl
theorem q203 : (Jvm.Cond.privateMethod ({ cls := "TreeContract", name := "takeLeaf", desc := "(IIZ)V" } : Jvm.MethodName)) ∈ lw_tbl := lw_at lw_m1 185 rfl
theorem q204 : (Jvm.Cond.instanceMethod ({ cls := "TreeContract", name := "takeLeaf", desc := "(IIZ)V" } : Jvm.MethodName)) ∈ lw_all := lw_g (lw_at lw_m1 186 rfl) rfl
theorem q205 : (Jvm.Cond.code ({ cls := "TreeContract", name := "takeLeaf", desc := "(IIZ)V" } : Jvm.MethodName) prog_1_method_20_code (7 : Nat) (Option.none : Option Jvm.ClassFile.FieldType)) ∈ lw_all := lw_g (lw_at lw_m1 187 rfl) rfl
theorem q207 : (Jvm.Cond.instanceMethod ({ cls := "TreeContract", name := "slope", desc := "(I)I" } : Jvm.MethodName)) ∈ lw_all := lw_g (lw_at lw_m1 189 rfl) rfl
theorem q208 : (Jvm.Cond.selects "TreeContract" ({ cls := "TreeContract", name := "slope", desc := "(I)I" } : Jvm.MethodName) ({ cls := "TreeContract", name := "slope", desc := "(I)I" } : Jvm.MethodName)) ∈ lw_all := lw_g (lw_at lw_m1 190 rfl) rfl
theorem q209 : (Jvm.Cond.code ({ cls := "TreeContract", name := "slope", desc := "(I)I" } : Jvm.MethodName) prog_1_method_8_code (4 : Nat) (Option.some Jvm.ClassFile.FieldType.int)) ∈ lw_all := lw_g (lw_at lw_m1 191 rfl) rfl
theorem q210 : (Jvm.Cond.methodLink "TreeContract" (119 : Nat) ({ cls := "TreeContract", name := "changeStep", desc := "(II)V" } : Jvm.MethodName)) ∈ lw_all := lw_g (lw_at lw_m1 192 rfl) rfl
theorem q211 : (Jvm.Cond.privateMethod ({ cls := "TreeContract", name := "changeStep", desc := "(II)V" } : Jvm.MethodName)) ∈ lw_tbl := lw_at lw_m1 193 rfl
theorem q212 : (Jvm.Cond.instanceMethod ({ cls := "TreeContract", name := "changeStep", desc := "(II)V" } : Jvm.MethodName)) ∈ lw_all := lw_g (lw_at lw_m1 194 rfl) rfl
theorem q213 : (Jvm.Cond.code ({ cls := "TreeContract", name := "changeStep", desc := "(II)V" } : Jvm.MethodName) prog_1_method_24_code (14 : Nat) (Option.none : Option Jvm.ClassFile.FieldType)) ∈ lw_all := lw_g (lw_at lw_m1 195 rfl) rfl
theorem q215 : (Jvm.Cond.instanceMethod ({ cls := "TreeContract", name := "left", desc := "(I)I" } : Jvm.MethodName)) ∈ lw_all := lw_g (lw_at lw_m1 197 rfl) rfl
theorem q216 : (Jvm.Cond.selects "TreeContract" ({ cls := "TreeContract", name := "left", desc := "(I)I" } : Jvm.MethodName) ({ cls := "TreeContract", name := "left", desc := "(I)I" } : Jvm.MethodName)) ∈ lw_all := lw_g (lw_at lw_m1 198 rfl) rfl
theorem q217 : (Jvm.Cond.code ({ cls := "TreeContract", name := "left", desc := "(I)I" } : Jvm.MethodName) prog_1_method_9_code (2 : Nat) (Option.some Jvm.ClassFile.FieldType.int)) ∈ lw_all := lw_g (lw_at lw_m1 199 rfl) rfl
theorem q219 : (Jvm.Cond.instanceMethod ({ cls := "TreeContract", name := "right", desc := "(I)I" } : Jvm.MethodName)) ∈ lw_all := lw_g (lw_at lw_m1 201 rfl) rfl
theorem q220 : (Jvm.Cond.selects "TreeContract" ({ cls := "TreeContract", name := "right", desc := "(I)I" } : Jvm.MethodName) ({ cls := "TreeContract", name := "right", desc := "(I)I" } : Jvm.MethodName)) ∈ lw_all := lw_g (lw_at lw_m1 202 rfl) rfl
theorem q221 : (Jvm.Cond.code ({ cls := "TreeContract", name := "right", desc := "(I)I" } : Jvm.MethodName) prog_1_method_10_code (2 : Nat) (Option.some Jvm.ClassFile.FieldType.int)) ∈ lw_all := lw_g (lw_at lw_m1 203 rfl) rfl
theorem q223 : (Jvm.Cond.instanceMethod ({ cls := "TreeContract", name := "joints", desc := "()I" } : Jvm.MethodName)) ∈ lw_all := lw_g (lw_at lw_m1 205 rfl) rfl
theorem q224 : (Jvm.Cond.selects "TreeContract" ({ cls := "TreeContract", name := "joints", desc := "()I" } : Jvm.MethodName) ({ cls := "TreeContract", name := "joints", desc := "()I" } : Jvm.MethodName)) ∈ lw_all := lw_g (lw_at lw_m1 206 rfl) rfl
theorem q225 : (Jvm.Cond.code ({ cls := "TreeContract", name := "joints", desc := "()I" } : Jvm.MethodName) prog_1_method_11_code (1 : Nat) (Option.some Jvm.ClassFile.FieldType.int)) ∈ lw_all := lw_g (lw_at lw_m1 207 rfl) rfl
theorem in_X0 : ∀ w ∈ wsX00, w ∈ lw_all := lw_in wsX00 [62, 64, 66, 68, 70, 72, 74, 76, 78, 80, 82, 84, 86, 88, 90, 92, 94, 96, 98, 100, 102, 104, 106, 108, 110, 112, 114, 116, 118, 120, 122, 124, 126] (by decide +kernel) (by decide +kernel)
end
section
set_option maxRecDepth 100000
theorem dX0_init_0 : decode cX0_init 0 = .ok (.aload_n 0, 1) := by decide +kernel
theorem dX0_init_1 : decode cX0_init 1 = .ok (.invokespecial 1, 3) := by decide +kernel
theorem dX0_init_4 : decode cX0_init 4 = .ok (.aload_n 0, 1) := by decide +kernel
theorem dX0_init_5 : decode cX0_init 5 = .ok (.bipush 31, 2) := by decide +kernel
theorem dX0_init_7 : decode cX0_init 7 = .ok (.newarray .int, 2) := by decide +kernel
theorem dX0_init_9 : decode cX0_init 9 = .ok (.putfield 7, 3) := by decide +kernel
theorem dX0_init_12 : decode cX0_init 12 = .ok (.aload_n 0, 1) := by decide +kernel
theorem dX0_init_13 : decode cX0_init 13 = .ok (.bipush 31, 2) := by decide +kernel
theorem dX0_init_15 : decode cX0_init 15 = .ok (.newarray .int, 2) := by decide +kernel
theorem dX0_init_17 : decode cX0_init 17 = .ok (.putfield 13, 3) := by decide +kernel
theorem dX0_init_20 : decode cX0_init 20 = .ok (.aload_n 0, 1) := by decide +kernel
theorem dX0_init_21 : decode cX0_init 21 = .ok (.bipush 31, 2) := by decide +kernel
theorem dX0_init_23 : decode cX0_init 23 = .ok (.newarray .int, 2) := by decide +kernel
theorem dX0_init_25 : decode cX0_init 25 = .ok (.putfield 16, 3) := by decide +kernel
theorem dX0_init_28 : decode cX0_init 28 = .ok (.aload_n 0, 1) := by decide +kernel
theorem dX0_init_29 : decode cX0_init 29 = .ok (.bipush 31, 2) := by decide +kernel
theorem dX0_init_31 : decode cX0_init 31 = .ok (.newarray .int, 2) := by decide +kernel
theorem dX0_init_33 : decode cX0_init 33 = .ok (.putfield 19, 3) := by decide +kernel
theorem dX0_init_36 : decode cX0_init 36 = .ok (.aload_n 0, 1) := by decide +kernel
theorem dX0_init_37 : decode cX0_init 37 = .ok (.bipush 31, 2) := by decide +kernel
theorem dX0_init_39 : decode cX0_init 39 = .ok (.newarray .int, 2) := by decide +kernel
theorem dX0_init_41 : decode cX0_init 41 = .ok (.putfield 22, 3) := by decide +kernel
theorem dX0_init_44 : decode cX0_init 44 = .ok (.aload_n 0, 1) := by decide +kernel
theorem dX0_init_45 : decode cX0_init 45 = .ok (.bipush 31, 2) := by decide +kernel
theorem dX0_init_47 : decode cX0_init 47 = .ok (.newarray .int, 2) := by decide +kernel
theorem dX0_init_49 : decode cX0_init 49 = .ok (.putfield 25, 3) := by decide +kernel
theorem dX0_init_52 : decode cX0_init 52 = .ok (.aload_n 0, 1) := by decide +kernel
theorem dX0_init_53 : decode cX0_init 53 = .ok (.bipush 31, 2) := by decide +kernel
theorem dX0_init_55 : decode cX0_init 55 = .ok (.newarray .int, 2) := by decide +kernel
theorem dX0_init_57 : decode cX0_init 57 = .ok (.putfield 28, 3) := by decide +kernel
theorem dX0_init_60 : decode cX0_init 60 = .ok (.aload_n 0, 1) := by decide +kernel
theorem dX0_init_61 : decode cX0_init 61 = .ok (.bipush 31, 2) := by decide +kernel
theorem dX0_init_63 : decode cX0_init 63 = .ok (.newarray .int, 2) := by decide +kernel
theorem dX0_init_65 : decode cX0_init 65 = .ok (.putfield 31, 3) := by decide +kernel
theorem dX0_init_68 : decode cX0_init 68 = .ok (.aload_n 0, 1) := by decide +kernel
theorem dX0_init_69 : decode cX0_init 69 = .ok (.bipush 31, 2) := by decide +kernel
theorem dX0_init_71 : decode cX0_init 71 = .ok (.newarray .int, 2) := by decide +kernel
theorem dX0_init_73 : decode cX0_init 73 = .ok (.putfield 34, 3) := by decide +kernel
theorem dX0_init_76 : decode cX0_init 76 = .ok (.aload_n 0, 1) := by decide +kernel
theorem dX0_init_77 : decode cX0_init 77 = .ok (.bipush 16, 2) := by decide +kernel
theorem dX0_init_79 : decode cX0_init 79 = .ok (.newarray .int, 2) := by decide +kernel
theorem dX0_init_81 : decode cX0_init 81 = .ok (.putfield 37, 3) := by decide +kernel
theorem dX0_init_84 : decode cX0_init 84 = .ok (.aload_n 0, 1) := by decide +kernel
theorem dX0_init_85 : decode cX0_init 85 = .ok (.bipush 32, 2) := by decide +kernel
theorem dX0_init_87 : decode cX0_init 87 = .ok (.newarray .int, 2) := by decide +kernel
theorem dX0_init_89 : decode cX0_init 89 = .ok (.putfield 40, 3) := by decide +kernel
theorem dX0_init_92 : decode cX0_init 92 = .ok (.aload_n 0, 1) := by decide +kernel
theorem dX0_init_93 : decode cX0_init 93 = .ok (.bipush 46, 2) := by decide +kernel
theorem dX0_init_95 : decode cX0_init 95 = .ok (.newarray .int, 2) := by decide +kernel
theorem dX0_init_97 : decode cX0_init 97 = .ok (.putfield 43, 3) := by decide +kernel
theorem dX0_init_100 : decode cX0_init 100 = .ok (.aload_n 0, 1) := by decide +kernel
theorem dX0_init_101 : decode cX0_init 101 = .ok (.bipush 46, 2) := by decide +kernel
theorem dX0_init_103 : decode cX0_init 103 = .ok (.newarray .int, 2) := by decide +kernel
theorem dX0_init_105 : decode cX0_init 105 = .ok (.putfield 46, 3) := by decide +kernel
theorem dX0_init_108 : decode cX0_init 108 = .ok (.aload_n 0, 1) := by decide +kernel
theorem dX0_init_109 : decode cX0_init 109 = .ok (.bipush 46, 2) := by decide +kernel
theorem dX0_init_111 : decode cX0_init 111 = .ok (.newarray .int, 2) := by decide +kernel
theorem dX0_init_113 : decode cX0_init 113 = .ok (.putfield 49, 3) := by decide +kernel
theorem dX0_init_116 : decode cX0_init 116 = .ok (.aload_n 0, 1) := by decide +kernel
theorem dX0_init_117 : decode cX0_init 117 = .ok (.bipush 46, 2) := by decide +kernel
theorem dX0_init_119 : decode cX0_init 119 = .ok (.newarray .int, 2) := by decide +kernel
theorem dX0_init_121 : decode cX0_init 121 = .ok (.putfield 52, 3) := by decide +kernel
theorem dX0_init_124 : decode cX0_init 124 = .ok (.aload_n 0, 1) := by decide +kernel
theorem dX0_init_125 : decode cX0_init 125 = .ok (.bipush 46, 2) := by decide +kernel
theorem dX0_init_127 : decode cX0_init 127 = .ok (.newarray .boolean, 2) := by decide +kernel
theorem dX0_init_129 : decode cX0_init 129 = .ok (.putfield 55, 3) := by decide +kernel
theorem dX0_init_132 : decode cX0_init 132 = .ok (.aload_n 0, 1) := by decide +kernel
theorem dX0_init_133 : decode cX0_init 133 = .ok (.bipush 15, 2) := by decide +kernel
theorem dX0_init_135 : decode cX0_init 135 = .ok (.newarray .int, 2) := by decide +kernel
theorem dX0_init_137 : decode cX0_init 137 = .ok (.putfield 59, 3) := by decide +kernel
theorem dX0_init_140 : decode cX0_init 140 = .ok (.aload_n 0, 1) := by decide +kernel
theorem dX0_init_141 : decode cX0_init 141 = .ok (.bipush 15, 2) := by decide +kernel
theorem dX0_init_143 : decode cX0_init 143 = .ok (.newarray .int, 2) := by decide +kernel
theorem dX0_init_145 : decode cX0_init 145 = .ok (.putfield 62, 3) := by decide +kernel
theorem dX0_init_148 : decode cX0_init 148 = .ok (.aload_n 0, 1) := by decide +kernel
theorem dX0_init_149 : decode cX0_init 149 = .ok (.bipush 15, 2) := by decide +kernel
theorem dX0_init_151 : decode cX0_init 151 = .ok (.newarray .int, 2) := by decide +kernel
theorem dX0_init_153 : decode cX0_init 153 = .ok (.putfield 65, 3) := by decide +kernel
theorem dX0_init_156 : decode cX0_init 156 = .ok (.aload_n 0, 1) := by decide +kernel
theorem dX0_init_157 : decode cX0_init 157 = .ok (.bipush 15, 2) := by decide +kernel
theorem dX0_init_159 : decode cX0_init 159 = .ok (.newarray .boolean, 2) := by decide +kernel
theorem dX0_init_161 : decode cX0_init 161 = .ok (.putfield 68, 3) := by decide +kernel
theorem dX0_init_164 : decode cX0_init 164 = .ok (.aload_n 0, 1) := by decide +kernel
theorem dX0_init_165 : decode cX0_init 165 = .ok (.bipush 15, 2) := by decide +kernel
theorem dX0_init_167 : decode cX0_init 167 = .ok (.newarray .int, 2) := by decide +kernel
theorem dX0_init_169 : decode cX0_init 169 = .ok (.putfield 71, 3) := by decide +kernel
theorem dX0_init_172 : decode cX0_init 172 = .ok (.aload_n 0, 1) := by decide +kernel
theorem dX0_init_173 : decode cX0_init 173 = .ok (.bipush 15, 2) := by decide +kernel
theorem dX0_init_175 : decode cX0_init 175 = .ok (.newarray .int, 2) := by decide +kernel
theorem dX0_init_177 : decode cX0_init 177 = .ok (.putfield 74, 3) := by decide +kernel
theorem dX0_init_180 : decode cX0_init 180 = .ok (.aload_n 0, 1) := by decide +kernel
theorem dX0_init_181 : decode cX0_init 181 = .ok (.bipush 15, 2) := by decide +kernel
theorem dX0_init_183 : decode cX0_init 183 = .ok (.newarray .int, 2) := by decide +kernel
theorem dX0_init_185 : decode cX0_init 185 = .ok (.putfield 77, 3) := by decide +kernel
theorem dX0_init_188 : decode cX0_init 188 = .ok (.aload_n 0, 1) := by decide +kernel
theorem dX0_init_189 : decode cX0_init 189 = .ok (.bipush 31, 2) := by decide +kernel
theorem dX0_init_191 : decode cX0_init 191 = .ok (.newarray .int, 2) := by decide +kernel
theorem dX0_init_193 : decode cX0_init 193 = .ok (.putfield 80, 3) := by decide +kernel
theorem dX0_init_196 : decode cX0_init 196 = .ok (.aload_n 0, 1) := by decide +kernel
theorem dX0_init_197 : decode cX0_init 197 = .ok (.getfield 7, 3) := by decide +kernel
theorem dX0_init_200 : decode cX0_init 200 = .ok (.iconst 0, 1) := by decide +kernel
theorem dX0_init_201 : decode cX0_init 201 = .ok (.iconst 1, 1) := by decide +kernel
theorem dX0_init_202 : decode cX0_init 202 = .ok (.iastore, 1) := by decide +kernel
theorem dX0_init_203 : decode cX0_init 203 = .ok (.return_, 1) := by decide +kernel
theorem dX0_grow_0 : decode cX0_grow 0 = .ok (.aload_n 0, 1) := by decide +kernel
theorem dX0_grow_1 : decode cX0_grow 1 = .ok (.iload_n 1, 1) := by decide +kernel
theorem dX0_grow_2 : decode cX0_grow 2 = .ok (.invokevirtual 83, 3) := by decide +kernel
theorem dX0_grow_5 : decode cX0_grow 5 = .ok (.iconst 1, 1) := by decide +kernel
theorem dX0_grow_6 : decode cX0_grow 6 = .ok (.if_icmp .ne 12, 3) := by decide +kernel
theorem dX0_grow_9 : decode cX0_grow 9 = .ok (.aload_n 0, 1) := by decide +kernel
theorem dX0_grow_10 : decode cX0_grow 10 = .ok (.getfield 87, 3) := by decide +kernel
theorem dX0_grow_13 : decode cX0_grow 13 = .ok (.bipush 15, 2) := by decide +kernel
theorem dX0_grow_15 : decode cX0_grow 15 = .ok (.if_icmp .lt 5, 3) := by decide +kernel
theorem dX0_grow_18 : decode cX0_grow 18 = .ok (.iconst (-1), 1) := by decide +kernel
theorem dX0_grow_19 : decode cX0_grow 19 = .ok (.ireturn, 1) := by decide +kernel
theorem dX0_grow_20 : decode cX0_grow 20 = .ok (.aload_n 0, 1) := by decide +kernel
theorem dX0_grow_21 : decode cX0_grow 21 = .ok (.iconst 0, 1) := by decide +kernel
theorem dX0_grow_22 : decode cX0_grow 22 = .ok (.invokevirtual 91, 3) := by decide +kernel
theorem dX0_grow_25 : decode cX0_grow 25 = .ok (.istore 5, 2) := by decide +kernel
theorem dX0_grow_27 : decode cX0_grow 27 = .ok (.aload_n 0, 1) := by decide +kernel
theorem dX0_grow_28 : decode cX0_grow 28 = .ok (.iload 5, 2) := by decide +kernel
theorem dX0_grow_30 : decode cX0_grow 30 = .ok (.iconst 1, 1) := by decide +kernel
theorem dX0_grow_31 : decode cX0_grow 31 = .ok (.iadd, 1) := by decide +kernel
theorem dX0_grow_32 : decode cX0_grow 32 = .ok (.invokevirtual 91, 3) := by decide +kernel
theorem dX0_grow_35 : decode cX0_grow 35 = .ok (.istore 6, 2) := by decide +kernel
theorem dX0_grow_37 : decode cX0_grow 37 = .ok (.aload_n 0, 1) := by decide +kernel
theorem dX0_grow_38 : decode cX0_grow 38 = .ok (.iload 5, 2) := by decide +kernel
theorem dX0_grow_40 : decode cX0_grow 40 = .ok (.iload_n 3, 1) := by decide +kernel
theorem dX0_grow_41 : decode cX0_grow 41 = .ok (.invokevirtual 94, 3) := by decide +kernel
theorem dX0_grow_44 : decode cX0_grow 44 = .ok (.aload_n 0, 1) := by decide +kernel
theorem dX0_grow_45 : decode cX0_grow 45 = .ok (.iload 6, 2) := by decide +kernel
theorem dX0_grow_47 : decode cX0_grow 47 = .ok (.iload 4, 2) := by decide +kernel
theorem dX0_grow_49 : decode cX0_grow 49 = .ok (.invokevirtual 94, 3) := by decide +kernel
theorem dX0_grow_52 : decode cX0_grow 52 = .ok (.aload_n 0, 1) := by decide +kernel
theorem dX0_grow_53 : decode cX0_grow 53 = .ok (.getfield 7, 3) := by decide +kernel
theorem dX0_grow_56 : decode cX0_grow 56 = .ok (.iload_n 1, 1) := by decide +kernel
theorem dX0_grow_57 : decode cX0_grow 57 = .ok (.iconst 2, 1) := by decide +kernel
theorem dX0_grow_58 : decode cX0_grow 58 = .ok (.iastore, 1) := by decide +kernel
theorem dX0_grow_59 : decode cX0_grow 59 = .ok (.aload_n 0, 1) := by decide +kernel
theorem dX0_grow_60 : decode cX0_grow 60 = .ok (.getfield 13, 3) := by decide +kernel
theorem dX0_grow_63 : decode cX0_grow 63 = .ok (.iload_n 1, 1) := by decide +kernel
theorem dX0_grow_64 : decode cX0_grow 64 = .ok (.iload_n 2, 1) := by decide +kernel
theorem dX0_grow_65 : decode cX0_grow 65 = .ok (.iconst 3, 1) := by decide +kernel
theorem dX0_grow_66 : decode cX0_grow 66 = .ok (.iand, 1) := by decide +kernel
theorem dX0_grow_67 : decode cX0_grow 67 = .ok (.iastore, 1) := by decide +kernel
theorem dX0_grow_68 : decode cX0_grow 68 = .ok (.aload_n 0, 1) := by decide +kernel
theorem dX0_grow_69 : decode cX0_grow 69 = .ok (.getfield 19, 3) := by decide +kernel
theorem dX0_grow_72 : decode cX0_grow 72 = .ok (.iload_n 1, 1) := by decide +kernel
theorem dX0_grow_73 : decode cX0_grow 73 = .ok (.iload 5, 2) := by decide +kernel
theorem dX0_grow_75 : decode cX0_grow 75 = .ok (.iastore, 1) := by decide +kernel
theorem dX0_grow_76 : decode cX0_grow 76 = .ok (.aload_n 0, 1) := by decide +kernel
theorem dX0_grow_77 : decode cX0_grow 77 = .ok (.getfield 22, 3) := by decide +kernel
theorem dX0_grow_80 : decode cX0_grow 80 = .ok (.iload_n 1, 1) := by decide +kernel
theorem dX0_grow_81 : decode cX0_grow 81 = .ok (.iload 6, 2) := by decide +kernel
theorem dX0_grow_83 : decode cX0_grow 83 = .ok (.iastore, 1) := by decide +kernel
theorem dX0_grow_84 : decode cX0_grow 84 = .ok (.aload_n 0, 1) := by decide +kernel
theorem dX0_grow_85 : decode cX0_grow 85 = .ok (.dup, 1) := by decide +kernel
theorem dX0_grow_86 : decode cX0_grow 86 = .ok (.getfield 87, 3) := by decide +kernel
theorem dX0_grow_89 : decode cX0_grow 89 = .ok (.iconst 1, 1) := by decide +kernel
theorem dX0_grow_90 : decode cX0_grow 90 = .ok (.iadd, 1) := by decide +kernel
theorem dX0_grow_91 : decode cX0_grow 91 = .ok (.putfield 87, 3) := by decide +kernel
theorem dX0_grow_94 : decode cX0_grow 94 = .ok (.aload_n 0, 1) := by decide +kernel
theorem dX0_grow_95 : decode cX0_grow 95 = .ok (.iconst 0, 1) := by decide +kernel
theorem dX0_grow_96 : decode cX0_grow 96 = .ok (.putfield 98, 3) := by decide +kernel
theorem dX0_grow_99 : decode cX0_grow 99 = .ok (.iload 5, 2) := by decide +kernel
theorem dX0_grow_101 : decode cX0_grow 101 = .ok (.ireturn, 1) := by decide +kernel
theorem dX0_kindOf_0 : decode cX0_kindOf 0 = .ok (.iload_n 1, 1) := by decide +kernel
theorem dX0_kindOf_1 : decode cX0_kindOf 1 = .ok (.ifCond .lt 9, 3) := by decide +kernel
theorem dX0_kindOf_4 : decode cX0_kindOf 4 = .ok (.iload_n 1, 1) := by decide +kernel
theorem dX0_kindOf_5 : decode cX0_kindOf 5 = .ok (.bipush 30, 2) := by decide +kernel
theorem dX0_kindOf_7 : decode cX0_kindOf 7 = .ok (.if_icmp .le 7, 3) := by decide +kernel
theorem dX0_kindOf_10 : decode cX0_kindOf 10 = .ok (.iconst 0, 1) := by decide +kernel
theorem dX0_kindOf_11 : decode cX0_kindOf 11 = .ok (.goto 9, 3) := by decide +kernel
theorem dX0_kindOf_14 : decode cX0_kindOf 14 = .ok (.aload_n 0, 1) := by decide +kernel
theorem dX0_kindOf_15 : decode cX0_kindOf 15 = .ok (.getfield 7, 3) := by decide +kernel
theorem dX0_kindOf_18 : decode cX0_kindOf 18 = .ok (.iload_n 1, 1) := by decide +kernel
theorem dX0_kindOf_19 : decode cX0_kindOf 19 = .ok (.iaload, 1) := by decide +kernel
theorem dX0_kindOf_20 : decode cX0_kindOf 20 = .ok (.ireturn, 1) := by decide +kernel
theorem dX0_freeNode_0 : decode cX0_freeNode 0 = .ok (.iload_n 1, 1) := by decide +kernel
theorem dX0_freeNode_1 : decode cX0_freeNode 1 = .ok (.istore_n 2, 1) := by decide +kernel
theorem dX0_freeNode_2 : decode cX0_freeNode 2 = .ok (.iload_n 2, 1) := by decide +kernel
theorem dX0_freeNode_3 : decode cX0_freeNode 3 = .ok (.bipush 31, 2) := by decide +kernel
theorem dX0_freeNode_5 : decode cX0_freeNode 5 = .ok (.if_icmp .ge 20, 3) := by decide +kernel
theorem dX0_freeNode_8 : decode cX0_freeNode 8 = .ok (.aload_n 0, 1) := by decide +kernel
theorem dX0_freeNode_9 : decode cX0_freeNode 9 = .ok (.getfield 7, 3) := by decide +kernel
theorem dX0_freeNode_12 : decode cX0_freeNode 12 = .ok (.iload_n 2, 1) := by decide +kernel
theorem dX0_freeNode_13 : decode cX0_freeNode 13 = .ok (.iaload, 1) := by decide +kernel
theorem dX0_freeNode_14 : decode cX0_freeNode 14 = .ok (.ifCond .ne 5, 3) := by decide +kernel
theorem dX0_freeNode_17 : decode cX0_freeNode 17 = .ok (.iload_n 2, 1) := by decide +kernel
theorem dX0_freeNode_18 : decode cX0_freeNode 18 = .ok (.ireturn, 1) := by decide +kernel
theorem dX0_freeNode_19 : decode cX0_freeNode 19 = .ok (.iinc 2 1, 3) := by decide +kernel
theorem dX0_freeNode_22 : decode cX0_freeNode 22 = .ok (.goto (-20), 3) := by decide +kernel
theorem dX0_freeNode_25 : decode cX0_freeNode 25 = .ok (.bipush 30, 2) := by decide +kernel
theorem dX0_freeNode_27 : decode cX0_freeNode 27 = .ok (.ireturn, 1) := by decide +kernel
theorem dX0_makeLeaf_0 : decode cX0_makeLeaf 0 = .ok (.aload_n 0, 1) := by decide +kernel
theorem dX0_makeLeaf_1 : decode cX0_makeLeaf 1 = .ok (.getfield 7, 3) := by decide +kernel
theorem dX0_makeLeaf_4 : decode cX0_makeLeaf 4 = .ok (.iload_n 1, 1) := by decide +kernel
theorem dX0_makeLeaf_5 : decode cX0_makeLeaf 5 = .ok (.iconst 1, 1) := by decide +kernel
theorem dX0_makeLeaf_6 : decode cX0_makeLeaf 6 = .ok (.iastore, 1) := by decide +kernel
theorem dX0_makeLeaf_7 : decode cX0_makeLeaf 7 = .ok (.aload_n 0, 1) := by decide +kernel
theorem dX0_makeLeaf_8 : decode cX0_makeLeaf 8 = .ok (.getfield 16, 3) := by decide +kernel
theorem dX0_makeLeaf_11 : decode cX0_makeLeaf 11 = .ok (.iload_n 1, 1) := by decide +kernel
theorem dX0_makeLeaf_12 : decode cX0_makeLeaf 12 = .ok (.iload_n 2, 1) := by decide +kernel
theorem dX0_makeLeaf_13 : decode cX0_makeLeaf 13 = .ok (.iastore, 1) := by decide +kernel
theorem dX0_makeLeaf_14 : decode cX0_makeLeaf 14 = .ok (.aload_n 0, 1) := by decide +kernel
theorem dX0_makeLeaf_15 : decode cX0_makeLeaf 15 = .ok (.getfield 19, 3) := by decide +kernel
theorem dX0_makeLeaf_18 : decode cX0_makeLeaf 18 = .ok (.iload_n 1, 1) := by decide +kernel
theorem dX0_makeLeaf_19 : decode cX0_makeLeaf 19 = .ok (.iconst (-1), 1) := by decide +kernel
theorem dX0_makeLeaf_20 : decode cX0_makeLeaf 20 = .ok (.iastore, 1) := by decide +kernel
theorem dX0_makeLeaf_21 : decode cX0_makeLeaf 21 = .ok (.aload_n 0, 1) := by decide +kernel
theorem dX0_makeLeaf_22 : decode cX0_makeLeaf 22 = .ok (.getfield 22, 3) := by decide +kernel
theorem dX0_makeLeaf_25 : decode cX0_makeLeaf 25 = .ok (.iload_n 1, 1) := by decide +kernel
theorem dX0_makeLeaf_26 : decode cX0_makeLeaf 26 = .ok (.iconst (-1), 1) := by decide +kernel
theorem dX0_makeLeaf_27 : decode cX0_makeLeaf 27 = .ok (.iastore, 1) := by decide +kernel
theorem dX0_makeLeaf_28 : decode cX0_makeLeaf 28 = .ok (.return_, 1) := by decide +kernel
theorem dX0_shrink_0 : decode cX0_shrink 0 = .ok (.aload_n 0, 1) := by decide +kernel
theorem dX0_shrink_1 : decode cX0_shrink 1 = .ok (.iload_n 1, 1) := by decide +kernel
theorem dX0_shrink_2 : decode cX0_shrink 2 = .ok (.invokevirtual 83, 3) := by decide +kernel
theorem dX0_shrink_5 : decode cX0_shrink 5 = .ok (.iconst 2, 1) := by decide +kernel
theorem dX0_shrink_6 : decode cX0_shrink 6 = .ok (.if_icmp .ne 33, 3) := by decide +kernel
theorem dX0_shrink_9 : decode cX0_shrink 9 = .ok (.aload_n 0, 1) := by decide +kernel
theorem dX0_shrink_10 : decode cX0_shrink 10 = .ok (.getfield 7, 3) := by decide +kernel
theorem dX0_shrink_13 : decode cX0_shrink 13 = .ok (.aload_n 0, 1) := by decide +kernel
theorem dX0_shrink_14 : decode cX0_shrink 14 = .ok (.getfield 19, 3) := by decide +kernel
theorem dX0_shrink_17 : decode cX0_shrink 17 = .ok (.iload_n 1, 1) := by decide +kernel
theorem dX0_shrink_18 : decode cX0_shrink 18 = .ok (.iaload, 1) := by decide +kernel
theorem dX0_shrink_19 : decode cX0_shrink 19 = .ok (.iaload, 1) := by decide +kernel
theorem dX0_shrink_20 : decode cX0_shrink 20 = .ok (.iconst 1, 1) := by decide +kernel
theorem dX0_shrink_21 : decode cX0_shrink 21 = .ok (.if_icmp .ne 18, 3) := by decide +kernel
theorem dX0_shrink_24 : decode cX0_shrink 24 = .ok (.aload_n 0, 1) := by decide +kernel
theorem dX0_shrink_25 : decode cX0_shrink 25 = .ok (.getfield 7, 3) := by decide +kernel
theorem dX0_shrink_28 : decode cX0_shrink 28 = .ok (.aload_n 0, 1) := by decide +kernel
theorem dX0_shrink_29 : decode cX0_shrink 29 = .ok (.getfield 22, 3) := by decide +kernel
theorem dX0_shrink_32 : decode cX0_shrink 32 = .ok (.iload_n 1, 1) := by decide +kernel
theorem dX0_shrink_33 : decode cX0_shrink 33 = .ok (.iaload, 1) := by decide +kernel
theorem dX0_shrink_34 : decode cX0_shrink 34 = .ok (.iaload, 1) := by decide +kernel
theorem dX0_shrink_35 : decode cX0_shrink 35 = .ok (.iconst 1, 1) := by decide +kernel
theorem dX0_shrink_36 : decode cX0_shrink 36 = .ok (.if_icmp .eq 5, 3) := by decide +kernel
theorem dX0_shrink_39 : decode cX0_shrink 39 = .ok (.iconst (-1), 1) := by decide +kernel
theorem dX0_shrink_40 : decode cX0_shrink 40 = .ok (.ireturn, 1) := by decide +kernel
theorem dX0_shrink_41 : decode cX0_shrink 41 = .ok (.aload_n 0, 1) := by decide +kernel
theorem dX0_shrink_42 : decode cX0_shrink 42 = .ok (.getfield 19, 3) := by decide +kernel
theorem dX0_shrink_45 : decode cX0_shrink 45 = .ok (.iload_n 1, 1) := by decide +kernel
theorem dX0_shrink_46 : decode cX0_shrink 46 = .ok (.iaload, 1) := by decide +kernel
theorem dX0_shrink_47 : decode cX0_shrink 47 = .ok (.istore_n 2, 1) := by decide +kernel
theorem dX0_shrink_48 : decode cX0_shrink 48 = .ok (.aload_n 0, 1) := by decide +kernel
theorem dX0_shrink_49 : decode cX0_shrink 49 = .ok (.getfield 22, 3) := by decide +kernel
theorem dX0_shrink_52 : decode cX0_shrink 52 = .ok (.iload_n 1, 1) := by decide +kernel
theorem dX0_shrink_53 : decode cX0_shrink 53 = .ok (.iaload, 1) := by decide +kernel
theorem dX0_shrink_54 : decode cX0_shrink 54 = .ok (.istore_n 3, 1) := by decide +kernel
theorem dX0_shrink_55 : decode cX0_shrink 55 = .ok (.aload_n 0, 1) := by decide +kernel
theorem dX0_shrink_56 : decode cX0_shrink 56 = .ok (.getfield 13, 3) := by decide +kernel
theorem dX0_shrink_59 : decode cX0_shrink 59 = .ok (.iload_n 1, 1) := by decide +kernel
theorem dX0_shrink_60 : decode cX0_shrink 60 = .ok (.iaload, 1) := by decide +kernel
theorem dX0_shrink_61 : decode cX0_shrink 61 = .ok (.aload_n 0, 1) := by decide +kernel
theorem dX0_shrink_62 : decode cX0_shrink 62 = .ok (.getfield 16, 3) := by decide +kernel
theorem dX0_shrink_65 : decode cX0_shrink 65 = .ok (.iload_n 2, 1) := by decide +kernel
theorem dX0_shrink_66 : decode cX0_shrink 66 = .ok (.iaload, 1) := by decide +kernel
theorem dX0_shrink_67 : decode cX0_shrink 67 = .ok (.aload_n 0, 1) := by decide +kernel
theorem dX0_shrink_68 : decode cX0_shrink 68 = .ok (.getfield 16, 3) := by decide +kernel
theorem dX0_shrink_71 : decode cX0_shrink 71 = .ok (.iload_n 3, 1) := by decide +kernel
theorem dX0_shrink_72 : decode cX0_shrink 72 = .ok (.iaload, 1) := by decide +kernel
theorem dX0_shrink_73 : decode cX0_shrink 73 = .ok (.invokestatic 102, 3) := by decide +kernel
theorem dX0_shrink_76 : decode cX0_shrink 76 = .ok (.istore 4, 2) := by decide +kernel
theorem dX0_shrink_78 : decode cX0_shrink 78 = .ok (.aload_n 0, 1) := by decide +kernel
theorem dX0_shrink_79 : decode cX0_shrink 79 = .ok (.getfield 7, 3) := by decide +kernel
theorem dX0_shrink_82 : decode cX0_shrink 82 = .ok (.iload_n 2, 1) := by decide +kernel
theorem dX0_shrink_83 : decode cX0_shrink 83 = .ok (.iconst 0, 1) := by decide +kernel
end
section
set_option maxRecDepth 100000
theorem dX0_shrink_84 : decode cX0_shrink 84 = .ok (.iastore, 1) := by decide +kernel
theorem dX0_shrink_85 : decode cX0_shrink 85 = .ok (.aload_n 0, 1) := by decide +kernel
theorem dX0_shrink_86 : decode cX0_shrink 86 = .ok (.getfield 7, 3) := by decide +kernel
theorem dX0_shrink_89 : decode cX0_shrink 89 = .ok (.iload_n 3, 1) := by decide +kernel
theorem dX0_shrink_90 : decode cX0_shrink 90 = .ok (.iconst 0, 1) := by decide +kernel
theorem dX0_shrink_91 : decode cX0_shrink 91 = .ok (.iastore, 1) := by decide +kernel
theorem dX0_shrink_92 : decode cX0_shrink 92 = .ok (.aload_n 0, 1) := by decide +kernel
theorem dX0_shrink_93 : decode cX0_shrink 93 = .ok (.iload_n 1, 1) := by decide +kernel
theorem dX0_shrink_94 : decode cX0_shrink 94 = .ok (.iload 4, 2) := by decide +kernel
theorem dX0_shrink_96 : decode cX0_shrink 96 = .ok (.invokevirtual 94, 3) := by decide +kernel
theorem dX0_shrink_99 : decode cX0_shrink 99 = .ok (.aload_n 0, 1) := by decide +kernel
theorem dX0_shrink_100 : decode cX0_shrink 100 = .ok (.dup, 1) := by decide +kernel
theorem dX0_shrink_101 : decode cX0_shrink 101 = .ok (.getfield 87, 3) := by decide +kernel
theorem dX0_shrink_104 : decode cX0_shrink 104 = .ok (.iconst 1, 1) := by decide +kernel
theorem dX0_shrink_105 : decode cX0_shrink 105 = .ok (.isub, 1) := by decide +kernel
theorem dX0_shrink_106 : decode cX0_shrink 106 = .ok (.putfield 87, 3) := by decide +kernel
theorem dX0_shrink_109 : decode cX0_shrink 109 = .ok (.aload_n 0, 1) := by decide +kernel
theorem dX0_shrink_110 : decode cX0_shrink 110 = .ok (.iconst 0, 1) := by decide +kernel
theorem dX0_shrink_111 : decode cX0_shrink 111 = .ok (.putfield 98, 3) := by decide +kernel
theorem dX0_shrink_114 : decode cX0_shrink 114 = .ok (.iconst 0, 1) := by decide +kernel
theorem dX0_shrink_115 : decode cX0_shrink 115 = .ok (.ireturn, 1) := by decide +kernel
theorem dX0_calculate_0 : decode cX0_calculate 0 = .ok (.iload_n 0, 1) := by decide +kernel
theorem dX0_calculate_1 : decode cX0_calculate 1 = .ok (.ifCond .ne 7, 3) := by decide +kernel
theorem dX0_calculate_4 : decode cX0_calculate 4 = .ok (.iload_n 1, 1) := by decide +kernel
theorem dX0_calculate_5 : decode cX0_calculate 5 = .ok (.iload_n 2, 1) := by decide +kernel
theorem dX0_calculate_6 : decode cX0_calculate 6 = .ok (.iadd, 1) := by decide +kernel
theorem dX0_calculate_7 : decode cX0_calculate 7 = .ok (.ireturn, 1) := by decide +kernel
theorem dX0_calculate_8 : decode cX0_calculate 8 = .ok (.iload_n 0, 1) := by decide +kernel
theorem dX0_calculate_9 : decode cX0_calculate 9 = .ok (.iconst 1, 1) := by decide +kernel
theorem dX0_calculate_10 : decode cX0_calculate 10 = .ok (.if_icmp .ne 7, 3) := by decide +kernel
theorem dX0_calculate_13 : decode cX0_calculate 13 = .ok (.iload_n 1, 1) := by decide +kernel
theorem dX0_calculate_14 : decode cX0_calculate 14 = .ok (.iload_n 2, 1) := by decide +kernel
theorem dX0_calculate_15 : decode cX0_calculate 15 = .ok (.imul, 1) := by decide +kernel
theorem dX0_calculate_16 : decode cX0_calculate 16 = .ok (.ireturn, 1) := by decide +kernel
theorem dX0_calculate_17 : decode cX0_calculate 17 = .ok (.iload_n 0, 1) := by decide +kernel
theorem dX0_calculate_18 : decode cX0_calculate 18 = .ok (.iconst 2, 1) := by decide +kernel
theorem dX0_calculate_19 : decode cX0_calculate 19 = .ok (.if_icmp .ne 9, 3) := by decide +kernel
theorem dX0_calculate_22 : decode cX0_calculate 22 = .ok (.iload_n 1, 1) := by decide +kernel
theorem dX0_calculate_23 : decode cX0_calculate 23 = .ok (.iload_n 2, 1) := by decide +kernel
theorem dX0_calculate_24 : decode cX0_calculate 24 = .ok (.isub, 1) := by decide +kernel
theorem dX0_calculate_25 : decode cX0_calculate 25 = .ok (.goto 6, 3) := by decide +kernel
theorem dX0_calculate_28 : decode cX0_calculate 28 = .ok (.iload_n 2, 1) := by decide +kernel
theorem dX0_calculate_29 : decode cX0_calculate 29 = .ok (.iload_n 1, 1) := by decide +kernel
theorem dX0_calculate_30 : decode cX0_calculate 30 = .ok (.isub, 1) := by decide +kernel
theorem dX0_calculate_31 : decode cX0_calculate 31 = .ok (.ireturn, 1) := by decide +kernel
theorem dX0_set_0 : decode cX0_set 0 = .ok (.aload_n 0, 1) := by decide +kernel
theorem dX0_set_1 : decode cX0_set 1 = .ok (.iload_n 1, 1) := by decide +kernel
theorem dX0_set_2 : decode cX0_set 2 = .ok (.invokevirtual 83, 3) := by decide +kernel
theorem dX0_set_5 : decode cX0_set 5 = .ok (.iconst 1, 1) := by decide +kernel
theorem dX0_set_6 : decode cX0_set 6 = .ok (.if_icmp .eq 5, 3) := by decide +kernel
theorem dX0_set_9 : decode cX0_set 9 = .ok (.iconst (-1), 1) := by decide +kernel
theorem dX0_set_10 : decode cX0_set 10 = .ok (.ireturn, 1) := by decide +kernel
theorem dX0_set_11 : decode cX0_set 11 = .ok (.aload_n 0, 1) := by decide +kernel
theorem dX0_set_12 : decode cX0_set 12 = .ok (.getfield 16, 3) := by decide +kernel
theorem dX0_set_15 : decode cX0_set 15 = .ok (.iload_n 1, 1) := by decide +kernel
theorem dX0_set_16 : decode cX0_set 16 = .ok (.iload_n 2, 1) := by decide +kernel
theorem dX0_set_17 : decode cX0_set 17 = .ok (.iastore, 1) := by decide +kernel
theorem dX0_set_18 : decode cX0_set 18 = .ok (.aload_n 0, 1) := by decide +kernel
theorem dX0_set_19 : decode cX0_set 19 = .ok (.getfield 98, 3) := by decide +kernel
theorem dX0_set_22 : decode cX0_set 22 = .ok (.ifCond .eq 8, 3) := by decide +kernel
theorem dX0_set_25 : decode cX0_set 25 = .ok (.aload_n 0, 1) := by decide +kernel
theorem dX0_set_26 : decode cX0_set 26 = .ok (.iload_n 1, 1) := by decide +kernel
theorem dX0_set_27 : decode cX0_set 27 = .ok (.invokevirtual 106, 3) := by decide +kernel
theorem dX0_set_30 : decode cX0_set 30 = .ok (.iconst 0, 1) := by decide +kernel
theorem dX0_set_31 : decode cX0_set 31 = .ok (.ireturn, 1) := by decide +kernel
theorem dX0_renew_0 : decode cX0_renew 0 = .ok (.iconst 0, 1) := by decide +kernel
theorem dX0_renew_1 : decode cX0_renew 1 = .ok (.istore_n 2, 1) := by decide +kernel
theorem dX0_renew_2 : decode cX0_renew 2 = .ok (.iload_n 2, 1) := by decide +kernel
theorem dX0_renew_3 : decode cX0_renew 3 = .ok (.bipush 46, 2) := by decide +kernel
theorem dX0_renew_5 : decode cX0_renew 5 = .ok (.if_icmp .ge 16, 3) := by decide +kernel
theorem dX0_renew_8 : decode cX0_renew 8 = .ok (.aload_n 0, 1) := by decide +kernel
theorem dX0_renew_9 : decode cX0_renew 9 = .ok (.getfield 55, 3) := by decide +kernel
theorem dX0_renew_12 : decode cX0_renew 12 = .ok (.iload_n 2, 1) := by decide +kernel
theorem dX0_renew_13 : decode cX0_renew 13 = .ok (.iconst 0, 1) := by decide +kernel
theorem dX0_renew_14 : decode cX0_renew 14 = .ok (.bastore, 1) := by decide +kernel
theorem dX0_renew_15 : decode cX0_renew 15 = .ok (.iinc 2 1, 3) := by decide +kernel
theorem dX0_renew_18 : decode cX0_renew 18 = .ok (.goto (-16), 3) := by decide +kernel
theorem dX0_renew_21 : decode cX0_renew 21 = .ok (.iconst 0, 1) := by decide +kernel
theorem dX0_renew_22 : decode cX0_renew 22 = .ok (.istore_n 2, 1) := by decide +kernel
theorem dX0_renew_23 : decode cX0_renew 23 = .ok (.iload_n 2, 1) := by decide +kernel
theorem dX0_renew_24 : decode cX0_renew 24 = .ok (.aload_n 0, 1) := by decide +kernel
theorem dX0_renew_25 : decode cX0_renew 25 = .ok (.getfield 116, 3) := by decide +kernel
theorem dX0_renew_28 : decode cX0_renew 28 = .ok (.if_icmp .ge 96, 3) := by decide +kernel
theorem dX0_renew_31 : decode cX0_renew 31 = .ok (.aload_n 0, 1) := by decide +kernel
theorem dX0_renew_32 : decode cX0_renew 32 = .ok (.getfield 55, 3) := by decide +kernel
theorem dX0_renew_35 : decode cX0_renew 35 = .ok (.aload_n 0, 1) := by decide +kernel
theorem dX0_renew_36 : decode cX0_renew 36 = .ok (.getfield 71, 3) := by decide +kernel
theorem dX0_renew_39 : decode cX0_renew 39 = .ok (.iload_n 2, 1) := by decide +kernel
theorem dX0_renew_40 : decode cX0_renew 40 = .ok (.iaload, 1) := by decide +kernel
theorem dX0_renew_41 : decode cX0_renew 41 = .ok (.baload, 1) := by decide +kernel
theorem dX0_renew_42 : decode cX0_renew 42 = .ok (.ifCond .ne 31, 3) := by decide +kernel
theorem dX0_renew_45 : decode cX0_renew 45 = .ok (.aload_n 0, 1) := by decide +kernel
theorem dX0_renew_46 : decode cX0_renew 46 = .ok (.getfield 55, 3) := by decide +kernel
theorem dX0_renew_49 : decode cX0_renew 49 = .ok (.aload_n 0, 1) := by decide +kernel
theorem dX0_renew_50 : decode cX0_renew 50 = .ok (.getfield 74, 3) := by decide +kernel
theorem dX0_renew_53 : decode cX0_renew 53 = .ok (.iload_n 2, 1) := by decide +kernel
theorem dX0_renew_54 : decode cX0_renew 54 = .ok (.iaload, 1) := by decide +kernel
theorem dX0_renew_55 : decode cX0_renew 55 = .ok (.baload, 1) := by decide +kernel
theorem dX0_renew_56 : decode cX0_renew 56 = .ok (.ifCond .ne 17, 3) := by decide +kernel
theorem dX0_renew_59 : decode cX0_renew 59 = .ok (.aload_n 0, 1) := by decide +kernel
theorem dX0_renew_60 : decode cX0_renew 60 = .ok (.getfield 55, 3) := by decide +kernel
theorem dX0_renew_63 : decode cX0_renew 63 = .ok (.aload_n 0, 1) := by decide +kernel
theorem dX0_renew_64 : decode cX0_renew 64 = .ok (.getfield 77, 3) := by decide +kernel
theorem dX0_renew_67 : decode cX0_renew 67 = .ok (.iload_n 2, 1) := by decide +kernel
theorem dX0_renew_68 : decode cX0_renew 68 = .ok (.iaload, 1) := by decide +kernel
theorem dX0_renew_69 : decode cX0_renew 69 = .ok (.baload, 1) := by decide +kernel
theorem dX0_renew_70 : decode cX0_renew 70 = .ok (.ifCond .eq 7, 3) := by decide +kernel
theorem dX0_renew_73 : decode cX0_renew 73 = .ok (.iconst 1, 1) := by decide +kernel
theorem dX0_renew_74 : decode cX0_renew 74 = .ok (.goto 4, 3) := by decide +kernel
theorem dX0_renew_77 : decode cX0_renew 77 = .ok (.iconst 0, 1) := by decide +kernel
theorem dX0_renew_78 : decode cX0_renew 78 = .ok (.istore_n 3, 1) := by decide +kernel
theorem dX0_renew_79 : decode cX0_renew 79 = .ok (.iload_n 3, 1) := by decide +kernel
theorem dX0_renew_80 : decode cX0_renew 80 = .ok (.ifCond .ne 23, 3) := by decide +kernel
theorem dX0_renew_83 : decode cX0_renew 83 = .ok (.aload_n 0, 1) := by decide +kernel
theorem dX0_renew_84 : decode cX0_renew 84 = .ok (.getfield 59, 3) := by decide +kernel
theorem dX0_renew_87 : decode cX0_renew 87 = .ok (.iload_n 2, 1) := by decide +kernel
theorem dX0_renew_88 : decode cX0_renew 88 = .ok (.iaload, 1) := by decide +kernel
theorem dX0_renew_89 : decode cX0_renew 89 = .ok (.iload_n 1, 1) := by decide +kernel
theorem dX0_renew_90 : decode cX0_renew 90 = .ok (.if_icmp .eq 13, 3) := by decide +kernel
theorem dX0_renew_93 : decode cX0_renew 93 = .ok (.aload_n 0, 1) := by decide +kernel
theorem dX0_renew_94 : decode cX0_renew 94 = .ok (.getfield 62, 3) := by decide +kernel
theorem dX0_renew_97 : decode cX0_renew 97 = .ok (.iload_n 2, 1) := by decide +kernel
theorem dX0_renew_98 : decode cX0_renew 98 = .ok (.iaload, 1) := by decide +kernel
theorem dX0_renew_99 : decode cX0_renew 99 = .ok (.iload_n 1, 1) := by decide +kernel
theorem dX0_renew_100 : decode cX0_renew 100 = .ok (.if_icmp .ne 18, 3) := by decide +kernel
theorem dX0_renew_103 : decode cX0_renew 103 = .ok (.aload_n 0, 1) := by decide +kernel
theorem dX0_renew_104 : decode cX0_renew 104 = .ok (.iload_n 2, 1) := by decide +kernel
theorem dX0_renew_105 : decode cX0_renew 105 = .ok (.invokevirtual 142, 3) := by decide +kernel
theorem dX0_renew_108 : decode cX0_renew 108 = .ok (.aload_n 0, 1) := by decide +kernel
theorem dX0_renew_109 : decode cX0_renew 109 = .ok (.getfield 55, 3) := by decide +kernel
theorem dX0_renew_112 : decode cX0_renew 112 = .ok (.bipush 31, 2) := by decide +kernel
theorem dX0_renew_114 : decode cX0_renew 114 = .ok (.iload_n 2, 1) := by decide +kernel
theorem dX0_renew_115 : decode cX0_renew 115 = .ok (.iadd, 1) := by decide +kernel
theorem dX0_renew_116 : decode cX0_renew 116 = .ok (.iconst 1, 1) := by decide +kernel
theorem dX0_renew_117 : decode cX0_renew 117 = .ok (.bastore, 1) := by decide +kernel
theorem dX0_renew_118 : decode cX0_renew 118 = .ok (.iinc 2 1, 3) := by decide +kernel
theorem dX0_renew_121 : decode cX0_renew 121 = .ok (.goto (-98), 3) := by decide +kernel
theorem dX0_renew_124 : decode cX0_renew 124 = .ok (.return_, 1) := by decide +kernel
theorem dX0_workOut_0 : decode cX0_workOut 0 = .ok (.aload_n 0, 1) := by decide +kernel
theorem dX0_workOut_1 : decode cX0_workOut 1 = .ok (.iload_n 1, 1) := by decide +kernel
theorem dX0_workOut_2 : decode cX0_workOut 2 = .ok (.invokevirtual 113, 3) := by decide +kernel
theorem dX0_workOut_5 : decode cX0_workOut 5 = .ok (.istore_n 2, 1) := by decide +kernel
theorem dX0_workOut_6 : decode cX0_workOut 6 = .ok (.aload_n 0, 1) := by decide +kernel
theorem dX0_workOut_7 : decode cX0_workOut 7 = .ok (.iload_n 1, 1) := by decide +kernel
theorem dX0_workOut_8 : decode cX0_workOut 8 = .ok (.iload_n 2, 1) := by decide +kernel
theorem dX0_workOut_9 : decode cX0_workOut 9 = .ok (.iconst 0, 1) := by decide +kernel
theorem dX0_workOut_10 : decode cX0_workOut 10 = .ok (.invokevirtual 157, 3) := by decide +kernel
theorem dX0_workOut_13 : decode cX0_workOut 13 = .ok (.aload_n 0, 1) := by decide +kernel
theorem dX0_workOut_14 : decode cX0_workOut 14 = .ok (.getfield 43, 3) := by decide +kernel
theorem dX0_workOut_17 : decode cX0_workOut 17 = .ok (.aload_n 0, 1) := by decide +kernel
theorem dX0_workOut_18 : decode cX0_workOut 18 = .ok (.getfield 77, 3) := by decide +kernel
theorem dX0_workOut_21 : decode cX0_workOut 21 = .ok (.iload_n 1, 1) := by decide +kernel
theorem dX0_workOut_22 : decode cX0_workOut 22 = .ok (.iaload, 1) := by decide +kernel
theorem dX0_workOut_23 : decode cX0_workOut 23 = .ok (.iaload, 1) := by decide +kernel
theorem dX0_workOut_24 : decode cX0_workOut 24 = .ok (.istore_n 3, 1) := by decide +kernel
theorem dX0_workOut_25 : decode cX0_workOut 25 = .ok (.aload_n 0, 1) := by decide +kernel
theorem dX0_workOut_26 : decode cX0_workOut 26 = .ok (.getfield 46, 3) := by decide +kernel
theorem dX0_workOut_29 : decode cX0_workOut 29 = .ok (.aload_n 0, 1) := by decide +kernel
theorem dX0_workOut_30 : decode cX0_workOut 30 = .ok (.getfield 77, 3) := by decide +kernel
theorem dX0_workOut_33 : decode cX0_workOut 33 = .ok (.iload_n 1, 1) := by decide +kernel
theorem dX0_workOut_34 : decode cX0_workOut 34 = .ok (.iaload, 1) := by decide +kernel
theorem dX0_workOut_35 : decode cX0_workOut 35 = .ok (.iaload, 1) := by decide +kernel
theorem dX0_workOut_36 : decode cX0_workOut 36 = .ok (.istore 4, 2) := by decide +kernel
theorem dX0_workOut_38 : decode cX0_workOut 38 = .ok (.aload_n 0, 1) := by decide +kernel
theorem dX0_workOut_39 : decode cX0_workOut 39 = .ok (.getfield 43, 3) := by decide +kernel
theorem dX0_workOut_42 : decode cX0_workOut 42 = .ok (.aload_n 0, 1) := by decide +kernel
theorem dX0_workOut_43 : decode cX0_workOut 43 = .ok (.getfield 74, 3) := by decide +kernel
theorem dX0_workOut_46 : decode cX0_workOut 46 = .ok (.iload_n 1, 1) := by decide +kernel
theorem dX0_workOut_47 : decode cX0_workOut 47 = .ok (.iaload, 1) := by decide +kernel
theorem dX0_workOut_48 : decode cX0_workOut 48 = .ok (.iaload, 1) := by decide +kernel
theorem dX0_workOut_49 : decode cX0_workOut 49 = .ok (.istore 5, 2) := by decide +kernel
theorem dX0_workOut_51 : decode cX0_workOut 51 = .ok (.aload_n 0, 1) := by decide +kernel
theorem dX0_workOut_52 : decode cX0_workOut 52 = .ok (.getfield 43, 3) := by decide +kernel
theorem dX0_workOut_55 : decode cX0_workOut 55 = .ok (.bipush 31, 2) := by decide +kernel
theorem dX0_workOut_57 : decode cX0_workOut 57 = .ok (.iload_n 1, 1) := by decide +kernel
theorem dX0_workOut_58 : decode cX0_workOut 58 = .ok (.iadd, 1) := by decide +kernel
theorem dX0_workOut_59 : decode cX0_workOut 59 = .ok (.iload 5, 2) := by decide +kernel
theorem dX0_workOut_61 : decode cX0_workOut 61 = .ok (.aload_n 0, 1) := by decide +kernel
theorem dX0_workOut_62 : decode cX0_workOut 62 = .ok (.getfield 145, 3) := by decide +kernel
theorem dX0_workOut_65 : decode cX0_workOut 65 = .ok (.imul, 1) := by decide +kernel
theorem dX0_workOut_66 : decode cX0_workOut 66 = .ok (.iload_n 3, 1) := by decide +kernel
theorem dX0_workOut_67 : decode cX0_workOut 67 = .ok (.imul, 1) := by decide +kernel
theorem dX0_workOut_68 : decode cX0_workOut 68 = .ok (.iastore, 1) := by decide +kernel
theorem dX0_workOut_69 : decode cX0_workOut 69 = .ok (.aload_n 0, 1) := by decide +kernel
theorem dX0_workOut_70 : decode cX0_workOut 70 = .ok (.getfield 46, 3) := by decide +kernel
theorem dX0_workOut_73 : decode cX0_workOut 73 = .ok (.bipush 31, 2) := by decide +kernel
theorem dX0_workOut_75 : decode cX0_workOut 75 = .ok (.iload_n 1, 1) := by decide +kernel
theorem dX0_workOut_76 : decode cX0_workOut 76 = .ok (.iadd, 1) := by decide +kernel
theorem dX0_workOut_77 : decode cX0_workOut 77 = .ok (.iload 5, 2) := by decide +kernel
theorem dX0_workOut_79 : decode cX0_workOut 79 = .ok (.aload_n 0, 1) := by decide +kernel
theorem dX0_workOut_80 : decode cX0_workOut 80 = .ok (.getfield 145, 3) := by decide +kernel
theorem dX0_workOut_83 : decode cX0_workOut 83 = .ok (.iload 4, 2) := by decide +kernel
theorem dX0_workOut_85 : decode cX0_workOut 85 = .ok (.imul, 1) := by decide +kernel
theorem dX0_workOut_86 : decode cX0_workOut 86 = .ok (.aload_n 0, 1) := by decide +kernel
theorem dX0_workOut_87 : decode cX0_workOut 87 = .ok (.getfield 148, 3) := by decide +kernel
theorem dX0_workOut_90 : decode cX0_workOut 90 = .ok (.iadd, 1) := by decide +kernel
theorem dX0_workOut_91 : decode cX0_workOut 91 = .ok (.imul, 1) := by decide +kernel
theorem dX0_workOut_92 : decode cX0_workOut 92 = .ok (.aload_n 0, 1) := by decide +kernel
theorem dX0_workOut_93 : decode cX0_workOut 93 = .ok (.getfield 46, 3) := by decide +kernel
theorem dX0_workOut_96 : decode cX0_workOut 96 = .ok (.aload_n 0, 1) := by decide +kernel
theorem dX0_workOut_97 : decode cX0_workOut 97 = .ok (.getfield 74, 3) := by decide +kernel
theorem dX0_workOut_100 : decode cX0_workOut 100 = .ok (.iload_n 1, 1) := by decide +kernel
theorem dX0_workOut_101 : decode cX0_workOut 101 = .ok (.iaload, 1) := by decide +kernel
theorem dX0_workOut_102 : decode cX0_workOut 102 = .ok (.iaload, 1) := by decide +kernel
theorem dX0_workOut_103 : decode cX0_workOut 103 = .ok (.iadd, 1) := by decide +kernel
theorem dX0_workOut_104 : decode cX0_workOut 104 = .ok (.iastore, 1) := by decide +kernel
theorem dX0_workOut_105 : decode cX0_workOut 105 = .ok (.return_, 1) := by decide +kernel
theorem dX0_leafValue_0 : decode cX0_leafValue 0 = .ok (.aload_n 0, 1) := by decide +kernel
theorem dX0_leafValue_1 : decode cX0_leafValue 1 = .ok (.getfield 71, 3) := by decide +kernel
theorem dX0_leafValue_4 : decode cX0_leafValue 4 = .ok (.iload_n 1, 1) := by decide +kernel
theorem dX0_leafValue_5 : decode cX0_leafValue 5 = .ok (.iaload, 1) := by decide +kernel
theorem dX0_leafValue_6 : decode cX0_leafValue 6 = .ok (.istore_n 2, 1) := by decide +kernel
theorem dX0_leafValue_7 : decode cX0_leafValue 7 = .ok (.aload_n 0, 1) := by decide +kernel
theorem dX0_leafValue_8 : decode cX0_leafValue 8 = .ok (.getfield 43, 3) := by decide +kernel
theorem dX0_leafValue_11 : decode cX0_leafValue 11 = .ok (.iload_n 2, 1) := by decide +kernel
theorem dX0_leafValue_12 : decode cX0_leafValue 12 = .ok (.iaload, 1) := by decide +kernel
theorem dX0_leafValue_13 : decode cX0_leafValue 13 = .ok (.aload_n 0, 1) := by decide +kernel
theorem dX0_leafValue_14 : decode cX0_leafValue 14 = .ok (.getfield 16, 3) := by decide +kernel
theorem dX0_leafValue_17 : decode cX0_leafValue 17 = .ok (.aload_n 0, 1) := by decide +kernel
theorem dX0_leafValue_18 : decode cX0_leafValue 18 = .ok (.getfield 59, 3) := by decide +kernel
theorem dX0_leafValue_21 : decode cX0_leafValue 21 = .ok (.iload_n 1, 1) := by decide +kernel
theorem dX0_leafValue_22 : decode cX0_leafValue 22 = .ok (.iaload, 1) := by decide +kernel
theorem dX0_leafValue_23 : decode cX0_leafValue 23 = .ok (.iaload, 1) := by decide +kernel
theorem dX0_leafValue_24 : decode cX0_leafValue 24 = .ok (.imul, 1) := by decide +kernel
theorem dX0_leafValue_25 : decode cX0_leafValue 25 = .ok (.aload_n 0, 1) := by decide +kernel
theorem dX0_leafValue_26 : decode cX0_leafValue 26 = .ok (.getfield 46, 3) := by decide +kernel
theorem dX0_leafValue_29 : decode cX0_leafValue 29 = .ok (.iload_n 2, 1) := by decide +kernel
theorem dX0_leafValue_30 : decode cX0_leafValue 30 = .ok (.iaload, 1) := by decide +kernel
theorem dX0_leafValue_31 : decode cX0_leafValue 31 = .ok (.iadd, 1) := by decide +kernel
theorem dX0_leafValue_32 : decode cX0_leafValue 32 = .ok (.ireturn, 1) := by decide +kernel
theorem dX0_fixLeaf_0 : decode cX0_fixLeaf 0 = .ok (.aload_n 0, 1) := by decide +kernel
theorem dX0_fixLeaf_1 : decode cX0_fixLeaf 1 = .ok (.getfield 13, 3) := by decide +kernel
theorem dX0_fixLeaf_4 : decode cX0_fixLeaf 4 = .ok (.aload_n 0, 1) := by decide +kernel
theorem dX0_fixLeaf_5 : decode cX0_fixLeaf 5 = .ok (.getfield 62, 3) := by decide +kernel
theorem dX0_fixLeaf_8 : decode cX0_fixLeaf 8 = .ok (.iload_n 1, 1) := by decide +kernel
theorem dX0_fixLeaf_9 : decode cX0_fixLeaf 9 = .ok (.iaload, 1) := by decide +kernel
theorem dX0_fixLeaf_10 : decode cX0_fixLeaf 10 = .ok (.iaload, 1) := by decide +kernel
theorem dX0_fixLeaf_11 : decode cX0_fixLeaf 11 = .ok (.istore 4, 2) := by decide +kernel
theorem dX0_fixLeaf_13 : decode cX0_fixLeaf 13 = .ok (.iload 4, 2) := by decide +kernel
theorem dX0_fixLeaf_15 : decode cX0_fixLeaf 15 = .ok (.iconst 2, 1) := by decide +kernel
theorem dX0_fixLeaf_16 : decode cX0_fixLeaf 16 = .ok (.if_icmp .ne 12, 3) := by decide +kernel
theorem dX0_fixLeaf_19 : decode cX0_fixLeaf 19 = .ok (.aload_n 0, 1) := by decide +kernel
theorem dX0_fixLeaf_20 : decode cX0_fixLeaf 20 = .ok (.getfield 68, 3) := by decide +kernel
theorem dX0_fixLeaf_23 : decode cX0_fixLeaf 23 = .ok (.iload_n 1, 1) := by decide +kernel
theorem dX0_fixLeaf_24 : decode cX0_fixLeaf 24 = .ok (.baload, 1) := by decide +kernel
theorem dX0_fixLeaf_25 : decode cX0_fixLeaf 25 = .ok (.ifCond .ne 18, 3) := by decide +kernel
theorem dX0_fixLeaf_28 : decode cX0_fixLeaf 28 = .ok (.iload 4, 2) := by decide +kernel
theorem dX0_fixLeaf_30 : decode cX0_fixLeaf 30 = .ok (.iconst 3, 1) := by decide +kernel
theorem dX0_fixLeaf_31 : decode cX0_fixLeaf 31 = .ok (.if_icmp .ne 16, 3) := by decide +kernel
theorem dX0_fixLeaf_34 : decode cX0_fixLeaf 34 = .ok (.aload_n 0, 1) := by decide +kernel
theorem dX0_fixLeaf_35 : decode cX0_fixLeaf 35 = .ok (.getfield 68, 3) := by decide +kernel
theorem dX0_fixLeaf_38 : decode cX0_fixLeaf 38 = .ok (.iload_n 1, 1) := by decide +kernel
theorem dX0_fixLeaf_39 : decode cX0_fixLeaf 39 = .ok (.baload, 1) := by decide +kernel
theorem dX0_fixLeaf_40 : decode cX0_fixLeaf 40 = .ok (.ifCond .ne 7, 3) := by decide +kernel
theorem dX0_fixLeaf_43 : decode cX0_fixLeaf 43 = .ok (.iconst 1, 1) := by decide +kernel
theorem dX0_fixLeaf_44 : decode cX0_fixLeaf 44 = .ok (.goto 4, 3) := by decide +kernel
theorem dX0_fixLeaf_47 : decode cX0_fixLeaf 47 = .ok (.iconst 0, 1) := by decide +kernel
theorem dX0_fixLeaf_48 : decode cX0_fixLeaf 48 = .ok (.istore 5, 2) := by decide +kernel
theorem dX0_fixLeaf_50 : decode cX0_fixLeaf 50 = .ok (.aload_n 0, 1) := by decide +kernel
theorem dX0_fixLeaf_51 : decode cX0_fixLeaf 51 = .ok (.iload 4, 2) := by decide +kernel
theorem dX0_fixLeaf_53 : decode cX0_fixLeaf 53 = .ok (.iconst 1, 1) := by decide +kernel
theorem dX0_fixLeaf_54 : decode cX0_fixLeaf 54 = .ok (.if_icmp .ne 7, 3) := by decide +kernel
theorem dX0_fixLeaf_57 : decode cX0_fixLeaf 57 = .ok (.iload_n 2, 1) := by decide +kernel
theorem dX0_fixLeaf_58 : decode cX0_fixLeaf 58 = .ok (.goto 13, 3) := by decide +kernel
theorem dX0_fixLeaf_61 : decode cX0_fixLeaf 61 = .ok (.iload 5, 2) := by decide +kernel
theorem dX0_fixLeaf_63 : decode cX0_fixLeaf 63 = .ok (.ifCond .eq 7, 3) := by decide +kernel
theorem dX0_fixLeaf_66 : decode cX0_fixLeaf 66 = .ok (.iconst (-1), 1) := by decide +kernel
theorem dX0_fixLeaf_67 : decode cX0_fixLeaf 67 = .ok (.goto 4, 3) := by decide +kernel
end
section
set_option maxRecDepth 100000
theorem dX0_fixLeaf_70 : decode cX0_fixLeaf 70 = .ok (.iconst 1, 1) := by decide +kernel
theorem dX0_fixLeaf_71 : decode cX0_fixLeaf 71 = .ok (.putfield 145, 3) := by decide +kernel
theorem dX0_fixLeaf_74 : decode cX0_fixLeaf 74 = .ok (.aload_n 0, 1) := by decide +kernel
theorem dX0_fixLeaf_75 : decode cX0_fixLeaf 75 = .ok (.iload 4, 2) := by decide +kernel
theorem dX0_fixLeaf_77 : decode cX0_fixLeaf 77 = .ok (.iconst 1, 1) := by decide +kernel
theorem dX0_fixLeaf_78 : decode cX0_fixLeaf 78 = .ok (.if_icmp .ne 7, 3) := by decide +kernel
theorem dX0_fixLeaf_81 : decode cX0_fixLeaf 81 = .ok (.iconst 0, 1) := by decide +kernel
theorem dX0_fixLeaf_82 : decode cX0_fixLeaf 82 = .ok (.goto 19, 3) := by decide +kernel
theorem dX0_fixLeaf_85 : decode cX0_fixLeaf 85 = .ok (.iload 4, 2) := by decide +kernel
theorem dX0_fixLeaf_87 : decode cX0_fixLeaf 87 = .ok (.ifCond .eq 8, 3) := by decide +kernel
theorem dX0_fixLeaf_90 : decode cX0_fixLeaf 90 = .ok (.iload 5, 2) := by decide +kernel
theorem dX0_fixLeaf_92 : decode cX0_fixLeaf 92 = .ok (.ifCond .eq 7, 3) := by decide +kernel
theorem dX0_fixLeaf_95 : decode cX0_fixLeaf 95 = .ok (.iload_n 2, 1) := by decide +kernel
theorem dX0_fixLeaf_96 : decode cX0_fixLeaf 96 = .ok (.goto 5, 3) := by decide +kernel
theorem dX0_fixLeaf_99 : decode cX0_fixLeaf 99 = .ok (.iload_n 2, 1) := by decide +kernel
theorem dX0_fixLeaf_100 : decode cX0_fixLeaf 100 = .ok (.ineg, 1) := by decide +kernel
theorem dX0_fixLeaf_101 : decode cX0_fixLeaf 101 = .ok (.putfield 148, 3) := by decide +kernel
theorem dX0_fixLeaf_104 : decode cX0_fixLeaf 104 = .ok (.aload_n 0, 1) := by decide +kernel
theorem dX0_fixLeaf_105 : decode cX0_fixLeaf 105 = .ok (.iload 4, 2) := by decide +kernel
theorem dX0_fixLeaf_107 : decode cX0_fixLeaf 107 = .ok (.iconst 1, 1) := by decide +kernel
theorem dX0_fixLeaf_108 : decode cX0_fixLeaf 108 = .ok (.if_icmp .ne 7, 3) := by decide +kernel
theorem dX0_fixLeaf_111 : decode cX0_fixLeaf 111 = .ok (.iload_n 3, 1) := by decide +kernel
theorem dX0_fixLeaf_112 : decode cX0_fixLeaf 112 = .ok (.goto 4, 3) := by decide +kernel
theorem dX0_fixLeaf_115 : decode cX0_fixLeaf 115 = .ok (.iconst 0, 1) := by decide +kernel
theorem dX0_fixLeaf_116 : decode cX0_fixLeaf 116 = .ok (.putfield 151, 3) := by decide +kernel
theorem dX0_fixLeaf_119 : decode cX0_fixLeaf 119 = .ok (.aload_n 0, 1) := by decide +kernel
theorem dX0_fixLeaf_120 : decode cX0_fixLeaf 120 = .ok (.iload 4, 2) := by decide +kernel
theorem dX0_fixLeaf_122 : decode cX0_fixLeaf 122 = .ok (.iconst 1, 1) := by decide +kernel
theorem dX0_fixLeaf_123 : decode cX0_fixLeaf 123 = .ok (.if_icmp .ne 7, 3) := by decide +kernel
theorem dX0_fixLeaf_126 : decode cX0_fixLeaf 126 = .ok (.iconst 0, 1) := by decide +kernel
theorem dX0_fixLeaf_127 : decode cX0_fixLeaf 127 = .ok (.goto 19, 3) := by decide +kernel
theorem dX0_fixLeaf_130 : decode cX0_fixLeaf 130 = .ok (.iload 4, 2) := by decide +kernel
theorem dX0_fixLeaf_132 : decode cX0_fixLeaf 132 = .ok (.ifCond .eq 8, 3) := by decide +kernel
theorem dX0_fixLeaf_135 : decode cX0_fixLeaf 135 = .ok (.iload 5, 2) := by decide +kernel
theorem dX0_fixLeaf_137 : decode cX0_fixLeaf 137 = .ok (.ifCond .eq 7, 3) := by decide +kernel
theorem dX0_fixLeaf_140 : decode cX0_fixLeaf 140 = .ok (.iload_n 3, 1) := by decide +kernel
theorem dX0_fixLeaf_141 : decode cX0_fixLeaf 141 = .ok (.goto 5, 3) := by decide +kernel
theorem dX0_fixLeaf_144 : decode cX0_fixLeaf 144 = .ok (.iload_n 3, 1) := by decide +kernel
theorem dX0_fixLeaf_145 : decode cX0_fixLeaf 145 = .ok (.ineg, 1) := by decide +kernel
theorem dX0_fixLeaf_146 : decode cX0_fixLeaf 146 = .ok (.putfield 154, 3) := by decide +kernel
theorem dX0_fixLeaf_149 : decode cX0_fixLeaf 149 = .ok (.return_, 1) := by decide +kernel
theorem dX0_setSort_0 : decode cX0_setSort 0 = .ok (.aload_n 0, 1) := by decide +kernel
theorem dX0_setSort_1 : decode cX0_setSort 1 = .ok (.iload_n 1, 1) := by decide +kernel
theorem dX0_setSort_2 : decode cX0_setSort 2 = .ok (.invokevirtual 83, 3) := by decide +kernel
theorem dX0_setSort_5 : decode cX0_setSort 5 = .ok (.iconst 2, 1) := by decide +kernel
theorem dX0_setSort_6 : decode cX0_setSort 6 = .ok (.if_icmp .eq 5, 3) := by decide +kernel
theorem dX0_setSort_9 : decode cX0_setSort 9 = .ok (.iconst (-1), 1) := by decide +kernel
theorem dX0_setSort_10 : decode cX0_setSort 10 = .ok (.ireturn, 1) := by decide +kernel
theorem dX0_setSort_11 : decode cX0_setSort 11 = .ok (.aload_n 0, 1) := by decide +kernel
theorem dX0_setSort_12 : decode cX0_setSort 12 = .ok (.getfield 13, 3) := by decide +kernel
theorem dX0_setSort_15 : decode cX0_setSort 15 = .ok (.iload_n 1, 1) := by decide +kernel
theorem dX0_setSort_16 : decode cX0_setSort 16 = .ok (.iload_n 2, 1) := by decide +kernel
theorem dX0_setSort_17 : decode cX0_setSort 17 = .ok (.iconst 3, 1) := by decide +kernel
theorem dX0_setSort_18 : decode cX0_setSort 18 = .ok (.iand, 1) := by decide +kernel
theorem dX0_setSort_19 : decode cX0_setSort 19 = .ok (.iastore, 1) := by decide +kernel
theorem dX0_setSort_20 : decode cX0_setSort 20 = .ok (.aload_n 0, 1) := by decide +kernel
theorem dX0_setSort_21 : decode cX0_setSort 21 = .ok (.getfield 98, 3) := by decide +kernel
theorem dX0_setSort_24 : decode cX0_setSort 24 = .ok (.ifCond .eq 8, 3) := by decide +kernel
theorem dX0_setSort_27 : decode cX0_setSort 27 = .ok (.aload_n 0, 1) := by decide +kernel
theorem dX0_setSort_28 : decode cX0_setSort 28 = .ok (.iload_n 1, 1) := by decide +kernel
theorem dX0_setSort_29 : decode cX0_setSort 29 = .ok (.invokevirtual 106, 3) := by decide +kernel
theorem dX0_setSort_32 : decode cX0_setSort 32 = .ok (.iconst 0, 1) := by decide +kernel
theorem dX0_setSort_33 : decode cX0_setSort 33 = .ok (.ireturn, 1) := by decide +kernel
theorem dX0_turn_0 : decode cX0_turn 0 = .ok (.aload_n 0, 1) := by decide +kernel
theorem dX0_turn_1 : decode cX0_turn 1 = .ok (.iload_n 1, 1) := by decide +kernel
theorem dX0_turn_2 : decode cX0_turn 2 = .ok (.invokevirtual 83, 3) := by decide +kernel
theorem dX0_turn_5 : decode cX0_turn 5 = .ok (.iconst 2, 1) := by decide +kernel
theorem dX0_turn_6 : decode cX0_turn 6 = .ok (.if_icmp .eq 5, 3) := by decide +kernel
theorem dX0_turn_9 : decode cX0_turn 9 = .ok (.iconst (-1), 1) := by decide +kernel
theorem dX0_turn_10 : decode cX0_turn 10 = .ok (.ireturn, 1) := by decide +kernel
theorem dX0_turn_11 : decode cX0_turn 11 = .ok (.aload_n 0, 1) := by decide +kernel
theorem dX0_turn_12 : decode cX0_turn 12 = .ok (.getfield 19, 3) := by decide +kernel
theorem dX0_turn_15 : decode cX0_turn 15 = .ok (.iload_n 1, 1) := by decide +kernel
theorem dX0_turn_16 : decode cX0_turn 16 = .ok (.iaload, 1) := by decide +kernel
theorem dX0_turn_17 : decode cX0_turn 17 = .ok (.istore_n 2, 1) := by decide +kernel
theorem dX0_turn_18 : decode cX0_turn 18 = .ok (.aload_n 0, 1) := by decide +kernel
theorem dX0_turn_19 : decode cX0_turn 19 = .ok (.getfield 19, 3) := by decide +kernel
theorem dX0_turn_22 : decode cX0_turn 22 = .ok (.iload_n 1, 1) := by decide +kernel
theorem dX0_turn_23 : decode cX0_turn 23 = .ok (.aload_n 0, 1) := by decide +kernel
theorem dX0_turn_24 : decode cX0_turn 24 = .ok (.getfield 22, 3) := by decide +kernel
theorem dX0_turn_27 : decode cX0_turn 27 = .ok (.iload_n 1, 1) := by decide +kernel
theorem dX0_turn_28 : decode cX0_turn 28 = .ok (.iaload, 1) := by decide +kernel
theorem dX0_turn_29 : decode cX0_turn 29 = .ok (.iastore, 1) := by decide +kernel
theorem dX0_turn_30 : decode cX0_turn 30 = .ok (.aload_n 0, 1) := by decide +kernel
theorem dX0_turn_31 : decode cX0_turn 31 = .ok (.getfield 22, 3) := by decide +kernel
theorem dX0_turn_34 : decode cX0_turn 34 = .ok (.iload_n 1, 1) := by decide +kernel
theorem dX0_turn_35 : decode cX0_turn 35 = .ok (.iload_n 2, 1) := by decide +kernel
theorem dX0_turn_36 : decode cX0_turn 36 = .ok (.iastore, 1) := by decide +kernel
theorem dX0_turn_37 : decode cX0_turn 37 = .ok (.aload_n 0, 1) := by decide +kernel
theorem dX0_turn_38 : decode cX0_turn 38 = .ok (.iconst 0, 1) := by decide +kernel
theorem dX0_turn_39 : decode cX0_turn 39 = .ok (.putfield 98, 3) := by decide +kernel
theorem dX0_turn_42 : decode cX0_turn 42 = .ok (.iconst 0, 1) := by decide +kernel
theorem dX0_turn_43 : decode cX0_turn 43 = .ok (.ireturn, 1) := by decide +kernel
theorem dX0_value_0 : decode cX0_value 0 = .ok (.aload_n 0, 1) := by decide +kernel
theorem dX0_value_1 : decode cX0_value 1 = .ok (.iload_n 1, 1) := by decide +kernel
theorem dX0_value_2 : decode cX0_value 2 = .ok (.invokevirtual 83, 3) := by decide +kernel
theorem dX0_value_5 : decode cX0_value 5 = .ok (.istore_n 2, 1) := by decide +kernel
theorem dX0_value_6 : decode cX0_value 6 = .ok (.iload_n 2, 1) := by decide +kernel
theorem dX0_value_7 : decode cX0_value 7 = .ok (.ifCond .ne 5, 3) := by decide +kernel
theorem dX0_value_10 : decode cX0_value 10 = .ok (.iconst 0, 1) := by decide +kernel
theorem dX0_value_11 : decode cX0_value 11 = .ok (.ireturn, 1) := by decide +kernel
theorem dX0_value_12 : decode cX0_value 12 = .ok (.aload_n 0, 1) := by decide +kernel
theorem dX0_value_13 : decode cX0_value 13 = .ok (.invokevirtual 110, 3) := by decide +kernel
theorem dX0_value_16 : decode cX0_value 16 = .ok (.iconst 0, 1) := by decide +kernel
theorem dX0_value_17 : decode cX0_value 17 = .ok (.istore_n 3, 1) := by decide +kernel
theorem dX0_value_18 : decode cX0_value 18 = .ok (.iload_n 1, 1) := by decide +kernel
theorem dX0_value_19 : decode cX0_value 19 = .ok (.istore 4, 2) := by decide +kernel
theorem dX0_value_21 : decode cX0_value 21 = .ok (.iconst 0, 1) := by decide +kernel
theorem dX0_value_22 : decode cX0_value 22 = .ok (.istore 5, 2) := by decide +kernel
theorem dX0_value_24 : decode cX0_value 24 = .ok (.iload 5, 2) := by decide +kernel
theorem dX0_value_26 : decode cX0_value 26 = .ok (.bipush 16, 2) := by decide +kernel
theorem dX0_value_28 : decode cX0_value 28 = .ok (.if_icmp .ge 50, 3) := by decide +kernel
theorem dX0_value_31 : decode cX0_value 31 = .ok (.aload_n 0, 1) := by decide +kernel
theorem dX0_value_32 : decode cX0_value 32 = .ok (.getfield 7, 3) := by decide +kernel
theorem dX0_value_35 : decode cX0_value 35 = .ok (.iload 4, 2) := by decide +kernel
theorem dX0_value_37 : decode cX0_value 37 = .ok (.iaload, 1) := by decide +kernel
theorem dX0_value_38 : decode cX0_value 38 = .ok (.iconst 2, 1) := by decide +kernel
theorem dX0_value_39 : decode cX0_value 39 = .ok (.if_icmp .ne 39, 3) := by decide +kernel
theorem dX0_value_42 : decode cX0_value 42 = .ok (.aload_n 0, 1) := by decide +kernel
theorem dX0_value_43 : decode cX0_value 43 = .ok (.getfield 40, 3) := by decide +kernel
theorem dX0_value_46 : decode cX0_value 46 = .ok (.iload_n 3, 1) := by decide +kernel
theorem dX0_value_47 : decode cX0_value 47 = .ok (.aload_n 0, 1) := by decide +kernel
theorem dX0_value_48 : decode cX0_value 48 = .ok (.getfield 80, 3) := by decide +kernel
theorem dX0_value_51 : decode cX0_value 51 = .ok (.iload 4, 2) := by decide +kernel
theorem dX0_value_53 : decode cX0_value 53 = .ok (.iaload, 1) := by decide +kernel
theorem dX0_value_54 : decode cX0_value 54 = .ok (.iastore, 1) := by decide +kernel
theorem dX0_value_55 : decode cX0_value 55 = .ok (.iinc 3 1, 3) := by decide +kernel
theorem dX0_value_58 : decode cX0_value 58 = .ok (.aload_n 0, 1) := by decide +kernel
theorem dX0_value_59 : decode cX0_value 59 = .ok (.getfield 65, 3) := by decide +kernel
theorem dX0_value_62 : decode cX0_value 62 = .ok (.aload_n 0, 1) := by decide +kernel
theorem dX0_value_63 : decode cX0_value 63 = .ok (.getfield 80, 3) := by decide +kernel
theorem dX0_value_66 : decode cX0_value 66 = .ok (.iload 4, 2) := by decide +kernel
theorem dX0_value_68 : decode cX0_value 68 = .ok (.iaload, 1) := by decide +kernel
theorem dX0_value_69 : decode cX0_value 69 = .ok (.iaload, 1) := by decide +kernel
theorem dX0_value_70 : decode cX0_value 70 = .ok (.istore 4, 2) := by decide +kernel
theorem dX0_value_72 : decode cX0_value 72 = .ok (.iinc 5 1, 3) := by decide +kernel
theorem dX0_value_75 : decode cX0_value 75 = .ok (.goto (-51), 3) := by decide +kernel
theorem dX0_value_78 : decode cX0_value 78 = .ok (.aload_n 0, 1) := by decide +kernel
theorem dX0_value_79 : decode cX0_value 79 = .ok (.getfield 16, 3) := by decide +kernel
theorem dX0_value_82 : decode cX0_value 82 = .ok (.iload 4, 2) := by decide +kernel
theorem dX0_value_84 : decode cX0_value 84 = .ok (.iaload, 1) := by decide +kernel
theorem dX0_value_85 : decode cX0_value 85 = .ok (.istore 5, 2) := by decide +kernel
theorem dX0_value_87 : decode cX0_value 87 = .ok (.iload_n 3, 1) := by decide +kernel
theorem dX0_value_88 : decode cX0_value 88 = .ok (.iconst 1, 1) := by decide +kernel
theorem dX0_value_89 : decode cX0_value 89 = .ok (.isub, 1) := by decide +kernel
theorem dX0_value_90 : decode cX0_value 90 = .ok (.istore 6, 2) := by decide +kernel
theorem dX0_value_92 : decode cX0_value 92 = .ok (.iload 6, 2) := by decide +kernel
theorem dX0_value_94 : decode cX0_value 94 = .ok (.ifCond .lt 109, 3) := by decide +kernel
theorem dX0_value_97 : decode cX0_value 97 = .ok (.aload_n 0, 1) := by decide +kernel
theorem dX0_value_98 : decode cX0_value 98 = .ok (.getfield 40, 3) := by decide +kernel
theorem dX0_value_101 : decode cX0_value 101 = .ok (.iload 6, 2) := by decide +kernel
theorem dX0_value_103 : decode cX0_value 103 = .ok (.iaload, 1) := by decide +kernel
theorem dX0_value_104 : decode cX0_value 104 = .ok (.istore 7, 2) := by decide +kernel
theorem dX0_value_106 : decode cX0_value 106 = .ok (.aload_n 0, 1) := by decide +kernel
theorem dX0_value_107 : decode cX0_value 107 = .ok (.getfield 43, 3) := by decide +kernel
theorem dX0_value_110 : decode cX0_value 110 = .ok (.aload_n 0, 1) := by decide +kernel
theorem dX0_value_111 : decode cX0_value 111 = .ok (.getfield 77, 3) := by decide +kernel
theorem dX0_value_114 : decode cX0_value 114 = .ok (.iload 7, 2) := by decide +kernel
theorem dX0_value_116 : decode cX0_value 116 = .ok (.iaload, 1) := by decide +kernel
theorem dX0_value_117 : decode cX0_value 117 = .ok (.iaload, 1) := by decide +kernel
theorem dX0_value_118 : decode cX0_value 118 = .ok (.iload 5, 2) := by decide +kernel
theorem dX0_value_120 : decode cX0_value 120 = .ok (.imul, 1) := by decide +kernel
theorem dX0_value_121 : decode cX0_value 121 = .ok (.aload_n 0, 1) := by decide +kernel
theorem dX0_value_122 : decode cX0_value 122 = .ok (.getfield 46, 3) := by decide +kernel
theorem dX0_value_125 : decode cX0_value 125 = .ok (.aload_n 0, 1) := by decide +kernel
theorem dX0_value_126 : decode cX0_value 126 = .ok (.getfield 77, 3) := by decide +kernel
theorem dX0_value_129 : decode cX0_value 129 = .ok (.iload 7, 2) := by decide +kernel
theorem dX0_value_131 : decode cX0_value 131 = .ok (.iaload, 1) := by decide +kernel
theorem dX0_value_132 : decode cX0_value 132 = .ok (.iaload, 1) := by decide +kernel
theorem dX0_value_133 : decode cX0_value 133 = .ok (.iadd, 1) := by decide +kernel
theorem dX0_value_134 : decode cX0_value 134 = .ok (.istore 8, 2) := by decide +kernel
theorem dX0_value_136 : decode cX0_value 136 = .ok (.aload_n 0, 1) := by decide +kernel
theorem dX0_value_137 : decode cX0_value 137 = .ok (.iload 7, 2) := by decide +kernel
theorem dX0_value_139 : decode cX0_value 139 = .ok (.invokevirtual 113, 3) := by decide +kernel
theorem dX0_value_142 : decode cX0_value 142 = .ok (.istore 9, 2) := by decide +kernel
theorem dX0_value_144 : decode cX0_value 144 = .ok (.aload_n 0, 1) := by decide +kernel
theorem dX0_value_145 : decode cX0_value 145 = .ok (.getfield 68, 3) := by decide +kernel
theorem dX0_value_148 : decode cX0_value 148 = .ok (.iload 7, 2) := by decide +kernel
theorem dX0_value_150 : decode cX0_value 150 = .ok (.baload, 1) := by decide +kernel
theorem dX0_value_151 : decode cX0_value 151 = .ok (.ifCond .eq 25, 3) := by decide +kernel
theorem dX0_value_154 : decode cX0_value 154 = .ok (.aload_n 0, 1) := by decide +kernel
theorem dX0_value_155 : decode cX0_value 155 = .ok (.getfield 13, 3) := by decide +kernel
theorem dX0_value_158 : decode cX0_value 158 = .ok (.aload_n 0, 1) := by decide +kernel
theorem dX0_value_159 : decode cX0_value 159 = .ok (.getfield 62, 3) := by decide +kernel
theorem dX0_value_162 : decode cX0_value 162 = .ok (.iload 7, 2) := by decide +kernel
theorem dX0_value_164 : decode cX0_value 164 = .ok (.iaload, 1) := by decide +kernel
theorem dX0_value_165 : decode cX0_value 165 = .ok (.iaload, 1) := by decide +kernel
theorem dX0_value_166 : decode cX0_value 166 = .ok (.iload 9, 2) := by decide +kernel
theorem dX0_value_168 : decode cX0_value 168 = .ok (.iload 8, 2) := by decide +kernel
theorem dX0_value_170 : decode cX0_value 170 = .ok (.invokestatic 102, 3) := by decide +kernel
theorem dX0_value_173 : decode cX0_value 173 = .ok (.goto 22, 3) := by decide +kernel
theorem dX0_value_176 : decode cX0_value 176 = .ok (.aload_n 0, 1) := by decide +kernel
theorem dX0_value_177 : decode cX0_value 177 = .ok (.getfield 13, 3) := by decide +kernel
theorem dX0_value_180 : decode cX0_value 180 = .ok (.aload_n 0, 1) := by decide +kernel
theorem dX0_value_181 : decode cX0_value 181 = .ok (.getfield 62, 3) := by decide +kernel
theorem dX0_value_184 : decode cX0_value 184 = .ok (.iload 7, 2) := by decide +kernel
theorem dX0_value_186 : decode cX0_value 186 = .ok (.iaload, 1) := by decide +kernel
theorem dX0_value_187 : decode cX0_value 187 = .ok (.iaload, 1) := by decide +kernel
theorem dX0_value_188 : decode cX0_value 188 = .ok (.iload 8, 2) := by decide +kernel
theorem dX0_value_190 : decode cX0_value 190 = .ok (.iload 9, 2) := by decide +kernel
theorem dX0_value_192 : decode cX0_value 192 = .ok (.invokestatic 102, 3) := by decide +kernel
theorem dX0_value_195 : decode cX0_value 195 = .ok (.istore 5, 2) := by decide +kernel
theorem dX0_value_197 : decode cX0_value 197 = .ok (.iinc 6 (-1), 3) := by decide +kernel
theorem dX0_value_200 : decode cX0_value 200 = .ok (.goto (-108), 3) := by decide +kernel
theorem dX0_value_203 : decode cX0_value 203 = .ok (.iload 5, 2) := by decide +kernel
theorem dX0_value_205 : decode cX0_value 205 = .ok (.ireturn, 1) := by decide +kernel
theorem dX0_contract_0 : decode cX0_contract 0 = .ok (.aload_n 0, 1) := by decide +kernel
theorem dX0_contract_1 : decode cX0_contract 1 = .ok (.getfield 98, 3) := by decide +kernel
theorem dX0_contract_4 : decode cX0_contract 4 = .ok (.ifCond .eq 4, 3) := by decide +kernel
theorem dX0_contract_7 : decode cX0_contract 7 = .ok (.return_, 1) := by decide +kernel
theorem dX0_contract_8 : decode cX0_contract 8 = .ok (.aload_n 0, 1) := by decide +kernel
theorem dX0_contract_9 : decode cX0_contract 9 = .ok (.iconst 1, 1) := by decide +kernel
theorem dX0_contract_10 : decode cX0_contract 10 = .ok (.putfield 98, 3) := by decide +kernel
theorem dX0_contract_13 : decode cX0_contract 13 = .ok (.aload_n 0, 1) := by decide +kernel
theorem dX0_contract_14 : decode cX0_contract 14 = .ok (.iconst 0, 1) := by decide +kernel
theorem dX0_contract_15 : decode cX0_contract 15 = .ok (.putfield 116, 3) := by decide +kernel
theorem dX0_contract_18 : decode cX0_contract 18 = .ok (.aload_n 0, 1) := by decide +kernel
theorem dX0_contract_19 : decode cX0_contract 19 = .ok (.iconst 0, 1) := by decide +kernel
theorem dX0_contract_20 : decode cX0_contract 20 = .ok (.putfield 122, 3) := by decide +kernel
theorem dX0_contract_23 : decode cX0_contract 23 = .ok (.iconst 0, 1) := by decide +kernel
theorem dX0_contract_24 : decode cX0_contract 24 = .ok (.istore_n 1, 1) := by decide +kernel
theorem dX0_contract_25 : decode cX0_contract 25 = .ok (.iload_n 1, 1) := by decide +kernel
theorem dX0_contract_26 : decode cX0_contract 26 = .ok (.bipush 31, 2) := by decide +kernel
theorem dX0_contract_28 : decode cX0_contract 28 = .ok (.if_icmp .ge 54, 3) := by decide +kernel
theorem dX0_contract_31 : decode cX0_contract 31 = .ok (.aload_n 0, 1) := by decide +kernel
theorem dX0_contract_32 : decode cX0_contract 32 = .ok (.getfield 25, 3) := by decide +kernel
theorem dX0_contract_35 : decode cX0_contract 35 = .ok (.iload_n 1, 1) := by decide +kernel
theorem dX0_contract_36 : decode cX0_contract 36 = .ok (.aload_n 0, 1) := by decide +kernel
theorem dX0_contract_37 : decode cX0_contract 37 = .ok (.getfield 19, 3) := by decide +kernel
theorem dX0_contract_40 : decode cX0_contract 40 = .ok (.iload_n 1, 1) := by decide +kernel
theorem dX0_contract_41 : decode cX0_contract 41 = .ok (.iaload, 1) := by decide +kernel
theorem dX0_contract_42 : decode cX0_contract 42 = .ok (.iastore, 1) := by decide +kernel
theorem dX0_contract_43 : decode cX0_contract 43 = .ok (.aload_n 0, 1) := by decide +kernel
theorem dX0_contract_44 : decode cX0_contract 44 = .ok (.getfield 28, 3) := by decide +kernel
theorem dX0_contract_47 : decode cX0_contract 47 = .ok (.iload_n 1, 1) := by decide +kernel
theorem dX0_contract_48 : decode cX0_contract 48 = .ok (.aload_n 0, 1) := by decide +kernel
theorem dX0_contract_49 : decode cX0_contract 49 = .ok (.getfield 22, 3) := by decide +kernel
theorem dX0_contract_52 : decode cX0_contract 52 = .ok (.iload_n 1, 1) := by decide +kernel
theorem dX0_contract_53 : decode cX0_contract 53 = .ok (.iaload, 1) := by decide +kernel
theorem dX0_contract_54 : decode cX0_contract 54 = .ok (.iastore, 1) := by decide +kernel
theorem dX0_contract_55 : decode cX0_contract 55 = .ok (.aload_n 0, 1) := by decide +kernel
theorem dX0_contract_56 : decode cX0_contract 56 = .ok (.getfield 34, 3) := by decide +kernel
theorem dX0_contract_59 : decode cX0_contract 59 = .ok (.iload_n 1, 1) := by decide +kernel
theorem dX0_contract_60 : decode cX0_contract 60 = .ok (.iload_n 1, 1) := by decide +kernel
theorem dX0_contract_61 : decode cX0_contract 61 = .ok (.iastore, 1) := by decide +kernel
theorem dX0_contract_62 : decode cX0_contract 62 = .ok (.aload_n 0, 1) := by decide +kernel
theorem dX0_contract_63 : decode cX0_contract 63 = .ok (.getfield 43, 3) := by decide +kernel
theorem dX0_contract_66 : decode cX0_contract 66 = .ok (.iload_n 1, 1) := by decide +kernel
theorem dX0_contract_67 : decode cX0_contract 67 = .ok (.iconst 1, 1) := by decide +kernel
theorem dX0_contract_68 : decode cX0_contract 68 = .ok (.iastore, 1) := by decide +kernel
theorem dX0_contract_69 : decode cX0_contract 69 = .ok (.aload_n 0, 1) := by decide +kernel
theorem dX0_contract_70 : decode cX0_contract 70 = .ok (.getfield 46, 3) := by decide +kernel
theorem dX0_contract_73 : decode cX0_contract 73 = .ok (.iload_n 1, 1) := by decide +kernel
theorem dX0_contract_74 : decode cX0_contract 74 = .ok (.iconst 0, 1) := by decide +kernel
theorem dX0_contract_75 : decode cX0_contract 75 = .ok (.iastore, 1) := by decide +kernel
theorem dX0_contract_76 : decode cX0_contract 76 = .ok (.iinc 1 1, 3) := by decide +kernel
theorem dX0_contract_79 : decode cX0_contract 79 = .ok (.goto (-54), 3) := by decide +kernel
theorem dX0_contract_82 : decode cX0_contract 82 = .ok (.aload_n 0, 1) := by decide +kernel
theorem dX0_contract_83 : decode cX0_contract 83 = .ok (.invokevirtual 125, 3) := by decide +kernel
theorem dX0_contract_86 : decode cX0_contract 86 = .ok (.iconst 0, 1) := by decide +kernel
theorem dX0_contract_87 : decode cX0_contract 87 = .ok (.istore_n 1, 1) := by decide +kernel
theorem dX0_contract_88 : decode cX0_contract 88 = .ok (.iload_n 1, 1) := by decide +kernel
theorem dX0_contract_89 : decode cX0_contract 89 = .ok (.bipush 16, 2) := by decide +kernel
theorem dX0_contract_91 : decode cX0_contract 91 = .ok (.if_icmp .ge 36, 3) := by decide +kernel
theorem dX0_contract_94 : decode cX0_contract 94 = .ok (.aload_n 0, 1) := by decide +kernel
theorem dX0_contract_95 : decode cX0_contract 95 = .ok (.getfield 7, 3) := by decide +kernel
theorem dX0_contract_98 : decode cX0_contract 98 = .ok (.aload_n 0, 1) := by decide +kernel
theorem dX0_contract_99 : decode cX0_contract 99 = .ok (.getfield 122, 3) := by decide +kernel
end
section
set_option maxRecDepth 100000
theorem dX0_contract_102 : decode cX0_contract 102 = .ok (.iaload, 1) := by decide +kernel
theorem dX0_contract_103 : decode cX0_contract 103 = .ok (.iconst 2, 1) := by decide +kernel
theorem dX0_contract_104 : decode cX0_contract 104 = .ok (.if_icmp .ne 23, 3) := by decide +kernel
theorem dX0_contract_107 : decode cX0_contract 107 = .ok (.aload_n 0, 1) := by decide +kernel
theorem dX0_contract_108 : decode cX0_contract 108 = .ok (.invokevirtual 128, 3) := by decide +kernel
theorem dX0_contract_111 : decode cX0_contract 111 = .ok (.aload_n 0, 1) := by decide +kernel
theorem dX0_contract_112 : decode cX0_contract 112 = .ok (.iconst 1, 1) := by decide +kernel
theorem dX0_contract_113 : decode cX0_contract 113 = .ok (.invokevirtual 131, 3) := by decide +kernel
theorem dX0_contract_116 : decode cX0_contract 116 = .ok (.aload_n 0, 1) := by decide +kernel
theorem dX0_contract_117 : decode cX0_contract 117 = .ok (.iconst 0, 1) := by decide +kernel
theorem dX0_contract_118 : decode cX0_contract 118 = .ok (.invokevirtual 131, 3) := by decide +kernel
theorem dX0_contract_121 : decode cX0_contract 121 = .ok (.iinc 1 1, 3) := by decide +kernel
theorem dX0_contract_124 : decode cX0_contract 124 = .ok (.goto (-36), 3) := by decide +kernel
theorem dX0_contract_127 : decode cX0_contract 127 = .ok (.return_, 1) := by decide +kernel
theorem dX0_linkParents_0 : decode cX0_linkParents 0 = .ok (.aload_n 0, 1) := by decide +kernel
theorem dX0_linkParents_1 : decode cX0_linkParents 1 = .ok (.getfield 31, 3) := by decide +kernel
theorem dX0_linkParents_4 : decode cX0_linkParents 4 = .ok (.iconst 0, 1) := by decide +kernel
theorem dX0_linkParents_5 : decode cX0_linkParents 5 = .ok (.iconst (-1), 1) := by decide +kernel
theorem dX0_linkParents_6 : decode cX0_linkParents 6 = .ok (.iastore, 1) := by decide +kernel
theorem dX0_linkParents_7 : decode cX0_linkParents 7 = .ok (.iconst 0, 1) := by decide +kernel
theorem dX0_linkParents_8 : decode cX0_linkParents 8 = .ok (.istore_n 1, 1) := by decide +kernel
theorem dX0_linkParents_9 : decode cX0_linkParents 9 = .ok (.iload_n 1, 1) := by decide +kernel
theorem dX0_linkParents_10 : decode cX0_linkParents 10 = .ok (.bipush 31, 2) := by decide +kernel
theorem dX0_linkParents_12 : decode cX0_linkParents 12 = .ok (.if_icmp .ge 43, 3) := by decide +kernel
theorem dX0_linkParents_15 : decode cX0_linkParents 15 = .ok (.aload_n 0, 1) := by decide +kernel
theorem dX0_linkParents_16 : decode cX0_linkParents 16 = .ok (.getfield 7, 3) := by decide +kernel
theorem dX0_linkParents_19 : decode cX0_linkParents 19 = .ok (.iload_n 1, 1) := by decide +kernel
theorem dX0_linkParents_20 : decode cX0_linkParents 20 = .ok (.iaload, 1) := by decide +kernel
theorem dX0_linkParents_21 : decode cX0_linkParents 21 = .ok (.iconst 2, 1) := by decide +kernel
theorem dX0_linkParents_22 : decode cX0_linkParents 22 = .ok (.if_icmp .ne 27, 3) := by decide +kernel
theorem dX0_linkParents_25 : decode cX0_linkParents 25 = .ok (.aload_n 0, 1) := by decide +kernel
theorem dX0_linkParents_26 : decode cX0_linkParents 26 = .ok (.getfield 31, 3) := by decide +kernel
theorem dX0_linkParents_29 : decode cX0_linkParents 29 = .ok (.aload_n 0, 1) := by decide +kernel
theorem dX0_linkParents_30 : decode cX0_linkParents 30 = .ok (.getfield 19, 3) := by decide +kernel
theorem dX0_linkParents_33 : decode cX0_linkParents 33 = .ok (.iload_n 1, 1) := by decide +kernel
theorem dX0_linkParents_34 : decode cX0_linkParents 34 = .ok (.iaload, 1) := by decide +kernel
theorem dX0_linkParents_35 : decode cX0_linkParents 35 = .ok (.iload_n 1, 1) := by decide +kernel
theorem dX0_linkParents_36 : decode cX0_linkParents 36 = .ok (.iastore, 1) := by decide +kernel
theorem dX0_linkParents_37 : decode cX0_linkParents 37 = .ok (.aload_n 0, 1) := by decide +kernel
theorem dX0_linkParents_38 : decode cX0_linkParents 38 = .ok (.getfield 31, 3) := by decide +kernel
theorem dX0_linkParents_41 : decode cX0_linkParents 41 = .ok (.aload_n 0, 1) := by decide +kernel
theorem dX0_linkParents_42 : decode cX0_linkParents 42 = .ok (.getfield 22, 3) := by decide +kernel
theorem dX0_linkParents_45 : decode cX0_linkParents 45 = .ok (.iload_n 1, 1) := by decide +kernel
theorem dX0_linkParents_46 : decode cX0_linkParents 46 = .ok (.iaload, 1) := by decide +kernel
theorem dX0_linkParents_47 : decode cX0_linkParents 47 = .ok (.iload_n 1, 1) := by decide +kernel
theorem dX0_linkParents_48 : decode cX0_linkParents 48 = .ok (.iastore, 1) := by decide +kernel
theorem dX0_linkParents_49 : decode cX0_linkParents 49 = .ok (.iinc 1 1, 3) := by decide +kernel
theorem dX0_linkParents_52 : decode cX0_linkParents 52 = .ok (.goto (-43), 3) := by decide +kernel
theorem dX0_linkParents_55 : decode cX0_linkParents 55 = .ok (.return_, 1) := by decide +kernel
theorem dX0_listLeaves_0 : decode cX0_listLeaves 0 = .ok (.aload_n 0, 1) := by decide +kernel
theorem dX0_listLeaves_1 : decode cX0_listLeaves 1 = .ok (.iconst 0, 1) := by decide +kernel
theorem dX0_listLeaves_2 : decode cX0_listLeaves 2 = .ok (.putfield 135, 3) := by decide +kernel
theorem dX0_listLeaves_5 : decode cX0_listLeaves 5 = .ok (.aload_n 0, 1) := by decide +kernel
theorem dX0_listLeaves_6 : decode cX0_listLeaves 6 = .ok (.getfield 40, 3) := by decide +kernel
theorem dX0_listLeaves_9 : decode cX0_listLeaves 9 = .ok (.iconst 0, 1) := by decide +kernel
theorem dX0_listLeaves_10 : decode cX0_listLeaves 10 = .ok (.aload_n 0, 1) := by decide +kernel
theorem dX0_listLeaves_11 : decode cX0_listLeaves 11 = .ok (.getfield 122, 3) := by decide +kernel
theorem dX0_listLeaves_14 : decode cX0_listLeaves 14 = .ok (.iastore, 1) := by decide +kernel
theorem dX0_listLeaves_15 : decode cX0_listLeaves 15 = .ok (.iconst 1, 1) := by decide +kernel
theorem dX0_listLeaves_16 : decode cX0_listLeaves 16 = .ok (.istore_n 1, 1) := by decide +kernel
theorem dX0_listLeaves_17 : decode cX0_listLeaves 17 = .ok (.iconst 0, 1) := by decide +kernel
theorem dX0_listLeaves_18 : decode cX0_listLeaves 18 = .ok (.istore_n 2, 1) := by decide +kernel
theorem dX0_listLeaves_19 : decode cX0_listLeaves 19 = .ok (.iload_n 2, 1) := by decide +kernel
theorem dX0_listLeaves_20 : decode cX0_listLeaves 20 = .ok (.bipush 32, 2) := by decide +kernel
theorem dX0_listLeaves_22 : decode cX0_listLeaves 22 = .ok (.if_icmp .ge 85, 3) := by decide +kernel
theorem dX0_listLeaves_25 : decode cX0_listLeaves 25 = .ok (.iload_n 1, 1) := by decide +kernel
theorem dX0_listLeaves_26 : decode cX0_listLeaves 26 = .ok (.ifCond .le 81, 3) := by decide +kernel
theorem dX0_listLeaves_29 : decode cX0_listLeaves 29 = .ok (.iinc 1 (-1), 3) := by decide +kernel
theorem dX0_listLeaves_32 : decode cX0_listLeaves 32 = .ok (.aload_n 0, 1) := by decide +kernel
theorem dX0_listLeaves_33 : decode cX0_listLeaves 33 = .ok (.getfield 40, 3) := by decide +kernel
theorem dX0_listLeaves_36 : decode cX0_listLeaves 36 = .ok (.iload_n 1, 1) := by decide +kernel
theorem dX0_listLeaves_37 : decode cX0_listLeaves 37 = .ok (.iaload, 1) := by decide +kernel
theorem dX0_listLeaves_38 : decode cX0_listLeaves 38 = .ok (.istore_n 3, 1) := by decide +kernel
theorem dX0_listLeaves_39 : decode cX0_listLeaves 39 = .ok (.aload_n 0, 1) := by decide +kernel
theorem dX0_listLeaves_40 : decode cX0_listLeaves 40 = .ok (.getfield 7, 3) := by decide +kernel
theorem dX0_listLeaves_43 : decode cX0_listLeaves 43 = .ok (.iload_n 3, 1) := by decide +kernel
theorem dX0_listLeaves_44 : decode cX0_listLeaves 44 = .ok (.iaload, 1) := by decide +kernel
theorem dX0_listLeaves_45 : decode cX0_listLeaves 45 = .ok (.iconst 1, 1) := by decide +kernel
theorem dX0_listLeaves_46 : decode cX0_listLeaves 46 = .ok (.if_icmp .ne 26, 3) := by decide +kernel
theorem dX0_listLeaves_49 : decode cX0_listLeaves 49 = .ok (.aload_n 0, 1) := by decide +kernel
theorem dX0_listLeaves_50 : decode cX0_listLeaves 50 = .ok (.getfield 37, 3) := by decide +kernel
theorem dX0_listLeaves_53 : decode cX0_listLeaves 53 = .ok (.aload_n 0, 1) := by decide +kernel
theorem dX0_listLeaves_54 : decode cX0_listLeaves 54 = .ok (.getfield 135, 3) := by decide +kernel
theorem dX0_listLeaves_57 : decode cX0_listLeaves 57 = .ok (.iload_n 3, 1) := by decide +kernel
theorem dX0_listLeaves_58 : decode cX0_listLeaves 58 = .ok (.iastore, 1) := by decide +kernel
theorem dX0_listLeaves_59 : decode cX0_listLeaves 59 = .ok (.aload_n 0, 1) := by decide +kernel
theorem dX0_listLeaves_60 : decode cX0_listLeaves 60 = .ok (.dup, 1) := by decide +kernel
theorem dX0_listLeaves_61 : decode cX0_listLeaves 61 = .ok (.getfield 135, 3) := by decide +kernel
theorem dX0_listLeaves_64 : decode cX0_listLeaves 64 = .ok (.iconst 1, 1) := by decide +kernel
theorem dX0_listLeaves_65 : decode cX0_listLeaves 65 = .ok (.iadd, 1) := by decide +kernel
theorem dX0_listLeaves_66 : decode cX0_listLeaves 66 = .ok (.putfield 135, 3) := by decide +kernel
theorem dX0_listLeaves_69 : decode cX0_listLeaves 69 = .ok (.goto 32, 3) := by decide +kernel
theorem dX0_listLeaves_72 : decode cX0_listLeaves 72 = .ok (.aload_n 0, 1) := by decide +kernel
theorem dX0_listLeaves_73 : decode cX0_listLeaves 73 = .ok (.getfield 40, 3) := by decide +kernel
theorem dX0_listLeaves_76 : decode cX0_listLeaves 76 = .ok (.iload_n 1, 1) := by decide +kernel
theorem dX0_listLeaves_77 : decode cX0_listLeaves 77 = .ok (.aload_n 0, 1) := by decide +kernel
theorem dX0_listLeaves_78 : decode cX0_listLeaves 78 = .ok (.getfield 28, 3) := by decide +kernel
theorem dX0_listLeaves_81 : decode cX0_listLeaves 81 = .ok (.iload_n 3, 1) := by decide +kernel
theorem dX0_listLeaves_82 : decode cX0_listLeaves 82 = .ok (.iaload, 1) := by decide +kernel
theorem dX0_listLeaves_83 : decode cX0_listLeaves 83 = .ok (.iastore, 1) := by decide +kernel
theorem dX0_listLeaves_84 : decode cX0_listLeaves 84 = .ok (.aload_n 0, 1) := by decide +kernel
theorem dX0_listLeaves_85 : decode cX0_listLeaves 85 = .ok (.getfield 40, 3) := by decide +kernel
theorem dX0_listLeaves_88 : decode cX0_listLeaves 88 = .ok (.iload_n 1, 1) := by decide +kernel
theorem dX0_listLeaves_89 : decode cX0_listLeaves 89 = .ok (.iconst 1, 1) := by decide +kernel
theorem dX0_listLeaves_90 : decode cX0_listLeaves 90 = .ok (.iadd, 1) := by decide +kernel
theorem dX0_listLeaves_91 : decode cX0_listLeaves 91 = .ok (.aload_n 0, 1) := by decide +kernel
theorem dX0_listLeaves_92 : decode cX0_listLeaves 92 = .ok (.getfield 25, 3) := by decide +kernel
theorem dX0_listLeaves_95 : decode cX0_listLeaves 95 = .ok (.iload_n 3, 1) := by decide +kernel
theorem dX0_listLeaves_96 : decode cX0_listLeaves 96 = .ok (.iaload, 1) := by decide +kernel
theorem dX0_listLeaves_97 : decode cX0_listLeaves 97 = .ok (.iastore, 1) := by decide +kernel
theorem dX0_listLeaves_98 : decode cX0_listLeaves 98 = .ok (.iinc 1 2, 3) := by decide +kernel
theorem dX0_listLeaves_101 : decode cX0_listLeaves 101 = .ok (.iinc 2 1, 3) := by decide +kernel
theorem dX0_listLeaves_104 : decode cX0_listLeaves 104 = .ok (.goto (-85), 3) := by decide +kernel
theorem dX0_listLeaves_107 : decode cX0_listLeaves 107 = .ok (.return_, 1) := by decide +kernel
theorem dX0_takeLeaves_0 : decode cX0_takeLeaves 0 = .ok (.iconst 0, 1) := by decide +kernel
theorem dX0_takeLeaves_1 : decode cX0_takeLeaves 1 = .ok (.istore_n 2, 1) := by decide +kernel
theorem dX0_takeLeaves_2 : decode cX0_takeLeaves 2 = .ok (.iload_n 2, 1) := by decide +kernel
theorem dX0_takeLeaves_3 : decode cX0_takeLeaves 3 = .ok (.aload_n 0, 1) := by decide +kernel
theorem dX0_takeLeaves_4 : decode cX0_takeLeaves 4 = .ok (.getfield 135, 3) := by decide +kernel
theorem dX0_takeLeaves_7 : decode cX0_takeLeaves 7 = .ok (.if_icmp .ge 67, 3) := by decide +kernel
theorem dX0_takeLeaves_10 : decode cX0_takeLeaves 10 = .ok (.aload_n 0, 1) := by decide +kernel
theorem dX0_takeLeaves_11 : decode cX0_takeLeaves 11 = .ok (.getfield 37, 3) := by decide +kernel
theorem dX0_takeLeaves_14 : decode cX0_takeLeaves 14 = .ok (.iload_n 2, 1) := by decide +kernel
theorem dX0_takeLeaves_15 : decode cX0_takeLeaves 15 = .ok (.iaload, 1) := by decide +kernel
theorem dX0_takeLeaves_16 : decode cX0_takeLeaves 16 = .ok (.istore_n 3, 1) := by decide +kernel
theorem dX0_takeLeaves_17 : decode cX0_takeLeaves 17 = .ok (.aload_n 0, 1) := by decide +kernel
theorem dX0_takeLeaves_18 : decode cX0_takeLeaves 18 = .ok (.getfield 31, 3) := by decide +kernel
theorem dX0_takeLeaves_21 : decode cX0_takeLeaves 21 = .ok (.iload_n 3, 1) := by decide +kernel
theorem dX0_takeLeaves_22 : decode cX0_takeLeaves 22 = .ok (.iaload, 1) := by decide +kernel
theorem dX0_takeLeaves_23 : decode cX0_takeLeaves 23 = .ok (.istore 4, 2) := by decide +kernel
theorem dX0_takeLeaves_25 : decode cX0_takeLeaves 25 = .ok (.iload 4, 2) := by decide +kernel
theorem dX0_takeLeaves_27 : decode cX0_takeLeaves 27 = .ok (.ifCond .lt 18, 3) := by decide +kernel
theorem dX0_takeLeaves_30 : decode cX0_takeLeaves 30 = .ok (.aload_n 0, 1) := by decide +kernel
theorem dX0_takeLeaves_31 : decode cX0_takeLeaves 31 = .ok (.getfield 25, 3) := by decide +kernel
theorem dX0_takeLeaves_34 : decode cX0_takeLeaves 34 = .ok (.iload 4, 2) := by decide +kernel
theorem dX0_takeLeaves_36 : decode cX0_takeLeaves 36 = .ok (.iaload, 1) := by decide +kernel
theorem dX0_takeLeaves_37 : decode cX0_takeLeaves 37 = .ok (.iload_n 3, 1) := by decide +kernel
theorem dX0_takeLeaves_38 : decode cX0_takeLeaves 38 = .ok (.if_icmp .ne 7, 3) := by decide +kernel
theorem dX0_takeLeaves_41 : decode cX0_takeLeaves 41 = .ok (.iconst 1, 1) := by decide +kernel
theorem dX0_takeLeaves_42 : decode cX0_takeLeaves 42 = .ok (.goto 4, 3) := by decide +kernel
theorem dX0_takeLeaves_45 : decode cX0_takeLeaves 45 = .ok (.iconst 0, 1) := by decide +kernel
theorem dX0_takeLeaves_46 : decode cX0_takeLeaves 46 = .ok (.istore 5, 2) := by decide +kernel
theorem dX0_takeLeaves_48 : decode cX0_takeLeaves 48 = .ok (.iload 4, 2) := by decide +kernel
theorem dX0_takeLeaves_50 : decode cX0_takeLeaves 50 = .ok (.ifCond .lt 18, 3) := by decide +kernel
theorem dX0_takeLeaves_53 : decode cX0_takeLeaves 53 = .ok (.iload 5, 2) := by decide +kernel
theorem dX0_takeLeaves_55 : decode cX0_takeLeaves 55 = .ok (.iload_n 1, 1) := by decide +kernel
theorem dX0_takeLeaves_56 : decode cX0_takeLeaves 56 = .ok (.if_icmp .ne 12, 3) := by decide +kernel
theorem dX0_takeLeaves_59 : decode cX0_takeLeaves 59 = .ok (.aload_n 0, 1) := by decide +kernel
theorem dX0_takeLeaves_60 : decode cX0_takeLeaves 60 = .ok (.iload_n 3, 1) := by decide +kernel
theorem dX0_takeLeaves_61 : decode cX0_takeLeaves 61 = .ok (.iload 4, 2) := by decide +kernel
theorem dX0_takeLeaves_63 : decode cX0_takeLeaves 63 = .ok (.iload 5, 2) := by decide +kernel
theorem dX0_takeLeaves_65 : decode cX0_takeLeaves 65 = .ok (.invokevirtual 138, 3) := by decide +kernel
theorem dX0_takeLeaves_68 : decode cX0_takeLeaves 68 = .ok (.iinc 2 2, 3) := by decide +kernel
theorem dX0_takeLeaves_71 : decode cX0_takeLeaves 71 = .ok (.goto (-69), 3) := by decide +kernel
theorem dX0_takeLeaves_74 : decode cX0_takeLeaves 74 = .ok (.return_, 1) := by decide +kernel
theorem dX0_takeLeaf_0 : decode cX0_takeLeaf 0 = .ok (.iload_n 3, 1) := by decide +kernel
theorem dX0_takeLeaf_1 : decode cX0_takeLeaf 1 = .ok (.ifCond .eq 12, 3) := by decide +kernel
theorem dX0_takeLeaf_4 : decode cX0_takeLeaf 4 = .ok (.aload_n 0, 1) := by decide +kernel
theorem dX0_takeLeaf_5 : decode cX0_takeLeaf 5 = .ok (.getfield 28, 3) := by decide +kernel
theorem dX0_takeLeaf_8 : decode cX0_takeLeaf 8 = .ok (.iload_n 2, 1) := by decide +kernel
theorem dX0_takeLeaf_9 : decode cX0_takeLeaf 9 = .ok (.iaload, 1) := by decide +kernel
theorem dX0_takeLeaf_10 : decode cX0_takeLeaf 10 = .ok (.goto 9, 3) := by decide +kernel
theorem dX0_takeLeaf_13 : decode cX0_takeLeaf 13 = .ok (.aload_n 0, 1) := by decide +kernel
theorem dX0_takeLeaf_14 : decode cX0_takeLeaf 14 = .ok (.getfield 25, 3) := by decide +kernel
theorem dX0_takeLeaf_17 : decode cX0_takeLeaf 17 = .ok (.iload_n 2, 1) := by decide +kernel
theorem dX0_takeLeaf_18 : decode cX0_takeLeaf 18 = .ok (.iaload, 1) := by decide +kernel
theorem dX0_takeLeaf_19 : decode cX0_takeLeaf 19 = .ok (.istore 4, 2) := by decide +kernel
theorem dX0_takeLeaf_21 : decode cX0_takeLeaf 21 = .ok (.aload_n 0, 1) := by decide +kernel
theorem dX0_takeLeaf_22 : decode cX0_takeLeaf 22 = .ok (.getfield 116, 3) := by decide +kernel
theorem dX0_takeLeaf_25 : decode cX0_takeLeaf 25 = .ok (.istore 5, 2) := by decide +kernel
theorem dX0_takeLeaf_27 : decode cX0_takeLeaf 27 = .ok (.aload_n 0, 1) := by decide +kernel
theorem dX0_takeLeaf_28 : decode cX0_takeLeaf 28 = .ok (.getfield 59, 3) := by decide +kernel
theorem dX0_takeLeaf_31 : decode cX0_takeLeaf 31 = .ok (.iload 5, 2) := by decide +kernel
theorem dX0_takeLeaf_33 : decode cX0_takeLeaf 33 = .ok (.iload_n 1, 1) := by decide +kernel
theorem dX0_takeLeaf_34 : decode cX0_takeLeaf 34 = .ok (.iastore, 1) := by decide +kernel
theorem dX0_takeLeaf_35 : decode cX0_takeLeaf 35 = .ok (.aload_n 0, 1) := by decide +kernel
theorem dX0_takeLeaf_36 : decode cX0_takeLeaf 36 = .ok (.getfield 62, 3) := by decide +kernel
theorem dX0_takeLeaf_39 : decode cX0_takeLeaf 39 = .ok (.iload 5, 2) := by decide +kernel
theorem dX0_takeLeaf_41 : decode cX0_takeLeaf 41 = .ok (.iload_n 2, 1) := by decide +kernel
theorem dX0_takeLeaf_42 : decode cX0_takeLeaf 42 = .ok (.iastore, 1) := by decide +kernel
theorem dX0_takeLeaf_43 : decode cX0_takeLeaf 43 = .ok (.aload_n 0, 1) := by decide +kernel
theorem dX0_takeLeaf_44 : decode cX0_takeLeaf 44 = .ok (.getfield 65, 3) := by decide +kernel
theorem dX0_takeLeaf_47 : decode cX0_takeLeaf 47 = .ok (.iload 5, 2) := by decide +kernel
theorem dX0_takeLeaf_49 : decode cX0_takeLeaf 49 = .ok (.iload 4, 2) := by decide +kernel
theorem dX0_takeLeaf_51 : decode cX0_takeLeaf 51 = .ok (.iastore, 1) := by decide +kernel
theorem dX0_takeLeaf_52 : decode cX0_takeLeaf 52 = .ok (.aload_n 0, 1) := by decide +kernel
theorem dX0_takeLeaf_53 : decode cX0_takeLeaf 53 = .ok (.getfield 68, 3) := by decide +kernel
theorem dX0_takeLeaf_56 : decode cX0_takeLeaf 56 = .ok (.iload 5, 2) := by decide +kernel
theorem dX0_takeLeaf_58 : decode cX0_takeLeaf 58 = .ok (.iload_n 3, 1) := by decide +kernel
theorem dX0_takeLeaf_59 : decode cX0_takeLeaf 59 = .ok (.bastore, 1) := by decide +kernel
theorem dX0_takeLeaf_60 : decode cX0_takeLeaf 60 = .ok (.aload_n 0, 1) := by decide +kernel
theorem dX0_takeLeaf_61 : decode cX0_takeLeaf 61 = .ok (.getfield 71, 3) := by decide +kernel
theorem dX0_takeLeaf_64 : decode cX0_takeLeaf 64 = .ok (.iload 5, 2) := by decide +kernel
theorem dX0_takeLeaf_66 : decode cX0_takeLeaf 66 = .ok (.aload_n 0, 1) := by decide +kernel
theorem dX0_takeLeaf_67 : decode cX0_takeLeaf 67 = .ok (.getfield 34, 3) := by decide +kernel
theorem dX0_takeLeaf_70 : decode cX0_takeLeaf 70 = .ok (.iload_n 1, 1) := by decide +kernel
theorem dX0_takeLeaf_71 : decode cX0_takeLeaf 71 = .ok (.iaload, 1) := by decide +kernel
theorem dX0_takeLeaf_72 : decode cX0_takeLeaf 72 = .ok (.iastore, 1) := by decide +kernel
theorem dX0_takeLeaf_73 : decode cX0_takeLeaf 73 = .ok (.aload_n 0, 1) := by decide +kernel
theorem dX0_takeLeaf_74 : decode cX0_takeLeaf 74 = .ok (.getfield 74, 3) := by decide +kernel
theorem dX0_takeLeaf_77 : decode cX0_takeLeaf 77 = .ok (.iload 5, 2) := by decide +kernel
theorem dX0_takeLeaf_79 : decode cX0_takeLeaf 79 = .ok (.aload_n 0, 1) := by decide +kernel
theorem dX0_takeLeaf_80 : decode cX0_takeLeaf 80 = .ok (.getfield 34, 3) := by decide +kernel
theorem dX0_takeLeaf_83 : decode cX0_takeLeaf 83 = .ok (.iload_n 2, 1) := by decide +kernel
theorem dX0_takeLeaf_84 : decode cX0_takeLeaf 84 = .ok (.iaload, 1) := by decide +kernel
theorem dX0_takeLeaf_85 : decode cX0_takeLeaf 85 = .ok (.iastore, 1) := by decide +kernel
theorem dX0_takeLeaf_86 : decode cX0_takeLeaf 86 = .ok (.aload_n 0, 1) := by decide +kernel
theorem dX0_takeLeaf_87 : decode cX0_takeLeaf 87 = .ok (.getfield 77, 3) := by decide +kernel
theorem dX0_takeLeaf_90 : decode cX0_takeLeaf 90 = .ok (.iload 5, 2) := by decide +kernel
theorem dX0_takeLeaf_92 : decode cX0_takeLeaf 92 = .ok (.aload_n 0, 1) := by decide +kernel
theorem dX0_takeLeaf_93 : decode cX0_takeLeaf 93 = .ok (.getfield 34, 3) := by decide +kernel
theorem dX0_takeLeaf_96 : decode cX0_takeLeaf 96 = .ok (.iload 4, 2) := by decide +kernel
theorem dX0_takeLeaf_98 : decode cX0_takeLeaf 98 = .ok (.iaload, 1) := by decide +kernel
theorem dX0_takeLeaf_99 : decode cX0_takeLeaf 99 = .ok (.iastore, 1) := by decide +kernel
theorem dX0_takeLeaf_100 : decode cX0_takeLeaf 100 = .ok (.aload_n 0, 1) := by decide +kernel
theorem dX0_takeLeaf_101 : decode cX0_takeLeaf 101 = .ok (.getfield 80, 3) := by decide +kernel
theorem dX0_takeLeaf_104 : decode cX0_takeLeaf 104 = .ok (.iload_n 2, 1) := by decide +kernel
theorem dX0_takeLeaf_105 : decode cX0_takeLeaf 105 = .ok (.iload 5, 2) := by decide +kernel
theorem dX0_takeLeaf_107 : decode cX0_takeLeaf 107 = .ok (.iastore, 1) := by decide +kernel
theorem dX0_takeLeaf_108 : decode cX0_takeLeaf 108 = .ok (.aload_n 0, 1) := by decide +kernel
theorem dX0_takeLeaf_109 : decode cX0_takeLeaf 109 = .ok (.dup, 1) := by decide +kernel
theorem dX0_takeLeaf_110 : decode cX0_takeLeaf 110 = .ok (.getfield 116, 3) := by decide +kernel
theorem dX0_takeLeaf_113 : decode cX0_takeLeaf 113 = .ok (.iconst 1, 1) := by decide +kernel
theorem dX0_takeLeaf_114 : decode cX0_takeLeaf 114 = .ok (.iadd, 1) := by decide +kernel
theorem dX0_takeLeaf_115 : decode cX0_takeLeaf 115 = .ok (.putfield 116, 3) := by decide +kernel
theorem dX0_takeLeaf_118 : decode cX0_takeLeaf 118 = .ok (.aload_n 0, 1) := by decide +kernel
theorem dX0_takeLeaf_119 : decode cX0_takeLeaf 119 = .ok (.getfield 31, 3) := by decide +kernel
theorem dX0_takeLeaf_122 : decode cX0_takeLeaf 122 = .ok (.iload_n 2, 1) := by decide +kernel
theorem dX0_takeLeaf_123 : decode cX0_takeLeaf 123 = .ok (.iaload, 1) := by decide +kernel
theorem dX0_takeLeaf_124 : decode cX0_takeLeaf 124 = .ok (.istore 6, 2) := by decide +kernel
theorem dX0_takeLeaf_126 : decode cX0_takeLeaf 126 = .ok (.aload_n 0, 1) := by decide +kernel
theorem dX0_takeLeaf_127 : decode cX0_takeLeaf 127 = .ok (.getfield 31, 3) := by decide +kernel
theorem dX0_takeLeaf_130 : decode cX0_takeLeaf 130 = .ok (.iload 4, 2) := by decide +kernel
theorem dX0_takeLeaf_132 : decode cX0_takeLeaf 132 = .ok (.iload 6, 2) := by decide +kernel
theorem dX0_takeLeaf_134 : decode cX0_takeLeaf 134 = .ok (.iastore, 1) := by decide +kernel
theorem dX0_takeLeaf_135 : decode cX0_takeLeaf 135 = .ok (.iload 6, 2) := by decide +kernel
theorem dX0_takeLeaf_137 : decode cX0_takeLeaf 137 = .ok (.ifCond .ge 12, 3) := by decide +kernel
theorem dX0_takeLeaf_140 : decode cX0_takeLeaf 140 = .ok (.aload_n 0, 1) := by decide +kernel
theorem dX0_takeLeaf_141 : decode cX0_takeLeaf 141 = .ok (.iload 4, 2) := by decide +kernel
theorem dX0_takeLeaf_143 : decode cX0_takeLeaf 143 = .ok (.putfield 122, 3) := by decide +kernel
theorem dX0_takeLeaf_146 : decode cX0_takeLeaf 146 = .ok (.goto 35, 3) := by decide +kernel
theorem dX0_takeLeaf_149 : decode cX0_takeLeaf 149 = .ok (.aload_n 0, 1) := by decide +kernel
theorem dX0_takeLeaf_150 : decode cX0_takeLeaf 150 = .ok (.getfield 25, 3) := by decide +kernel
theorem dX0_takeLeaf_153 : decode cX0_takeLeaf 153 = .ok (.iload 6, 2) := by decide +kernel
theorem dX0_takeLeaf_155 : decode cX0_takeLeaf 155 = .ok (.iaload, 1) := by decide +kernel
theorem dX0_takeLeaf_156 : decode cX0_takeLeaf 156 = .ok (.iload_n 2, 1) := by decide +kernel
theorem dX0_takeLeaf_157 : decode cX0_takeLeaf 157 = .ok (.if_icmp .ne 15, 3) := by decide +kernel
theorem dX0_takeLeaf_160 : decode cX0_takeLeaf 160 = .ok (.aload_n 0, 1) := by decide +kernel
theorem dX0_takeLeaf_161 : decode cX0_takeLeaf 161 = .ok (.getfield 25, 3) := by decide +kernel
theorem dX0_takeLeaf_164 : decode cX0_takeLeaf 164 = .ok (.iload 6, 2) := by decide +kernel
theorem dX0_takeLeaf_166 : decode cX0_takeLeaf 166 = .ok (.iload 4, 2) := by decide +kernel
theorem dX0_takeLeaf_168 : decode cX0_takeLeaf 168 = .ok (.iastore, 1) := by decide +kernel
theorem dX0_takeLeaf_169 : decode cX0_takeLeaf 169 = .ok (.goto 12, 3) := by decide +kernel
theorem dX0_takeLeaf_172 : decode cX0_takeLeaf 172 = .ok (.aload_n 0, 1) := by decide +kernel
theorem dX0_takeLeaf_173 : decode cX0_takeLeaf 173 = .ok (.getfield 28, 3) := by decide +kernel
theorem dX0_takeLeaf_176 : decode cX0_takeLeaf 176 = .ok (.iload 6, 2) := by decide +kernel
theorem dX0_takeLeaf_178 : decode cX0_takeLeaf 178 = .ok (.iload 4, 2) := by decide +kernel
theorem dX0_takeLeaf_180 : decode cX0_takeLeaf 180 = .ok (.iastore, 1) := by decide +kernel
theorem dX0_takeLeaf_181 : decode cX0_takeLeaf 181 = .ok (.aload_n 0, 1) := by decide +kernel
theorem dX0_takeLeaf_182 : decode cX0_takeLeaf 182 = .ok (.getfield 31, 3) := by decide +kernel
theorem dX0_takeLeaf_185 : decode cX0_takeLeaf 185 = .ok (.iload_n 1, 1) := by decide +kernel
theorem dX0_takeLeaf_186 : decode cX0_takeLeaf 186 = .ok (.iconst (-1), 1) := by decide +kernel
theorem dX0_takeLeaf_187 : decode cX0_takeLeaf 187 = .ok (.iastore, 1) := by decide +kernel
theorem dX0_takeLeaf_188 : decode cX0_takeLeaf 188 = .ok (.aload_n 0, 1) := by decide +kernel
theorem dX0_takeLeaf_189 : decode cX0_takeLeaf 189 = .ok (.getfield 34, 3) := by decide +kernel
theorem dX0_takeLeaf_192 : decode cX0_takeLeaf 192 = .ok (.iload 4, 2) := by decide +kernel
theorem dX0_takeLeaf_194 : decode cX0_takeLeaf 194 = .ok (.bipush 31, 2) := by decide +kernel
theorem dX0_takeLeaf_196 : decode cX0_takeLeaf 196 = .ok (.iload 5, 2) := by decide +kernel
end
section
set_option maxRecDepth 100000
theorem dX0_takeLeaf_198 : decode cX0_takeLeaf 198 = .ok (.iadd, 1) := by decide +kernel
theorem dX0_takeLeaf_199 : decode cX0_takeLeaf 199 = .ok (.iastore, 1) := by decide +kernel
theorem dX0_takeLeaf_200 : decode cX0_takeLeaf 200 = .ok (.aload_n 0, 1) := by decide +kernel
theorem dX0_takeLeaf_201 : decode cX0_takeLeaf 201 = .ok (.iload 5, 2) := by decide +kernel
theorem dX0_takeLeaf_203 : decode cX0_takeLeaf 203 = .ok (.invokevirtual 142, 3) := by decide +kernel
theorem dX0_takeLeaf_206 : decode cX0_takeLeaf 206 = .ok (.return_, 1) := by decide +kernel
theorem dX0_slope_0 : decode cX0_slope 0 = .ok (.aload_n 0, 1) := by decide +kernel
theorem dX0_slope_1 : decode cX0_slope 1 = .ok (.iload_n 1, 1) := by decide +kernel
theorem dX0_slope_2 : decode cX0_slope 2 = .ok (.invokevirtual 83, 3) := by decide +kernel
theorem dX0_slope_5 : decode cX0_slope 5 = .ok (.iconst 1, 1) := by decide +kernel
theorem dX0_slope_6 : decode cX0_slope 6 = .ok (.if_icmp .eq 5, 3) := by decide +kernel
theorem dX0_slope_9 : decode cX0_slope 9 = .ok (.iconst 0, 1) := by decide +kernel
theorem dX0_slope_10 : decode cX0_slope 10 = .ok (.ireturn, 1) := by decide +kernel
theorem dX0_slope_11 : decode cX0_slope 11 = .ok (.aload_n 0, 1) := by decide +kernel
theorem dX0_slope_12 : decode cX0_slope 12 = .ok (.invokevirtual 110, 3) := by decide +kernel
theorem dX0_slope_15 : decode cX0_slope 15 = .ok (.iconst 0, 1) := by decide +kernel
theorem dX0_slope_16 : decode cX0_slope 16 = .ok (.istore_n 2, 1) := by decide +kernel
theorem dX0_slope_17 : decode cX0_slope 17 = .ok (.iload_n 2, 1) := by decide +kernel
theorem dX0_slope_18 : decode cX0_slope 18 = .ok (.bipush 46, 2) := by decide +kernel
theorem dX0_slope_20 : decode cX0_slope 20 = .ok (.if_icmp .ge 23, 3) := by decide +kernel
theorem dX0_slope_23 : decode cX0_slope 23 = .ok (.aload_n 0, 1) := by decide +kernel
theorem dX0_slope_24 : decode cX0_slope 24 = .ok (.getfield 49, 3) := by decide +kernel
theorem dX0_slope_27 : decode cX0_slope 27 = .ok (.iload_n 2, 1) := by decide +kernel
theorem dX0_slope_28 : decode cX0_slope 28 = .ok (.iconst 0, 1) := by decide +kernel
theorem dX0_slope_29 : decode cX0_slope 29 = .ok (.iastore, 1) := by decide +kernel
theorem dX0_slope_30 : decode cX0_slope 30 = .ok (.aload_n 0, 1) := by decide +kernel
theorem dX0_slope_31 : decode cX0_slope 31 = .ok (.getfield 52, 3) := by decide +kernel
theorem dX0_slope_34 : decode cX0_slope 34 = .ok (.iload_n 2, 1) := by decide +kernel
theorem dX0_slope_35 : decode cX0_slope 35 = .ok (.iconst 0, 1) := by decide +kernel
theorem dX0_slope_36 : decode cX0_slope 36 = .ok (.iastore, 1) := by decide +kernel
theorem dX0_slope_37 : decode cX0_slope 37 = .ok (.iinc 2 1, 3) := by decide +kernel
theorem dX0_slope_40 : decode cX0_slope 40 = .ok (.goto (-23), 3) := by decide +kernel
theorem dX0_slope_43 : decode cX0_slope 43 = .ok (.iconst 0, 1) := by decide +kernel
theorem dX0_slope_44 : decode cX0_slope 44 = .ok (.istore_n 2, 1) := by decide +kernel
theorem dX0_slope_45 : decode cX0_slope 45 = .ok (.iload_n 2, 1) := by decide +kernel
theorem dX0_slope_46 : decode cX0_slope 46 = .ok (.aload_n 0, 1) := by decide +kernel
theorem dX0_slope_47 : decode cX0_slope 47 = .ok (.getfield 116, 3) := by decide +kernel
theorem dX0_slope_50 : decode cX0_slope 50 = .ok (.if_icmp .ge 15, 3) := by decide +kernel
theorem dX0_slope_53 : decode cX0_slope 53 = .ok (.aload_n 0, 1) := by decide +kernel
theorem dX0_slope_54 : decode cX0_slope 54 = .ok (.iload_n 2, 1) := by decide +kernel
theorem dX0_slope_55 : decode cX0_slope 55 = .ok (.iload_n 1, 1) := by decide +kernel
theorem dX0_slope_56 : decode cX0_slope 56 = .ok (.invokevirtual 119, 3) := by decide +kernel
theorem dX0_slope_59 : decode cX0_slope 59 = .ok (.iinc 2 1, 3) := by decide +kernel
theorem dX0_slope_62 : decode cX0_slope 62 = .ok (.goto (-17), 3) := by decide +kernel
theorem dX0_slope_65 : decode cX0_slope 65 = .ok (.aload_n 0, 1) := by decide +kernel
theorem dX0_slope_66 : decode cX0_slope 66 = .ok (.getfield 34, 3) := by decide +kernel
theorem dX0_slope_69 : decode cX0_slope 69 = .ok (.aload_n 0, 1) := by decide +kernel
theorem dX0_slope_70 : decode cX0_slope 70 = .ok (.getfield 122, 3) := by decide +kernel
theorem dX0_slope_73 : decode cX0_slope 73 = .ok (.iaload, 1) := by decide +kernel
theorem dX0_slope_74 : decode cX0_slope 74 = .ok (.istore_n 2, 1) := by decide +kernel
theorem dX0_slope_75 : decode cX0_slope 75 = .ok (.aload_n 0, 1) := by decide +kernel
theorem dX0_slope_76 : decode cX0_slope 76 = .ok (.getfield 122, 3) := by decide +kernel
theorem dX0_slope_79 : decode cX0_slope 79 = .ok (.iload_n 1, 1) := by decide +kernel
theorem dX0_slope_80 : decode cX0_slope 80 = .ok (.if_icmp .ne 12, 3) := by decide +kernel
theorem dX0_slope_83 : decode cX0_slope 83 = .ok (.aload_n 0, 1) := by decide +kernel
theorem dX0_slope_84 : decode cX0_slope 84 = .ok (.getfield 43, 3) := by decide +kernel
theorem dX0_slope_87 : decode cX0_slope 87 = .ok (.iload_n 2, 1) := by decide +kernel
theorem dX0_slope_88 : decode cX0_slope 88 = .ok (.iaload, 1) := by decide +kernel
theorem dX0_slope_89 : decode cX0_slope 89 = .ok (.goto 4, 3) := by decide +kernel
theorem dX0_slope_92 : decode cX0_slope 92 = .ok (.iconst 0, 1) := by decide +kernel
theorem dX0_slope_93 : decode cX0_slope 93 = .ok (.istore_n 3, 1) := by decide +kernel
theorem dX0_slope_94 : decode cX0_slope 94 = .ok (.aload_n 0, 1) := by decide +kernel
theorem dX0_slope_95 : decode cX0_slope 95 = .ok (.getfield 49, 3) := by decide +kernel
theorem dX0_slope_98 : decode cX0_slope 98 = .ok (.iload_n 2, 1) := by decide +kernel
theorem dX0_slope_99 : decode cX0_slope 99 = .ok (.iaload, 1) := by decide +kernel
theorem dX0_slope_100 : decode cX0_slope 100 = .ok (.aload_n 0, 1) := by decide +kernel
theorem dX0_slope_101 : decode cX0_slope 101 = .ok (.getfield 16, 3) := by decide +kernel
theorem dX0_slope_104 : decode cX0_slope 104 = .ok (.aload_n 0, 1) := by decide +kernel
theorem dX0_slope_105 : decode cX0_slope 105 = .ok (.getfield 122, 3) := by decide +kernel
theorem dX0_slope_108 : decode cX0_slope 108 = .ok (.iaload, 1) := by decide +kernel
theorem dX0_slope_109 : decode cX0_slope 109 = .ok (.imul, 1) := by decide +kernel
theorem dX0_slope_110 : decode cX0_slope 110 = .ok (.iload_n 3, 1) := by decide +kernel
theorem dX0_slope_111 : decode cX0_slope 111 = .ok (.iadd, 1) := by decide +kernel
theorem dX0_slope_112 : decode cX0_slope 112 = .ok (.aload_n 0, 1) := by decide +kernel
theorem dX0_slope_113 : decode cX0_slope 113 = .ok (.getfield 52, 3) := by decide +kernel
theorem dX0_slope_116 : decode cX0_slope 116 = .ok (.iload_n 2, 1) := by decide +kernel
theorem dX0_slope_117 : decode cX0_slope 117 = .ok (.iaload, 1) := by decide +kernel
theorem dX0_slope_118 : decode cX0_slope 118 = .ok (.iadd, 1) := by decide +kernel
theorem dX0_slope_119 : decode cX0_slope 119 = .ok (.ireturn, 1) := by decide +kernel
theorem dX0_changeStep_0 : decode cX0_changeStep 0 = .ok (.aload_n 0, 1) := by decide +kernel
theorem dX0_changeStep_1 : decode cX0_changeStep 1 = .ok (.getfield 71, 3) := by decide +kernel
theorem dX0_changeStep_4 : decode cX0_changeStep 4 = .ok (.iload_n 1, 1) := by decide +kernel
theorem dX0_changeStep_5 : decode cX0_changeStep 5 = .ok (.iaload, 1) := by decide +kernel
theorem dX0_changeStep_6 : decode cX0_changeStep 6 = .ok (.istore_n 3, 1) := by decide +kernel
theorem dX0_changeStep_7 : decode cX0_changeStep 7 = .ok (.aload_n 0, 1) := by decide +kernel
theorem dX0_changeStep_8 : decode cX0_changeStep 8 = .ok (.getfield 59, 3) := by decide +kernel
theorem dX0_changeStep_11 : decode cX0_changeStep 11 = .ok (.iload_n 1, 1) := by decide +kernel
theorem dX0_changeStep_12 : decode cX0_changeStep 12 = .ok (.iaload, 1) := by decide +kernel
theorem dX0_changeStep_13 : decode cX0_changeStep 13 = .ok (.iload_n 2, 1) := by decide +kernel
theorem dX0_changeStep_14 : decode cX0_changeStep 14 = .ok (.if_icmp .ne 12, 3) := by decide +kernel
theorem dX0_changeStep_17 : decode cX0_changeStep 17 = .ok (.aload_n 0, 1) := by decide +kernel
theorem dX0_changeStep_18 : decode cX0_changeStep 18 = .ok (.getfield 43, 3) := by decide +kernel
theorem dX0_changeStep_21 : decode cX0_changeStep 21 = .ok (.iload_n 3, 1) := by decide +kernel
theorem dX0_changeStep_22 : decode cX0_changeStep 22 = .ok (.iaload, 1) := by decide +kernel
theorem dX0_changeStep_23 : decode cX0_changeStep 23 = .ok (.goto 4, 3) := by decide +kernel
theorem dX0_changeStep_26 : decode cX0_changeStep 26 = .ok (.iconst 0, 1) := by decide +kernel
theorem dX0_changeStep_27 : decode cX0_changeStep 27 = .ok (.istore 4, 2) := by decide +kernel
theorem dX0_changeStep_29 : decode cX0_changeStep 29 = .ok (.aload_n 0, 1) := by decide +kernel
theorem dX0_changeStep_30 : decode cX0_changeStep 30 = .ok (.iload_n 1, 1) := by decide +kernel
theorem dX0_changeStep_31 : decode cX0_changeStep 31 = .ok (.invokevirtual 113, 3) := by decide +kernel
theorem dX0_changeStep_34 : decode cX0_changeStep 34 = .ok (.istore 5, 2) := by decide +kernel
theorem dX0_changeStep_36 : decode cX0_changeStep 36 = .ok (.aload_n 0, 1) := by decide +kernel
theorem dX0_changeStep_37 : decode cX0_changeStep 37 = .ok (.iload_n 1, 1) := by decide +kernel
theorem dX0_changeStep_38 : decode cX0_changeStep 38 = .ok (.iload 5, 2) := by decide +kernel
theorem dX0_changeStep_40 : decode cX0_changeStep 40 = .ok (.aload_n 0, 1) := by decide +kernel
theorem dX0_changeStep_41 : decode cX0_changeStep 41 = .ok (.getfield 49, 3) := by decide +kernel
theorem dX0_changeStep_44 : decode cX0_changeStep 44 = .ok (.iload_n 3, 1) := by decide +kernel
theorem dX0_changeStep_45 : decode cX0_changeStep 45 = .ok (.iaload, 1) := by decide +kernel
theorem dX0_changeStep_46 : decode cX0_changeStep 46 = .ok (.aload_n 0, 1) := by decide +kernel
theorem dX0_changeStep_47 : decode cX0_changeStep 47 = .ok (.getfield 16, 3) := by decide +kernel
theorem dX0_changeStep_50 : decode cX0_changeStep 50 = .ok (.aload_n 0, 1) := by decide +kernel
theorem dX0_changeStep_51 : decode cX0_changeStep 51 = .ok (.getfield 59, 3) := by decide +kernel
theorem dX0_changeStep_54 : decode cX0_changeStep 54 = .ok (.iload_n 1, 1) := by decide +kernel
theorem dX0_changeStep_55 : decode cX0_changeStep 55 = .ok (.iaload, 1) := by decide +kernel
theorem dX0_changeStep_56 : decode cX0_changeStep 56 = .ok (.iaload, 1) := by decide +kernel
theorem dX0_changeStep_57 : decode cX0_changeStep 57 = .ok (.imul, 1) := by decide +kernel
theorem dX0_changeStep_58 : decode cX0_changeStep 58 = .ok (.iload 4, 2) := by decide +kernel
theorem dX0_changeStep_60 : decode cX0_changeStep 60 = .ok (.iadd, 1) := by decide +kernel
theorem dX0_changeStep_61 : decode cX0_changeStep 61 = .ok (.aload_n 0, 1) := by decide +kernel
theorem dX0_changeStep_62 : decode cX0_changeStep 62 = .ok (.getfield 52, 3) := by decide +kernel
theorem dX0_changeStep_65 : decode cX0_changeStep 65 = .ok (.iload_n 3, 1) := by decide +kernel
theorem dX0_changeStep_66 : decode cX0_changeStep 66 = .ok (.iaload, 1) := by decide +kernel
theorem dX0_changeStep_67 : decode cX0_changeStep 67 = .ok (.iadd, 1) := by decide +kernel
theorem dX0_changeStep_68 : decode cX0_changeStep 68 = .ok (.invokevirtual 157, 3) := by decide +kernel
theorem dX0_changeStep_71 : decode cX0_changeStep 71 = .ok (.aload_n 0, 1) := by decide +kernel
theorem dX0_changeStep_72 : decode cX0_changeStep 72 = .ok (.getfield 43, 3) := by decide +kernel
theorem dX0_changeStep_75 : decode cX0_changeStep 75 = .ok (.aload_n 0, 1) := by decide +kernel
theorem dX0_changeStep_76 : decode cX0_changeStep 76 = .ok (.getfield 77, 3) := by decide +kernel
theorem dX0_changeStep_79 : decode cX0_changeStep 79 = .ok (.iload_n 1, 1) := by decide +kernel
theorem dX0_changeStep_80 : decode cX0_changeStep 80 = .ok (.iaload, 1) := by decide +kernel
theorem dX0_changeStep_81 : decode cX0_changeStep 81 = .ok (.iaload, 1) := by decide +kernel
theorem dX0_changeStep_82 : decode cX0_changeStep 82 = .ok (.istore 6, 2) := by decide +kernel
theorem dX0_changeStep_84 : decode cX0_changeStep 84 = .ok (.aload_n 0, 1) := by decide +kernel
theorem dX0_changeStep_85 : decode cX0_changeStep 85 = .ok (.getfield 46, 3) := by decide +kernel
theorem dX0_changeStep_88 : decode cX0_changeStep 88 = .ok (.aload_n 0, 1) := by decide +kernel
theorem dX0_changeStep_89 : decode cX0_changeStep 89 = .ok (.getfield 77, 3) := by decide +kernel
theorem dX0_changeStep_92 : decode cX0_changeStep 92 = .ok (.iload_n 1, 1) := by decide +kernel
theorem dX0_changeStep_93 : decode cX0_changeStep 93 = .ok (.iaload, 1) := by decide +kernel
theorem dX0_changeStep_94 : decode cX0_changeStep 94 = .ok (.iaload, 1) := by decide +kernel
theorem dX0_changeStep_95 : decode cX0_changeStep 95 = .ok (.istore 7, 2) := by decide +kernel
theorem dX0_changeStep_97 : decode cX0_changeStep 97 = .ok (.aload_n 0, 1) := by decide +kernel
theorem dX0_changeStep_98 : decode cX0_changeStep 98 = .ok (.getfield 49, 3) := by decide +kernel
theorem dX0_changeStep_101 : decode cX0_changeStep 101 = .ok (.aload_n 0, 1) := by decide +kernel
theorem dX0_changeStep_102 : decode cX0_changeStep 102 = .ok (.getfield 77, 3) := by decide +kernel
theorem dX0_changeStep_105 : decode cX0_changeStep 105 = .ok (.iload_n 1, 1) := by decide +kernel
theorem dX0_changeStep_106 : decode cX0_changeStep 106 = .ok (.iaload, 1) := by decide +kernel
theorem dX0_changeStep_107 : decode cX0_changeStep 107 = .ok (.iaload, 1) := by decide +kernel
theorem dX0_changeStep_108 : decode cX0_changeStep 108 = .ok (.istore 8, 2) := by decide +kernel
theorem dX0_changeStep_110 : decode cX0_changeStep 110 = .ok (.aload_n 0, 1) := by decide +kernel
theorem dX0_changeStep_111 : decode cX0_changeStep 111 = .ok (.getfield 52, 3) := by decide +kernel
theorem dX0_changeStep_114 : decode cX0_changeStep 114 = .ok (.aload_n 0, 1) := by decide +kernel
theorem dX0_changeStep_115 : decode cX0_changeStep 115 = .ok (.getfield 77, 3) := by decide +kernel
theorem dX0_changeStep_118 : decode cX0_changeStep 118 = .ok (.iload_n 1, 1) := by decide +kernel
theorem dX0_changeStep_119 : decode cX0_changeStep 119 = .ok (.iaload, 1) := by decide +kernel
theorem dX0_changeStep_120 : decode cX0_changeStep 120 = .ok (.iaload, 1) := by decide +kernel
theorem dX0_changeStep_121 : decode cX0_changeStep 121 = .ok (.istore 9, 2) := by decide +kernel
theorem dX0_changeStep_123 : decode cX0_changeStep 123 = .ok (.aload_n 0, 1) := by decide +kernel
theorem dX0_changeStep_124 : decode cX0_changeStep 124 = .ok (.getfield 43, 3) := by decide +kernel
theorem dX0_changeStep_127 : decode cX0_changeStep 127 = .ok (.aload_n 0, 1) := by decide +kernel
theorem dX0_changeStep_128 : decode cX0_changeStep 128 = .ok (.getfield 74, 3) := by decide +kernel
theorem dX0_changeStep_131 : decode cX0_changeStep 131 = .ok (.iload_n 1, 1) := by decide +kernel
theorem dX0_changeStep_132 : decode cX0_changeStep 132 = .ok (.iaload, 1) := by decide +kernel
theorem dX0_changeStep_133 : decode cX0_changeStep 133 = .ok (.iaload, 1) := by decide +kernel
theorem dX0_changeStep_134 : decode cX0_changeStep 134 = .ok (.istore 10, 2) := by decide +kernel
theorem dX0_changeStep_136 : decode cX0_changeStep 136 = .ok (.aload_n 0, 1) := by decide +kernel
theorem dX0_changeStep_137 : decode cX0_changeStep 137 = .ok (.getfield 49, 3) := by decide +kernel
theorem dX0_changeStep_140 : decode cX0_changeStep 140 = .ok (.aload_n 0, 1) := by decide +kernel
theorem dX0_changeStep_141 : decode cX0_changeStep 141 = .ok (.getfield 74, 3) := by decide +kernel
theorem dX0_changeStep_144 : decode cX0_changeStep 144 = .ok (.iload_n 1, 1) := by decide +kernel
theorem dX0_changeStep_145 : decode cX0_changeStep 145 = .ok (.iaload, 1) := by decide +kernel
theorem dX0_changeStep_146 : decode cX0_changeStep 146 = .ok (.iaload, 1) := by decide +kernel
theorem dX0_changeStep_147 : decode cX0_changeStep 147 = .ok (.istore 11, 2) := by decide +kernel
theorem dX0_changeStep_149 : decode cX0_changeStep 149 = .ok (.aload_n 0, 1) := by decide +kernel
theorem dX0_changeStep_150 : decode cX0_changeStep 150 = .ok (.getfield 145, 3) := by decide +kernel
theorem dX0_changeStep_153 : decode cX0_changeStep 153 = .ok (.iload 7, 2) := by decide +kernel
theorem dX0_changeStep_155 : decode cX0_changeStep 155 = .ok (.imul, 1) := by decide +kernel
theorem dX0_changeStep_156 : decode cX0_changeStep 156 = .ok (.aload_n 0, 1) := by decide +kernel
theorem dX0_changeStep_157 : decode cX0_changeStep 157 = .ok (.getfield 148, 3) := by decide +kernel
theorem dX0_changeStep_160 : decode cX0_changeStep 160 = .ok (.iadd, 1) := by decide +kernel
theorem dX0_changeStep_161 : decode cX0_changeStep 161 = .ok (.istore 12, 2) := by decide +kernel
theorem dX0_changeStep_163 : decode cX0_changeStep 163 = .ok (.aload_n 0, 1) := by decide +kernel
theorem dX0_changeStep_164 : decode cX0_changeStep 164 = .ok (.getfield 151, 3) := by decide +kernel
theorem dX0_changeStep_167 : decode cX0_changeStep 167 = .ok (.iload 7, 2) := by decide +kernel
theorem dX0_changeStep_169 : decode cX0_changeStep 169 = .ok (.imul, 1) := by decide +kernel
theorem dX0_changeStep_170 : decode cX0_changeStep 170 = .ok (.aload_n 0, 1) := by decide +kernel
theorem dX0_changeStep_171 : decode cX0_changeStep 171 = .ok (.getfield 145, 3) := by decide +kernel
theorem dX0_changeStep_174 : decode cX0_changeStep 174 = .ok (.iload 9, 2) := by decide +kernel
theorem dX0_changeStep_176 : decode cX0_changeStep 176 = .ok (.imul, 1) := by decide +kernel
theorem dX0_changeStep_177 : decode cX0_changeStep 177 = .ok (.iadd, 1) := by decide +kernel
theorem dX0_changeStep_178 : decode cX0_changeStep 178 = .ok (.aload_n 0, 1) := by decide +kernel
theorem dX0_changeStep_179 : decode cX0_changeStep 179 = .ok (.getfield 154, 3) := by decide +kernel
theorem dX0_changeStep_182 : decode cX0_changeStep 182 = .ok (.iadd, 1) := by decide +kernel
theorem dX0_changeStep_183 : decode cX0_changeStep 183 = .ok (.istore 13, 2) := by decide +kernel
theorem dX0_changeStep_185 : decode cX0_changeStep 185 = .ok (.aload_n 0, 1) := by decide +kernel
theorem dX0_changeStep_186 : decode cX0_changeStep 186 = .ok (.getfield 49, 3) := by decide +kernel
theorem dX0_changeStep_189 : decode cX0_changeStep 189 = .ok (.bipush 31, 2) := by decide +kernel
theorem dX0_changeStep_191 : decode cX0_changeStep 191 = .ok (.iload_n 1, 1) := by decide +kernel
theorem dX0_changeStep_192 : decode cX0_changeStep 192 = .ok (.iadd, 1) := by decide +kernel
theorem dX0_changeStep_193 : decode cX0_changeStep 193 = .ok (.iload 11, 2) := by decide +kernel
theorem dX0_changeStep_195 : decode cX0_changeStep 195 = .ok (.aload_n 0, 1) := by decide +kernel
theorem dX0_changeStep_196 : decode cX0_changeStep 196 = .ok (.getfield 145, 3) := by decide +kernel
theorem dX0_changeStep_199 : decode cX0_changeStep 199 = .ok (.imul, 1) := by decide +kernel
theorem dX0_changeStep_200 : decode cX0_changeStep 200 = .ok (.iload 6, 2) := by decide +kernel
theorem dX0_changeStep_202 : decode cX0_changeStep 202 = .ok (.imul, 1) := by decide +kernel
theorem dX0_changeStep_203 : decode cX0_changeStep 203 = .ok (.iload 10, 2) := by decide +kernel
theorem dX0_changeStep_205 : decode cX0_changeStep 205 = .ok (.aload_n 0, 1) := by decide +kernel
theorem dX0_changeStep_206 : decode cX0_changeStep 206 = .ok (.getfield 151, 3) := by decide +kernel
theorem dX0_changeStep_209 : decode cX0_changeStep 209 = .ok (.imul, 1) := by decide +kernel
theorem dX0_changeStep_210 : decode cX0_changeStep 210 = .ok (.iload 6, 2) := by decide +kernel
theorem dX0_changeStep_212 : decode cX0_changeStep 212 = .ok (.imul, 1) := by decide +kernel
theorem dX0_changeStep_213 : decode cX0_changeStep 213 = .ok (.iadd, 1) := by decide +kernel
theorem dX0_changeStep_214 : decode cX0_changeStep 214 = .ok (.iload 10, 2) := by decide +kernel
theorem dX0_changeStep_216 : decode cX0_changeStep 216 = .ok (.aload_n 0, 1) := by decide +kernel
theorem dX0_changeStep_217 : decode cX0_changeStep 217 = .ok (.getfield 145, 3) := by decide +kernel
theorem dX0_changeStep_220 : decode cX0_changeStep 220 = .ok (.imul, 1) := by decide +kernel
theorem dX0_changeStep_221 : decode cX0_changeStep 221 = .ok (.iload 8, 2) := by decide +kernel
theorem dX0_changeStep_223 : decode cX0_changeStep 223 = .ok (.imul, 1) := by decide +kernel
theorem dX0_changeStep_224 : decode cX0_changeStep 224 = .ok (.iadd, 1) := by decide +kernel
theorem dX0_changeStep_225 : decode cX0_changeStep 225 = .ok (.iastore, 1) := by decide +kernel
theorem dX0_changeStep_226 : decode cX0_changeStep 226 = .ok (.aload_n 0, 1) := by decide +kernel
theorem dX0_changeStep_227 : decode cX0_changeStep 227 = .ok (.getfield 52, 3) := by decide +kernel
theorem dX0_changeStep_230 : decode cX0_changeStep 230 = .ok (.bipush 31, 2) := by decide +kernel
theorem dX0_changeStep_232 : decode cX0_changeStep 232 = .ok (.iload_n 1, 1) := by decide +kernel
theorem dX0_changeStep_233 : decode cX0_changeStep 233 = .ok (.iadd, 1) := by decide +kernel
theorem dX0_changeStep_234 : decode cX0_changeStep 234 = .ok (.iload 11, 2) := by decide +kernel
theorem dX0_changeStep_236 : decode cX0_changeStep 236 = .ok (.iload 12, 2) := by decide +kernel
theorem dX0_changeStep_238 : decode cX0_changeStep 238 = .ok (.imul, 1) := by decide +kernel
theorem dX0_changeStep_239 : decode cX0_changeStep 239 = .ok (.iload 10, 2) := by decide +kernel
theorem dX0_changeStep_241 : decode cX0_changeStep 241 = .ok (.iload 13, 2) := by decide +kernel
theorem dX0_changeStep_243 : decode cX0_changeStep 243 = .ok (.imul, 1) := by decide +kernel
theorem dX0_changeStep_244 : decode cX0_changeStep 244 = .ok (.iadd, 1) := by decide +kernel
theorem dX0_changeStep_245 : decode cX0_changeStep 245 = .ok (.aload_n 0, 1) := by decide +kernel
theorem dX0_changeStep_246 : decode cX0_changeStep 246 = .ok (.getfield 52, 3) := by decide +kernel
theorem dX0_changeStep_249 : decode cX0_changeStep 249 = .ok (.aload_n 0, 1) := by decide +kernel
theorem dX0_changeStep_250 : decode cX0_changeStep 250 = .ok (.getfield 74, 3) := by decide +kernel
theorem dX0_changeStep_253 : decode cX0_changeStep 253 = .ok (.iload_n 1, 1) := by decide +kernel
theorem dX0_changeStep_254 : decode cX0_changeStep 254 = .ok (.iaload, 1) := by decide +kernel
theorem dX0_changeStep_255 : decode cX0_changeStep 255 = .ok (.iaload, 1) := by decide +kernel
theorem dX0_changeStep_256 : decode cX0_changeStep 256 = .ok (.iadd, 1) := by decide +kernel
theorem dX0_changeStep_257 : decode cX0_changeStep 257 = .ok (.iastore, 1) := by decide +kernel
theorem dX0_changeStep_258 : decode cX0_changeStep 258 = .ok (.return_, 1) := by decide +kernel
theorem dX0_left_0 : decode cX0_left 0 = .ok (.aload_n 0, 1) := by decide +kernel
theorem dX0_left_1 : decode cX0_left 1 = .ok (.iload_n 1, 1) := by decide +kernel
theorem dX0_left_2 : decode cX0_left 2 = .ok (.invokevirtual 83, 3) := by decide +kernel
theorem dX0_left_5 : decode cX0_left 5 = .ok (.iconst 2, 1) := by decide +kernel
theorem dX0_left_6 : decode cX0_left 6 = .ok (.if_icmp .ne 12, 3) := by decide +kernel
theorem dX0_left_9 : decode cX0_left 9 = .ok (.aload_n 0, 1) := by decide +kernel
theorem dX0_left_10 : decode cX0_left 10 = .ok (.getfield 19, 3) := by decide +kernel
theorem dX0_left_13 : decode cX0_left 13 = .ok (.iload_n 1, 1) := by decide +kernel
theorem dX0_left_14 : decode cX0_left 14 = .ok (.iaload, 1) := by decide +kernel
theorem dX0_left_15 : decode cX0_left 15 = .ok (.goto 4, 3) := by decide +kernel
theorem dX0_left_18 : decode cX0_left 18 = .ok (.iconst (-1), 1) := by decide +kernel
theorem dX0_left_19 : decode cX0_left 19 = .ok (.ireturn, 1) := by decide +kernel
theorem dX0_right_0 : decode cX0_right 0 = .ok (.aload_n 0, 1) := by decide +kernel
theorem dX0_right_1 : decode cX0_right 1 = .ok (.iload_n 1, 1) := by decide +kernel
theorem dX0_right_2 : decode cX0_right 2 = .ok (.invokevirtual 83, 3) := by decide +kernel
theorem dX0_right_5 : decode cX0_right 5 = .ok (.iconst 2, 1) := by decide +kernel
theorem dX0_right_6 : decode cX0_right 6 = .ok (.if_icmp .ne 12, 3) := by decide +kernel
theorem dX0_right_9 : decode cX0_right 9 = .ok (.aload_n 0, 1) := by decide +kernel
theorem dX0_right_10 : decode cX0_right 10 = .ok (.getfield 22, 3) := by decide +kernel
theorem dX0_right_13 : decode cX0_right 13 = .ok (.iload_n 1, 1) := by decide +kernel
theorem dX0_right_14 : decode cX0_right 14 = .ok (.iaload, 1) := by decide +kernel
theorem dX0_right_15 : decode cX0_right 15 = .ok (.goto 4, 3) := by decide +kernel
theorem dX0_right_18 : decode cX0_right 18 = .ok (.iconst (-1), 1) := by decide +kernel
theorem dX0_right_19 : decode cX0_right 19 = .ok (.ireturn, 1) := by decide +kernel
theorem dX0_joints_0 : decode cX0_joints 0 = .ok (.aload_n 0, 1) := by decide +kernel
theorem dX0_joints_1 : decode cX0_joints 1 = .ok (.getfield 87, 3) := by decide +kernel
theorem dX0_joints_4 : decode cX0_joints 4 = .ok (.ireturn, 1) := by decide +kernel
end
section
/-! TreeContractModel -/
set_option maxRecDepth 100000
def RX1 : String := "TreeContractModel"
def TX1 : u_T := fun k => match k with
  | 0 => ("TreeContractModel", "there", "[Z", true)
  | 1 => ("TreeContractModel", "joint", "[Z", true)
  | 2 => ("TreeContractModel", "worth", "[I", true)
  | 3 => ("TreeContractModel", "sorts", "[I", true)
  | 4 => ("TreeContractModel", "lefts", "[I", true)
  | 5 => ("TreeContractModel", "rights", "[I", true)
  | 6 => ("TreeContractModel", "known", "[Z", true)
  | _ => ("TreeContractModel", "result", "[I", true)
def tyX1 : Nat → FieldType := fun k => match k with
  | 0 => .array .boolean
  | 1 => .array .boolean
  | 2 => .array .int
  | 3 => .array .int
  | 4 => .array .int
  | 5 => .array .int
  | 6 => .array .boolean
  | _ => .array .int
abbrev wsX10 : List Cond := u_ws RX1 TX1 8
theorem nmX1 : ∀ a, a < 8 → ∀ b, b < 8 → a ≠ b → (TX1 a).2.1 ≠ (TX1 b).2.1 := by decide +kernel
theorem tyX1_ok : ∀ k, k < 8 → parseFieldDescriptor (TX1 k).2.2.1 = some (tyX1 k) := by decide +kernel
abbrev cX1_init : ByteArray := prog_3_method_1_code
def yX1_init : MethodName := ⟨RX1, "<init>", "()V"⟩
abbrev cX1_grow : ByteArray := prog_3_method_6_code
def yX1_grow : MethodName := ⟨RX1, "grow", "(IIII)I"⟩
abbrev cX1_isLeaf : ByteArray := prog_3_method_2_code
def yX1_isLeaf : MethodName := ⟨RX1, "isLeaf", "(I)Z"⟩
abbrev cX1_nodes : ByteArray := prog_3_method_5_code
def yX1_nodes : MethodName := ⟨RX1, "nodes", "()I"⟩
abbrev cX1_leaf : ByteArray := prog_3_method_4_code
def yX1_leaf : MethodName := ⟨RX1, "leaf", "(I)I"⟩
abbrev cX1_shrink : ByteArray := prog_3_method_8_code
def yX1_shrink : MethodName := ⟨RX1, "shrink", "(I)I"⟩
abbrev cX1_isJoint : ByteArray := prog_3_method_3_code
def yX1_isJoint : MethodName := ⟨RX1, "isJoint", "(I)Z"⟩
abbrev cX1_worked : ByteArray := prog_3_method_7_code
def yX1_worked : MethodName := ⟨RX1, "worked", "(III)I"⟩
abbrev cX1_set : ByteArray := prog_3_method_9_code
def yX1_set : MethodName := ⟨RX1, "set", "(II)I"⟩
abbrev cX1_setSort : ByteArray := prog_3_method_10_code
def yX1_setSort : MethodName := ⟨RX1, "setSort", "(II)I"⟩
abbrev cX1_turn : ByteArray := prog_3_method_11_code
def yX1_turn : MethodName := ⟨RX1, "turn", "(I)I"⟩
abbrev cX1_value : ByteArray := prog_3_method_13_code
def yX1_value : MethodName := ⟨RX1, "value", "(I)I"⟩
abbrev cX1_evaluate : ByteArray := prog_3_method_12_code
def yX1_evaluate : MethodName := ⟨RX1, "evaluate", "()V"⟩
abbrev cX1_slope : ByteArray := prog_3_method_14_code
def yX1_slope : MethodName := ⟨RX1, "slope", "(I)I"⟩
abbrev cX1_left : ByteArray := prog_3_method_15_code
def yX1_left : MethodName := ⟨RX1, "left", "(I)I"⟩
abbrev cX1_right : ByteArray := prog_3_method_16_code
def yX1_right : MethodName := ⟨RX1, "right", "(I)I"⟩
abbrev cX1_joints : ByteArray := prog_3_method_17_code
def yX1_joints : MethodName := ⟨RX1, "joints", "()I"⟩
theorem q20 : (Jvm.Cond.initialized "TreeContractModel") ∈ lw_all := lw_g (lw_at lw_m1 2 rfl) rfl
theorem q227 : (Jvm.Cond.instantiable "TreeContractModel" (8 : Nat)) ∈ lw_all := lw_g (lw_at lw_m1 209 rfl) rfl
theorem q229 : (Jvm.Cond.instanceMethod ({ cls := "TreeContractModel", name := "<init>", desc := "()V" } : Jvm.MethodName)) ∈ lw_all := lw_g (lw_at lw_m1 211 rfl) rfl
theorem q230 : (Jvm.Cond.code ({ cls := "TreeContractModel", name := "<init>", desc := "()V" } : Jvm.MethodName) prog_3_method_1_code (1 : Nat) (Option.none : Option Jvm.ClassFile.FieldType)) ∈ lw_all := lw_g (lw_at lw_m1 212 rfl) rfl
theorem q231 : (Jvm.Cond.methodLink "TreeContractModel" (1 : Nat) ({ cls := "java/lang/Object", name := "<init>", desc := "()V" } : Jvm.MethodName)) ∈ lw_all := lw_g (lw_at lw_m1 213 rfl) rfl
theorem q232 : (Jvm.Cond.fieldLink "TreeContractModel" (7 : Nat) "TreeContractModel" "there" "[Z") ∈ lw_all := lw_g (lw_at lw_m1 214 rfl) rfl
theorem q233 : (Jvm.Cond.fieldLink "TreeContractModel" (13 : Nat) "TreeContractModel" "joint" "[Z") ∈ lw_all := lw_g (lw_at lw_m1 215 rfl) rfl
theorem q234 : (Jvm.Cond.fieldLink "TreeContractModel" (16 : Nat) "TreeContractModel" "worth" "[I") ∈ lw_all := lw_g (lw_at lw_m1 216 rfl) rfl
theorem q235 : (Jvm.Cond.fieldLink "TreeContractModel" (20 : Nat) "TreeContractModel" "sorts" "[I") ∈ lw_all := lw_g (lw_at lw_m1 217 rfl) rfl
theorem q236 : (Jvm.Cond.fieldLink "TreeContractModel" (23 : Nat) "TreeContractModel" "lefts" "[I") ∈ lw_all := lw_g (lw_at lw_m1 218 rfl) rfl
theorem q237 : (Jvm.Cond.fieldLink "TreeContractModel" (26 : Nat) "TreeContractModel" "rights" "[I") ∈ lw_all := lw_g (lw_at lw_m1 219 rfl) rfl
theorem q238 : (Jvm.Cond.fieldLink "TreeContractModel" (29 : Nat) "TreeContractModel" "known" "[Z") ∈ lw_all := lw_g (lw_at lw_m1 220 rfl) rfl
theorem q239 : (Jvm.Cond.fieldLink "TreeContractModel" (32 : Nat) "TreeContractModel" "result" "[I") ∈ lw_all := lw_g (lw_at lw_m1 221 rfl) rfl
theorem q240 : (Jvm.Cond.laysFinal "TreeContractModel" "TreeContractModel" "there" "[Z") ∈ lw_all := lw_g (lw_at lw_m1 222 rfl) rfl
theorem q241 : (Jvm.Cond.soleField "TreeContractModel" "there") ∈ lw_all := lw_g (lw_at lw_m1 223 rfl) rfl
theorem q242 : (Jvm.Cond.laysFinal "TreeContractModel" "TreeContractModel" "joint" "[Z") ∈ lw_all := lw_g (lw_at lw_m1 224 rfl) rfl
theorem q243 : (Jvm.Cond.soleField "TreeContractModel" "joint") ∈ lw_all := lw_g (lw_at lw_m1 225 rfl) rfl
theorem q244 : (Jvm.Cond.laysFinal "TreeContractModel" "TreeContractModel" "worth" "[I") ∈ lw_all := lw_g (lw_at lw_m1 226 rfl) rfl
theorem q245 : (Jvm.Cond.soleField "TreeContractModel" "worth") ∈ lw_all := lw_g (lw_at lw_m1 227 rfl) rfl
theorem q246 : (Jvm.Cond.laysFinal "TreeContractModel" "TreeContractModel" "sorts" "[I") ∈ lw_all := lw_g (lw_at lw_m1 228 rfl) rfl
theorem q247 : (Jvm.Cond.soleField "TreeContractModel" "sorts") ∈ lw_all := lw_g (lw_at lw_m1 229 rfl) rfl
theorem q248 : (Jvm.Cond.laysFinal "TreeContractModel" "TreeContractModel" "lefts" "[I") ∈ lw_all := lw_g (lw_at lw_m1 230 rfl) rfl
theorem q249 : (Jvm.Cond.soleField "TreeContractModel" "lefts") ∈ lw_all := lw_g (lw_at lw_m1 231 rfl) rfl
theorem q250 : (Jvm.Cond.laysFinal "TreeContractModel" "TreeContractModel" "rights" "[I") ∈ lw_all := lw_g (lw_at lw_m1 232 rfl) rfl
theorem q251 : (Jvm.Cond.soleField "TreeContractModel" "rights") ∈ lw_all := lw_g (lw_at lw_m1 233 rfl) rfl
theorem q252 : (Jvm.Cond.laysFinal "TreeContractModel" "TreeContractModel" "known" "[Z") ∈ lw_all := lw_g (lw_at lw_m1 234 rfl) rfl
theorem q253 : (Jvm.Cond.soleField "TreeContractModel" "known") ∈ lw_all := lw_g (lw_at lw_m1 235 rfl) rfl
theorem q254 : (Jvm.Cond.laysFinal "TreeContractModel" "TreeContractModel" "result" "[I") ∈ lw_all := lw_g (lw_at lw_m1 236 rfl) rfl
theorem q255 : (Jvm.Cond.soleField "TreeContractModel" "result") ∈ lw_all := lw_g (lw_at lw_m1 237 rfl) rfl
theorem q256 : (Jvm.Cond.superclass "TreeContractModel" "java/lang/Object") ∈ lw_all := lw_g (lw_at lw_m1 238 rfl) rfl
theorem q258 : (Jvm.Cond.instanceMethod ({ cls := "TreeContractModel", name := "grow", desc := "(IIII)I" } : Jvm.MethodName)) ∈ lw_all := lw_g (lw_at lw_m2 0 rfl) rfl
theorem q259 : (Jvm.Cond.selects "TreeContractModel" ({ cls := "TreeContractModel", name := "grow", desc := "(IIII)I" } : Jvm.MethodName) ({ cls := "TreeContractModel", name := "grow", desc := "(IIII)I" } : Jvm.MethodName)) ∈ lw_all := lw_g (lw_at lw_m2 1 rfl) rfl
theorem q260 : (Jvm.Cond.code ({ cls := "TreeContractModel", name := "grow", desc := "(IIII)I" } : Jvm.MethodName) prog_3_method_6_code (5 : Nat) (Option.some Jvm.ClassFile.FieldType.int)) ∈ lw_all := lw_g (lw_at lw_m2 2 rfl) rfl
theorem q261 : (Jvm.Cond.methodLink "TreeContractModel" (35 : Nat) ({ cls := "TreeContractModel", name := "isLeaf", desc := "(I)Z" } : Jvm.MethodName)) ∈ lw_all := lw_g (lw_at lw_m2 3 rfl) rfl
theorem q262 : (Jvm.Cond.privateMethod ({ cls := "TreeContractModel", name := "isLeaf", desc := "(I)Z" } : Jvm.MethodName)) ∈ lw_tbl := lw_at lw_m2 4 rfl
theorem q263 : (Jvm.Cond.instanceMethod ({ cls := "TreeContractModel", name := "isLeaf", desc := "(I)Z" } : Jvm.MethodName)) ∈ lw_all := lw_g (lw_at lw_m2 5 rfl) rfl
theorem q264 : (Jvm.Cond.code ({ cls := "TreeContractModel", name := "isLeaf", desc := "(I)Z" } : Jvm.MethodName) prog_3_method_2_code (2 : Nat) (Option.some Jvm.ClassFile.FieldType.boolean)) ∈ lw_all := lw_g (lw_at lw_m2 6 rfl) rfl
theorem q265 : (Jvm.Cond.methodLink "TreeContractModel" (39 : Nat) ({ cls := "TreeContractModel", name := "nodes", desc := "()I" } : Jvm.MethodName)) ∈ lw_all := lw_g (lw_at lw_m2 7 rfl) rfl
theorem q266 : (Jvm.Cond.privateMethod ({ cls := "TreeContractModel", name := "nodes", desc := "()I" } : Jvm.MethodName)) ∈ lw_tbl := lw_at lw_m2 8 rfl
theorem q267 : (Jvm.Cond.instanceMethod ({ cls := "TreeContractModel", name := "nodes", desc := "()I" } : Jvm.MethodName)) ∈ lw_all := lw_g (lw_at lw_m2 9 rfl) rfl
theorem q268 : (Jvm.Cond.code ({ cls := "TreeContractModel", name := "nodes", desc := "()I" } : Jvm.MethodName) prog_3_method_5_code (3 : Nat) (Option.some Jvm.ClassFile.FieldType.int)) ∈ lw_all := lw_g (lw_at lw_m2 10 rfl) rfl
theorem q269 : (Jvm.Cond.methodLink "TreeContractModel" (43 : Nat) ({ cls := "TreeContractModel", name := "leaf", desc := "(I)I" } : Jvm.MethodName)) ∈ lw_all := lw_g (lw_at lw_m2 11 rfl) rfl
theorem q270 : (Jvm.Cond.privateMethod ({ cls := "TreeContractModel", name := "leaf", desc := "(I)I" } : Jvm.MethodName)) ∈ lw_tbl := lw_at lw_m2 12 rfl
theorem q271 : (Jvm.Cond.instanceMethod ({ cls := "TreeContractModel", name := "leaf", desc := "(I)I" } : Jvm.MethodName)) ∈ lw_all := lw_g (lw_at lw_m2 13 rfl) rfl
theorem q272 : (Jvm.Cond.code ({ cls := "TreeContractModel", name := "leaf", desc := "(I)I" } : Jvm.MethodName) prog_3_method_4_code (3 : Nat) (Option.some Jvm.ClassFile.FieldType.int)) ∈ lw_all := lw_g (lw_at lw_m2 14 rfl) rfl
theorem q274 : (Jvm.Cond.instanceMethod ({ cls := "TreeContractModel", name := "shrink", desc := "(I)I" } : Jvm.MethodName)) ∈ lw_all := lw_g (lw_at lw_m2 16 rfl) rfl
theorem q275 : (Jvm.Cond.selects "TreeContractModel" ({ cls := "TreeContractModel", name := "shrink", desc := "(I)I" } : Jvm.MethodName) ({ cls := "TreeContractModel", name := "shrink", desc := "(I)I" } : Jvm.MethodName)) ∈ lw_all := lw_g (lw_at lw_m2 17 rfl) rfl
theorem q276 : (Jvm.Cond.code ({ cls := "TreeContractModel", name := "shrink", desc := "(I)I" } : Jvm.MethodName) prog_3_method_8_code (2 : Nat) (Option.some Jvm.ClassFile.FieldType.int)) ∈ lw_all := lw_g (lw_at lw_m2 18 rfl) rfl
theorem q277 : (Jvm.Cond.methodLink "TreeContractModel" (47 : Nat) ({ cls := "TreeContractModel", name := "isJoint", desc := "(I)Z" } : Jvm.MethodName)) ∈ lw_all := lw_g (lw_at lw_m2 19 rfl) rfl
theorem q278 : (Jvm.Cond.privateMethod ({ cls := "TreeContractModel", name := "isJoint", desc := "(I)Z" } : Jvm.MethodName)) ∈ lw_tbl := lw_at lw_m2 20 rfl
theorem q279 : (Jvm.Cond.instanceMethod ({ cls := "TreeContractModel", name := "isJoint", desc := "(I)Z" } : Jvm.MethodName)) ∈ lw_all := lw_g (lw_at lw_m2 21 rfl) rfl
theorem q280 : (Jvm.Cond.code ({ cls := "TreeContractModel", name := "isJoint", desc := "(I)Z" } : Jvm.MethodName) prog_3_method_3_code (2 : Nat) (Option.some Jvm.ClassFile.FieldType.boolean)) ∈ lw_all := lw_g (lw_at lw_m2 22 rfl) rfl
theorem q281 : (Jvm.Cond.methodLink "TreeContractModel" (50 : Nat) ({ cls := "TreeContractModel", name := "worked", desc := "(III)I" } : Jvm.MethodName)) ∈ lw_all := lw_g (lw_at lw_m2 23 rfl) rfl
theorem q282 : (Jvm.Cond.static ({ cls := "TreeContractModel", name := "worked", desc := "(III)I" } : Jvm.MethodName)) ∈ lw_all := lw_g (lw_at lw_m2 24 rfl) rfl
theorem q283 : (Jvm.Cond.code ({ cls := "TreeContractModel", name := "worked", desc := "(III)I" } : Jvm.MethodName) prog_3_method_7_code (3 : Nat) (Option.some Jvm.ClassFile.FieldType.int)) ∈ lw_all := lw_g (lw_at lw_m2 25 rfl) rfl
theorem q285 : (Jvm.Cond.instanceMethod ({ cls := "TreeContractModel", name := "set", desc := "(II)I" } : Jvm.MethodName)) ∈ lw_all := lw_g (lw_at lw_m2 27 rfl) rfl
theorem q286 : (Jvm.Cond.selects "TreeContractModel" ({ cls := "TreeContractModel", name := "set", desc := "(II)I" } : Jvm.MethodName) ({ cls := "TreeContractModel", name := "set", desc := "(II)I" } : Jvm.MethodName)) ∈ lw_all := lw_g (lw_at lw_m2 28 rfl) rfl
theorem q287 : (Jvm.Cond.code ({ cls := "TreeContractModel", name := "set", desc := "(II)I" } : Jvm.MethodName) prog_3_method_9_code (3 : Nat) (Option.some Jvm.ClassFile.FieldType.int)) ∈ lw_all := lw_g (lw_at lw_m2 29 rfl) rfl
theorem q289 : (Jvm.Cond.instanceMethod ({ cls := "TreeContractModel", name := "setSort", desc := "(II)I" } : Jvm.MethodName)) ∈ lw_all := lw_g (lw_at lw_m2 31 rfl) rfl
theorem q290 : (Jvm.Cond.selects "TreeContractModel" ({ cls := "TreeContractModel", name := "setSort", desc := "(II)I" } : Jvm.MethodName) ({ cls := "TreeContractModel", name := "setSort", desc := "(II)I" } : Jvm.MethodName)) ∈ lw_all := lw_g (lw_at lw_m2 32 rfl) rfl
theorem q291 : (Jvm.Cond.code ({ cls := "TreeContractModel", name := "setSort", desc := "(II)I" } : Jvm.MethodName) prog_3_method_10_code (3 : Nat) (Option.some Jvm.ClassFile.FieldType.int)) ∈ lw_all := lw_g (lw_at lw_m2 33 rfl) rfl
theorem q293 : (Jvm.Cond.instanceMethod ({ cls := "TreeContractModel", name := "turn", desc := "(I)I" } : Jvm.MethodName)) ∈ lw_all := lw_g (lw_at lw_m2 35 rfl) rfl
theorem q294 : (Jvm.Cond.selects "TreeContractModel" ({ cls := "TreeContractModel", name := "turn", desc := "(I)I" } : Jvm.MethodName) ({ cls := "TreeContractModel", name := "turn", desc := "(I)I" } : Jvm.MethodName)) ∈ lw_all := lw_g (lw_at lw_m2 36 rfl) rfl
theorem q295 : (Jvm.Cond.code ({ cls := "TreeContractModel", name := "turn", desc := "(I)I" } : Jvm.MethodName) prog_3_method_11_code (3 : Nat) (Option.some Jvm.ClassFile.FieldType.int)) ∈ lw_all := lw_g (lw_at lw_m2 37 rfl) rfl
theorem q297 : (Jvm.Cond.instanceMethod ({ cls := "TreeContractModel", name := "value", desc := "(I)I" } : Jvm.MethodName)) ∈ lw_all := lw_g (lw_at lw_m2 39 rfl) rfl
theorem q298 : (Jvm.Cond.selects "TreeContractModel" ({ cls := "TreeContractModel", name := "value", desc := "(I)I" } : Jvm.MethodName) ({ cls := "TreeContractModel", name := "value", desc := "(I)I" } : Jvm.MethodName)) ∈ lw_all := lw_g (lw_at lw_m2 40 rfl) rfl
theorem q299 : (Jvm.Cond.code ({ cls := "TreeContractModel", name := "value", desc := "(I)I" } : Jvm.MethodName) prog_3_method_13_code (2 : Nat) (Option.some Jvm.ClassFile.FieldType.int)) ∈ lw_all := lw_g (lw_at lw_m2 41 rfl) rfl
theorem q300 : (Jvm.Cond.methodLink "TreeContractModel" (54 : Nat) ({ cls := "TreeContractModel", name := "evaluate", desc := "()V" } : Jvm.MethodName)) ∈ lw_all := lw_g (lw_at lw_m2 42 rfl) rfl
theorem q301 : (Jvm.Cond.privateMethod ({ cls := "TreeContractModel", name := "evaluate", desc := "()V" } : Jvm.MethodName)) ∈ lw_tbl := lw_at lw_m2 43 rfl
theorem q302 : (Jvm.Cond.instanceMethod ({ cls := "TreeContractModel", name := "evaluate", desc := "()V" } : Jvm.MethodName)) ∈ lw_all := lw_g (lw_at lw_m2 44 rfl) rfl
theorem q303 : (Jvm.Cond.code ({ cls := "TreeContractModel", name := "evaluate", desc := "()V" } : Jvm.MethodName) prog_3_method_12_code (3 : Nat) (Option.none : Option Jvm.ClassFile.FieldType)) ∈ lw_all := lw_g (lw_at lw_m2 45 rfl) rfl
theorem q305 : (Jvm.Cond.instanceMethod ({ cls := "TreeContractModel", name := "slope", desc := "(I)I" } : Jvm.MethodName)) ∈ lw_all := lw_g (lw_at lw_m2 47 rfl) rfl
theorem q306 : (Jvm.Cond.selects "TreeContractModel" ({ cls := "TreeContractModel", name := "slope", desc := "(I)I" } : Jvm.MethodName) ({ cls := "TreeContractModel", name := "slope", desc := "(I)I" } : Jvm.MethodName)) ∈ lw_all := lw_g (lw_at lw_m2 48 rfl) rfl
theorem q307 : (Jvm.Cond.code ({ cls := "TreeContractModel", name := "slope", desc := "(I)I" } : Jvm.MethodName) prog_3_method_14_code (4 : Nat) (Option.some Jvm.ClassFile.FieldType.int)) ∈ lw_all := lw_g (lw_at lw_m2 49 rfl) rfl
theorem q308 : (Jvm.Cond.methodLink "TreeContractModel" (57 : Nat) ({ cls := "TreeContractModel", name := "value", desc := "(I)I" } : Jvm.MethodName)) ∈ lw_all := lw_g (lw_at lw_m2 50 rfl) rfl
theorem q310 : (Jvm.Cond.instanceMethod ({ cls := "TreeContractModel", name := "left", desc := "(I)I" } : Jvm.MethodName)) ∈ lw_all := lw_g (lw_at lw_m2 52 rfl) rfl
theorem q311 : (Jvm.Cond.selects "TreeContractModel" ({ cls := "TreeContractModel", name := "left", desc := "(I)I" } : Jvm.MethodName) ({ cls := "TreeContractModel", name := "left", desc := "(I)I" } : Jvm.MethodName)) ∈ lw_all := lw_g (lw_at lw_m2 53 rfl) rfl
theorem q312 : (Jvm.Cond.code ({ cls := "TreeContractModel", name := "left", desc := "(I)I" } : Jvm.MethodName) prog_3_method_15_code (2 : Nat) (Option.some Jvm.ClassFile.FieldType.int)) ∈ lw_all := lw_g (lw_at lw_m2 54 rfl) rfl
theorem q314 : (Jvm.Cond.instanceMethod ({ cls := "TreeContractModel", name := "right", desc := "(I)I" } : Jvm.MethodName)) ∈ lw_all := lw_g (lw_at lw_m2 56 rfl) rfl
theorem q315 : (Jvm.Cond.selects "TreeContractModel" ({ cls := "TreeContractModel", name := "right", desc := "(I)I" } : Jvm.MethodName) ({ cls := "TreeContractModel", name := "right", desc := "(I)I" } : Jvm.MethodName)) ∈ lw_all := lw_g (lw_at lw_m2 57 rfl) rfl
theorem q316 : (Jvm.Cond.code ({ cls := "TreeContractModel", name := "right", desc := "(I)I" } : Jvm.MethodName) prog_3_method_16_code (2 : Nat) (Option.some Jvm.ClassFile.FieldType.int)) ∈ lw_all := lw_g (lw_at lw_m2 58 rfl) rfl
theorem q318 : (Jvm.Cond.instanceMethod ({ cls := "TreeContractModel", name := "joints", desc := "()I" } : Jvm.MethodName)) ∈ lw_all := lw_g (lw_at lw_m2 60 rfl) rfl
theorem q319 : (Jvm.Cond.selects "TreeContractModel" ({ cls := "TreeContractModel", name := "joints", desc := "()I" } : Jvm.MethodName) ({ cls := "TreeContractModel", name := "joints", desc := "()I" } : Jvm.MethodName)) ∈ lw_all := lw_g (lw_at lw_m2 61 rfl) rfl
theorem q320 : (Jvm.Cond.code ({ cls := "TreeContractModel", name := "joints", desc := "()I" } : Jvm.MethodName) prog_3_method_17_code (3 : Nat) (Option.some Jvm.ClassFile.FieldType.int)) ∈ lw_all := lw_g (lw_at lw_m2 62 rfl) rfl
theorem in_X1 : ∀ w ∈ wsX10, w ∈ lw_all := lw_in wsX10 [240, 242, 244, 246, 248, 250, 252, 254] (by decide +kernel) (by decide +kernel)
end
section
set_option maxRecDepth 100000
theorem dX1_init_0 : decode cX1_init 0 = .ok (.aload_n 0, 1) := by decide +kernel
theorem dX1_init_1 : decode cX1_init 1 = .ok (.invokespecial 1, 3) := by decide +kernel
theorem dX1_init_4 : decode cX1_init 4 = .ok (.aload_n 0, 1) := by decide +kernel
theorem dX1_init_5 : decode cX1_init 5 = .ok (.bipush 31, 2) := by decide +kernel
theorem dX1_init_7 : decode cX1_init 7 = .ok (.newarray .boolean, 2) := by decide +kernel
theorem dX1_init_9 : decode cX1_init 9 = .ok (.putfield 7, 3) := by decide +kernel
theorem dX1_init_12 : decode cX1_init 12 = .ok (.aload_n 0, 1) := by decide +kernel
theorem dX1_init_13 : decode cX1_init 13 = .ok (.bipush 31, 2) := by decide +kernel
theorem dX1_init_15 : decode cX1_init 15 = .ok (.newarray .boolean, 2) := by decide +kernel
theorem dX1_init_17 : decode cX1_init 17 = .ok (.putfield 13, 3) := by decide +kernel
theorem dX1_init_20 : decode cX1_init 20 = .ok (.aload_n 0, 1) := by decide +kernel
theorem dX1_init_21 : decode cX1_init 21 = .ok (.bipush 31, 2) := by decide +kernel
theorem dX1_init_23 : decode cX1_init 23 = .ok (.newarray .int, 2) := by decide +kernel
theorem dX1_init_25 : decode cX1_init 25 = .ok (.putfield 16, 3) := by decide +kernel
theorem dX1_init_28 : decode cX1_init 28 = .ok (.aload_n 0, 1) := by decide +kernel
theorem dX1_init_29 : decode cX1_init 29 = .ok (.bipush 31, 2) := by decide +kernel
theorem dX1_init_31 : decode cX1_init 31 = .ok (.newarray .int, 2) := by decide +kernel
theorem dX1_init_33 : decode cX1_init 33 = .ok (.putfield 20, 3) := by decide +kernel
theorem dX1_init_36 : decode cX1_init 36 = .ok (.aload_n 0, 1) := by decide +kernel
theorem dX1_init_37 : decode cX1_init 37 = .ok (.bipush 31, 2) := by decide +kernel
theorem dX1_init_39 : decode cX1_init 39 = .ok (.newarray .int, 2) := by decide +kernel
theorem dX1_init_41 : decode cX1_init 41 = .ok (.putfield 23, 3) := by decide +kernel
theorem dX1_init_44 : decode cX1_init 44 = .ok (.aload_n 0, 1) := by decide +kernel
theorem dX1_init_45 : decode cX1_init 45 = .ok (.bipush 31, 2) := by decide +kernel
theorem dX1_init_47 : decode cX1_init 47 = .ok (.newarray .int, 2) := by decide +kernel
theorem dX1_init_49 : decode cX1_init 49 = .ok (.putfield 26, 3) := by decide +kernel
theorem dX1_init_52 : decode cX1_init 52 = .ok (.aload_n 0, 1) := by decide +kernel
theorem dX1_init_53 : decode cX1_init 53 = .ok (.bipush 31, 2) := by decide +kernel
theorem dX1_init_55 : decode cX1_init 55 = .ok (.newarray .boolean, 2) := by decide +kernel
theorem dX1_init_57 : decode cX1_init 57 = .ok (.putfield 29, 3) := by decide +kernel
theorem dX1_init_60 : decode cX1_init 60 = .ok (.aload_n 0, 1) := by decide +kernel
theorem dX1_init_61 : decode cX1_init 61 = .ok (.bipush 31, 2) := by decide +kernel
theorem dX1_init_63 : decode cX1_init 63 = .ok (.newarray .int, 2) := by decide +kernel
theorem dX1_init_65 : decode cX1_init 65 = .ok (.putfield 32, 3) := by decide +kernel
theorem dX1_init_68 : decode cX1_init 68 = .ok (.aload_n 0, 1) := by decide +kernel
theorem dX1_init_69 : decode cX1_init 69 = .ok (.getfield 7, 3) := by decide +kernel
theorem dX1_init_72 : decode cX1_init 72 = .ok (.iconst 0, 1) := by decide +kernel
theorem dX1_init_73 : decode cX1_init 73 = .ok (.iconst 1, 1) := by decide +kernel
theorem dX1_init_74 : decode cX1_init 74 = .ok (.bastore, 1) := by decide +kernel
theorem dX1_init_75 : decode cX1_init 75 = .ok (.return_, 1) := by decide +kernel
theorem dX1_grow_0 : decode cX1_grow 0 = .ok (.aload_n 0, 1) := by decide +kernel
theorem dX1_grow_1 : decode cX1_grow 1 = .ok (.iload_n 1, 1) := by decide +kernel
theorem dX1_grow_2 : decode cX1_grow 2 = .ok (.invokevirtual 35, 3) := by decide +kernel
theorem dX1_grow_5 : decode cX1_grow 5 = .ok (.ifCond .eq 12, 3) := by decide +kernel
theorem dX1_grow_8 : decode cX1_grow 8 = .ok (.aload_n 0, 1) := by decide +kernel
theorem dX1_grow_9 : decode cX1_grow 9 = .ok (.invokevirtual 39, 3) := by decide +kernel
theorem dX1_grow_12 : decode cX1_grow 12 = .ok (.bipush 29, 2) := by decide +kernel
theorem dX1_grow_14 : decode cX1_grow 14 = .ok (.if_icmp .le 5, 3) := by decide +kernel
theorem dX1_grow_17 : decode cX1_grow 17 = .ok (.iconst (-1), 1) := by decide +kernel
theorem dX1_grow_18 : decode cX1_grow 18 = .ok (.ireturn, 1) := by decide +kernel
theorem dX1_grow_19 : decode cX1_grow 19 = .ok (.aload_n 0, 1) := by decide +kernel
theorem dX1_grow_20 : decode cX1_grow 20 = .ok (.getfield 23, 3) := by decide +kernel
theorem dX1_grow_23 : decode cX1_grow 23 = .ok (.iload_n 1, 1) := by decide +kernel
theorem dX1_grow_24 : decode cX1_grow 24 = .ok (.aload_n 0, 1) := by decide +kernel
theorem dX1_grow_25 : decode cX1_grow 25 = .ok (.iload_n 3, 1) := by decide +kernel
theorem dX1_grow_26 : decode cX1_grow 26 = .ok (.invokevirtual 43, 3) := by decide +kernel
theorem dX1_grow_29 : decode cX1_grow 29 = .ok (.iastore, 1) := by decide +kernel
theorem dX1_grow_30 : decode cX1_grow 30 = .ok (.aload_n 0, 1) := by decide +kernel
theorem dX1_grow_31 : decode cX1_grow 31 = .ok (.getfield 26, 3) := by decide +kernel
theorem dX1_grow_34 : decode cX1_grow 34 = .ok (.iload_n 1, 1) := by decide +kernel
theorem dX1_grow_35 : decode cX1_grow 35 = .ok (.aload_n 0, 1) := by decide +kernel
theorem dX1_grow_36 : decode cX1_grow 36 = .ok (.iload 4, 2) := by decide +kernel
theorem dX1_grow_38 : decode cX1_grow 38 = .ok (.invokevirtual 43, 3) := by decide +kernel
theorem dX1_grow_41 : decode cX1_grow 41 = .ok (.iastore, 1) := by decide +kernel
theorem dX1_grow_42 : decode cX1_grow 42 = .ok (.aload_n 0, 1) := by decide +kernel
theorem dX1_grow_43 : decode cX1_grow 43 = .ok (.getfield 13, 3) := by decide +kernel
theorem dX1_grow_46 : decode cX1_grow 46 = .ok (.iload_n 1, 1) := by decide +kernel
theorem dX1_grow_47 : decode cX1_grow 47 = .ok (.iconst 1, 1) := by decide +kernel
theorem dX1_grow_48 : decode cX1_grow 48 = .ok (.bastore, 1) := by decide +kernel
theorem dX1_grow_49 : decode cX1_grow 49 = .ok (.aload_n 0, 1) := by decide +kernel
theorem dX1_grow_50 : decode cX1_grow 50 = .ok (.getfield 20, 3) := by decide +kernel
theorem dX1_grow_53 : decode cX1_grow 53 = .ok (.iload_n 1, 1) := by decide +kernel
theorem dX1_grow_54 : decode cX1_grow 54 = .ok (.iload_n 2, 1) := by decide +kernel
theorem dX1_grow_55 : decode cX1_grow 55 = .ok (.iconst 3, 1) := by decide +kernel
theorem dX1_grow_56 : decode cX1_grow 56 = .ok (.iand, 1) := by decide +kernel
theorem dX1_grow_57 : decode cX1_grow 57 = .ok (.iastore, 1) := by decide +kernel
theorem dX1_grow_58 : decode cX1_grow 58 = .ok (.aload_n 0, 1) := by decide +kernel
theorem dX1_grow_59 : decode cX1_grow 59 = .ok (.getfield 23, 3) := by decide +kernel
theorem dX1_grow_62 : decode cX1_grow 62 = .ok (.iload_n 1, 1) := by decide +kernel
theorem dX1_grow_63 : decode cX1_grow 63 = .ok (.iaload, 1) := by decide +kernel
theorem dX1_grow_64 : decode cX1_grow 64 = .ok (.ireturn, 1) := by decide +kernel
theorem dX1_isLeaf_0 : decode cX1_isLeaf 0 = .ok (.iload_n 1, 1) := by decide +kernel
theorem dX1_isLeaf_1 : decode cX1_isLeaf 1 = .ok (.ifCond .lt 31, 3) := by decide +kernel
theorem dX1_isLeaf_4 : decode cX1_isLeaf 4 = .ok (.iload_n 1, 1) := by decide +kernel
theorem dX1_isLeaf_5 : decode cX1_isLeaf 5 = .ok (.bipush 31, 2) := by decide +kernel
theorem dX1_isLeaf_7 : decode cX1_isLeaf 7 = .ok (.if_icmp .ge 25, 3) := by decide +kernel
theorem dX1_isLeaf_10 : decode cX1_isLeaf 10 = .ok (.aload_n 0, 1) := by decide +kernel
theorem dX1_isLeaf_11 : decode cX1_isLeaf 11 = .ok (.getfield 7, 3) := by decide +kernel
theorem dX1_isLeaf_14 : decode cX1_isLeaf 14 = .ok (.iload_n 1, 1) := by decide +kernel
theorem dX1_isLeaf_15 : decode cX1_isLeaf 15 = .ok (.baload, 1) := by decide +kernel
theorem dX1_isLeaf_16 : decode cX1_isLeaf 16 = .ok (.ifCond .eq 16, 3) := by decide +kernel
theorem dX1_isLeaf_19 : decode cX1_isLeaf 19 = .ok (.aload_n 0, 1) := by decide +kernel
theorem dX1_isLeaf_20 : decode cX1_isLeaf 20 = .ok (.getfield 13, 3) := by decide +kernel
theorem dX1_isLeaf_23 : decode cX1_isLeaf 23 = .ok (.iload_n 1, 1) := by decide +kernel
theorem dX1_isLeaf_24 : decode cX1_isLeaf 24 = .ok (.baload, 1) := by decide +kernel
theorem dX1_isLeaf_25 : decode cX1_isLeaf 25 = .ok (.ifCond .ne 7, 3) := by decide +kernel
theorem dX1_isLeaf_28 : decode cX1_isLeaf 28 = .ok (.iconst 1, 1) := by decide +kernel
theorem dX1_isLeaf_29 : decode cX1_isLeaf 29 = .ok (.goto 4, 3) := by decide +kernel
theorem dX1_isLeaf_32 : decode cX1_isLeaf 32 = .ok (.iconst 0, 1) := by decide +kernel
theorem dX1_isLeaf_33 : decode cX1_isLeaf 33 = .ok (.ireturn, 1) := by decide +kernel
theorem dX1_nodes_0 : decode cX1_nodes 0 = .ok (.iconst 0, 1) := by decide +kernel
theorem dX1_nodes_1 : decode cX1_nodes 1 = .ok (.istore_n 1, 1) := by decide +kernel
theorem dX1_nodes_2 : decode cX1_nodes 2 = .ok (.iconst 0, 1) := by decide +kernel
theorem dX1_nodes_3 : decode cX1_nodes 3 = .ok (.istore_n 2, 1) := by decide +kernel
theorem dX1_nodes_4 : decode cX1_nodes 4 = .ok (.iload_n 2, 1) := by decide +kernel
theorem dX1_nodes_5 : decode cX1_nodes 5 = .ok (.bipush 31, 2) := by decide +kernel
theorem dX1_nodes_7 : decode cX1_nodes 7 = .ok (.if_icmp .ge 21, 3) := by decide +kernel
theorem dX1_nodes_10 : decode cX1_nodes 10 = .ok (.aload_n 0, 1) := by decide +kernel
theorem dX1_nodes_11 : decode cX1_nodes 11 = .ok (.getfield 7, 3) := by decide +kernel
theorem dX1_nodes_14 : decode cX1_nodes 14 = .ok (.iload_n 2, 1) := by decide +kernel
theorem dX1_nodes_15 : decode cX1_nodes 15 = .ok (.baload, 1) := by decide +kernel
theorem dX1_nodes_16 : decode cX1_nodes 16 = .ok (.ifCond .eq 6, 3) := by decide +kernel
theorem dX1_nodes_19 : decode cX1_nodes 19 = .ok (.iinc 1 1, 3) := by decide +kernel
theorem dX1_nodes_22 : decode cX1_nodes 22 = .ok (.iinc 2 1, 3) := by decide +kernel
theorem dX1_nodes_25 : decode cX1_nodes 25 = .ok (.goto (-21), 3) := by decide +kernel
theorem dX1_nodes_28 : decode cX1_nodes 28 = .ok (.iload_n 1, 1) := by decide +kernel
theorem dX1_nodes_29 : decode cX1_nodes 29 = .ok (.ireturn, 1) := by decide +kernel
theorem dX1_leaf_0 : decode cX1_leaf 0 = .ok (.iconst 0, 1) := by decide +kernel
theorem dX1_leaf_1 : decode cX1_leaf 1 = .ok (.istore_n 2, 1) := by decide +kernel
theorem dX1_leaf_2 : decode cX1_leaf 2 = .ok (.iload_n 2, 1) := by decide +kernel
theorem dX1_leaf_3 : decode cX1_leaf 3 = .ok (.bipush 31, 2) := by decide +kernel
theorem dX1_leaf_5 : decode cX1_leaf 5 = .ok (.if_icmp .ge 41, 3) := by decide +kernel
theorem dX1_leaf_8 : decode cX1_leaf 8 = .ok (.aload_n 0, 1) := by decide +kernel
theorem dX1_leaf_9 : decode cX1_leaf 9 = .ok (.getfield 7, 3) := by decide +kernel
theorem dX1_leaf_12 : decode cX1_leaf 12 = .ok (.iload_n 2, 1) := by decide +kernel
theorem dX1_leaf_13 : decode cX1_leaf 13 = .ok (.baload, 1) := by decide +kernel
theorem dX1_leaf_14 : decode cX1_leaf 14 = .ok (.ifCond .ne 26, 3) := by decide +kernel
theorem dX1_leaf_17 : decode cX1_leaf 17 = .ok (.aload_n 0, 1) := by decide +kernel
theorem dX1_leaf_18 : decode cX1_leaf 18 = .ok (.getfield 7, 3) := by decide +kernel
theorem dX1_leaf_21 : decode cX1_leaf 21 = .ok (.iload_n 2, 1) := by decide +kernel
theorem dX1_leaf_22 : decode cX1_leaf 22 = .ok (.iconst 1, 1) := by decide +kernel
theorem dX1_leaf_23 : decode cX1_leaf 23 = .ok (.bastore, 1) := by decide +kernel
theorem dX1_leaf_24 : decode cX1_leaf 24 = .ok (.aload_n 0, 1) := by decide +kernel
theorem dX1_leaf_25 : decode cX1_leaf 25 = .ok (.getfield 13, 3) := by decide +kernel
theorem dX1_leaf_28 : decode cX1_leaf 28 = .ok (.iload_n 2, 1) := by decide +kernel
theorem dX1_leaf_29 : decode cX1_leaf 29 = .ok (.iconst 0, 1) := by decide +kernel
theorem dX1_leaf_30 : decode cX1_leaf 30 = .ok (.bastore, 1) := by decide +kernel
theorem dX1_leaf_31 : decode cX1_leaf 31 = .ok (.aload_n 0, 1) := by decide +kernel
theorem dX1_leaf_32 : decode cX1_leaf 32 = .ok (.getfield 16, 3) := by decide +kernel
theorem dX1_leaf_35 : decode cX1_leaf 35 = .ok (.iload_n 2, 1) := by decide +kernel
theorem dX1_leaf_36 : decode cX1_leaf 36 = .ok (.iload_n 1, 1) := by decide +kernel
theorem dX1_leaf_37 : decode cX1_leaf 37 = .ok (.iastore, 1) := by decide +kernel
theorem dX1_leaf_38 : decode cX1_leaf 38 = .ok (.iload_n 2, 1) := by decide +kernel
theorem dX1_leaf_39 : decode cX1_leaf 39 = .ok (.ireturn, 1) := by decide +kernel
theorem dX1_leaf_40 : decode cX1_leaf 40 = .ok (.iinc 2 1, 3) := by decide +kernel
theorem dX1_leaf_43 : decode cX1_leaf 43 = .ok (.goto (-41), 3) := by decide +kernel
theorem dX1_leaf_46 : decode cX1_leaf 46 = .ok (.iconst (-1), 1) := by decide +kernel
theorem dX1_leaf_47 : decode cX1_leaf 47 = .ok (.ireturn, 1) := by decide +kernel
theorem dX1_shrink_0 : decode cX1_shrink 0 = .ok (.aload_n 0, 1) := by decide +kernel
theorem dX1_shrink_1 : decode cX1_shrink 1 = .ok (.iload_n 1, 1) := by decide +kernel
theorem dX1_shrink_2 : decode cX1_shrink 2 = .ok (.invokevirtual 47, 3) := by decide +kernel
theorem dX1_shrink_5 : decode cX1_shrink 5 = .ok (.ifCond .eq 29, 3) := by decide +kernel
theorem dX1_shrink_8 : decode cX1_shrink 8 = .ok (.aload_n 0, 1) := by decide +kernel
theorem dX1_shrink_9 : decode cX1_shrink 9 = .ok (.aload_n 0, 1) := by decide +kernel
theorem dX1_shrink_10 : decode cX1_shrink 10 = .ok (.getfield 23, 3) := by decide +kernel
theorem dX1_shrink_13 : decode cX1_shrink 13 = .ok (.iload_n 1, 1) := by decide +kernel
theorem dX1_shrink_14 : decode cX1_shrink 14 = .ok (.iaload, 1) := by decide +kernel
theorem dX1_shrink_15 : decode cX1_shrink 15 = .ok (.invokevirtual 35, 3) := by decide +kernel
theorem dX1_shrink_18 : decode cX1_shrink 18 = .ok (.ifCond .eq 16, 3) := by decide +kernel
theorem dX1_shrink_21 : decode cX1_shrink 21 = .ok (.aload_n 0, 1) := by decide +kernel
theorem dX1_shrink_22 : decode cX1_shrink 22 = .ok (.aload_n 0, 1) := by decide +kernel
theorem dX1_shrink_23 : decode cX1_shrink 23 = .ok (.getfield 26, 3) := by decide +kernel
theorem dX1_shrink_26 : decode cX1_shrink 26 = .ok (.iload_n 1, 1) := by decide +kernel
theorem dX1_shrink_27 : decode cX1_shrink 27 = .ok (.iaload, 1) := by decide +kernel
theorem dX1_shrink_28 : decode cX1_shrink 28 = .ok (.invokevirtual 35, 3) := by decide +kernel
theorem dX1_shrink_31 : decode cX1_shrink 31 = .ok (.ifCond .ne 5, 3) := by decide +kernel
theorem dX1_shrink_34 : decode cX1_shrink 34 = .ok (.iconst (-1), 1) := by decide +kernel
theorem dX1_shrink_35 : decode cX1_shrink 35 = .ok (.ireturn, 1) := by decide +kernel
theorem dX1_shrink_36 : decode cX1_shrink 36 = .ok (.aload_n 0, 1) := by decide +kernel
theorem dX1_shrink_37 : decode cX1_shrink 37 = .ok (.getfield 16, 3) := by decide +kernel
theorem dX1_shrink_40 : decode cX1_shrink 40 = .ok (.iload_n 1, 1) := by decide +kernel
theorem dX1_shrink_41 : decode cX1_shrink 41 = .ok (.aload_n 0, 1) := by decide +kernel
theorem dX1_shrink_42 : decode cX1_shrink 42 = .ok (.getfield 20, 3) := by decide +kernel
theorem dX1_shrink_45 : decode cX1_shrink 45 = .ok (.iload_n 1, 1) := by decide +kernel
theorem dX1_shrink_46 : decode cX1_shrink 46 = .ok (.iaload, 1) := by decide +kernel
theorem dX1_shrink_47 : decode cX1_shrink 47 = .ok (.aload_n 0, 1) := by decide +kernel
theorem dX1_shrink_48 : decode cX1_shrink 48 = .ok (.getfield 16, 3) := by decide +kernel
theorem dX1_shrink_51 : decode cX1_shrink 51 = .ok (.aload_n 0, 1) := by decide +kernel
theorem dX1_shrink_52 : decode cX1_shrink 52 = .ok (.getfield 23, 3) := by decide +kernel
theorem dX1_shrink_55 : decode cX1_shrink 55 = .ok (.iload_n 1, 1) := by decide +kernel
theorem dX1_shrink_56 : decode cX1_shrink 56 = .ok (.iaload, 1) := by decide +kernel
theorem dX1_shrink_57 : decode cX1_shrink 57 = .ok (.iaload, 1) := by decide +kernel
theorem dX1_shrink_58 : decode cX1_shrink 58 = .ok (.aload_n 0, 1) := by decide +kernel
theorem dX1_shrink_59 : decode cX1_shrink 59 = .ok (.getfield 16, 3) := by decide +kernel
theorem dX1_shrink_62 : decode cX1_shrink 62 = .ok (.aload_n 0, 1) := by decide +kernel
theorem dX1_shrink_63 : decode cX1_shrink 63 = .ok (.getfield 26, 3) := by decide +kernel
theorem dX1_shrink_66 : decode cX1_shrink 66 = .ok (.iload_n 1, 1) := by decide +kernel
theorem dX1_shrink_67 : decode cX1_shrink 67 = .ok (.iaload, 1) := by decide +kernel
theorem dX1_shrink_68 : decode cX1_shrink 68 = .ok (.iaload, 1) := by decide +kernel
theorem dX1_shrink_69 : decode cX1_shrink 69 = .ok (.invokestatic 50, 3) := by decide +kernel
theorem dX1_shrink_72 : decode cX1_shrink 72 = .ok (.iastore, 1) := by decide +kernel
theorem dX1_shrink_73 : decode cX1_shrink 73 = .ok (.aload_n 0, 1) := by decide +kernel
theorem dX1_shrink_74 : decode cX1_shrink 74 = .ok (.getfield 13, 3) := by decide +kernel
theorem dX1_shrink_77 : decode cX1_shrink 77 = .ok (.iload_n 1, 1) := by decide +kernel
theorem dX1_shrink_78 : decode cX1_shrink 78 = .ok (.iconst 0, 1) := by decide +kernel
theorem dX1_shrink_79 : decode cX1_shrink 79 = .ok (.bastore, 1) := by decide +kernel
theorem dX1_shrink_80 : decode cX1_shrink 80 = .ok (.aload_n 0, 1) := by decide +kernel
theorem dX1_shrink_81 : decode cX1_shrink 81 = .ok (.getfield 7, 3) := by decide +kernel
theorem dX1_shrink_84 : decode cX1_shrink 84 = .ok (.aload_n 0, 1) := by decide +kernel
theorem dX1_shrink_85 : decode cX1_shrink 85 = .ok (.getfield 23, 3) := by decide +kernel
theorem dX1_shrink_88 : decode cX1_shrink 88 = .ok (.iload_n 1, 1) := by decide +kernel
theorem dX1_shrink_89 : decode cX1_shrink 89 = .ok (.iaload, 1) := by decide +kernel
theorem dX1_shrink_90 : decode cX1_shrink 90 = .ok (.iconst 0, 1) := by decide +kernel
theorem dX1_shrink_91 : decode cX1_shrink 91 = .ok (.bastore, 1) := by decide +kernel
theorem dX1_shrink_92 : decode cX1_shrink 92 = .ok (.aload_n 0, 1) := by decide +kernel
theorem dX1_shrink_93 : decode cX1_shrink 93 = .ok (.getfield 7, 3) := by decide +kernel
theorem dX1_shrink_96 : decode cX1_shrink 96 = .ok (.aload_n 0, 1) := by decide +kernel
theorem dX1_shrink_97 : decode cX1_shrink 97 = .ok (.getfield 26, 3) := by decide +kernel
theorem dX1_shrink_100 : decode cX1_shrink 100 = .ok (.iload_n 1, 1) := by decide +kernel
theorem dX1_shrink_101 : decode cX1_shrink 101 = .ok (.iaload, 1) := by decide +kernel
theorem dX1_shrink_102 : decode cX1_shrink 102 = .ok (.iconst 0, 1) := by decide +kernel
theorem dX1_shrink_103 : decode cX1_shrink 103 = .ok (.bastore, 1) := by decide +kernel
theorem dX1_shrink_104 : decode cX1_shrink 104 = .ok (.iconst 0, 1) := by decide +kernel
theorem dX1_shrink_105 : decode cX1_shrink 105 = .ok (.ireturn, 1) := by decide +kernel
theorem dX1_isJoint_0 : decode cX1_isJoint 0 = .ok (.iload_n 1, 1) := by decide +kernel
theorem dX1_isJoint_1 : decode cX1_isJoint 1 = .ok (.ifCond .lt 31, 3) := by decide +kernel
theorem dX1_isJoint_4 : decode cX1_isJoint 4 = .ok (.iload_n 1, 1) := by decide +kernel
theorem dX1_isJoint_5 : decode cX1_isJoint 5 = .ok (.bipush 31, 2) := by decide +kernel
theorem dX1_isJoint_7 : decode cX1_isJoint 7 = .ok (.if_icmp .ge 25, 3) := by decide +kernel
theorem dX1_isJoint_10 : decode cX1_isJoint 10 = .ok (.aload_n 0, 1) := by decide +kernel
theorem dX1_isJoint_11 : decode cX1_isJoint 11 = .ok (.getfield 7, 3) := by decide +kernel
theorem dX1_isJoint_14 : decode cX1_isJoint 14 = .ok (.iload_n 1, 1) := by decide +kernel
theorem dX1_isJoint_15 : decode cX1_isJoint 15 = .ok (.baload, 1) := by decide +kernel
theorem dX1_isJoint_16 : decode cX1_isJoint 16 = .ok (.ifCond .eq 16, 3) := by decide +kernel
theorem dX1_isJoint_19 : decode cX1_isJoint 19 = .ok (.aload_n 0, 1) := by decide +kernel
theorem dX1_isJoint_20 : decode cX1_isJoint 20 = .ok (.getfield 13, 3) := by decide +kernel
theorem dX1_isJoint_23 : decode cX1_isJoint 23 = .ok (.iload_n 1, 1) := by decide +kernel
theorem dX1_isJoint_24 : decode cX1_isJoint 24 = .ok (.baload, 1) := by decide +kernel
theorem dX1_isJoint_25 : decode cX1_isJoint 25 = .ok (.ifCond .eq 7, 3) := by decide +kernel
theorem dX1_isJoint_28 : decode cX1_isJoint 28 = .ok (.iconst 1, 1) := by decide +kernel
theorem dX1_isJoint_29 : decode cX1_isJoint 29 = .ok (.goto 4, 3) := by decide +kernel
theorem dX1_isJoint_32 : decode cX1_isJoint 32 = .ok (.iconst 0, 1) := by decide +kernel
theorem dX1_isJoint_33 : decode cX1_isJoint 33 = .ok (.ireturn, 1) := by decide +kernel
theorem dX1_worked_0 : decode cX1_worked 0 = .ok (.iload_n 0, 1) := by decide +kernel
theorem dX1_worked_1 : decode cX1_worked 1 = .ok (.ifCond .ne 7, 3) := by decide +kernel
theorem dX1_worked_4 : decode cX1_worked 4 = .ok (.iload_n 1, 1) := by decide +kernel
theorem dX1_worked_5 : decode cX1_worked 5 = .ok (.iload_n 2, 1) := by decide +kernel
theorem dX1_worked_6 : decode cX1_worked 6 = .ok (.iadd, 1) := by decide +kernel
theorem dX1_worked_7 : decode cX1_worked 7 = .ok (.ireturn, 1) := by decide +kernel
theorem dX1_worked_8 : decode cX1_worked 8 = .ok (.iload_n 0, 1) := by decide +kernel
theorem dX1_worked_9 : decode cX1_worked 9 = .ok (.iconst 1, 1) := by decide +kernel
theorem dX1_worked_10 : decode cX1_worked 10 = .ok (.if_icmp .ne 7, 3) := by decide +kernel
theorem dX1_worked_13 : decode cX1_worked 13 = .ok (.iload_n 1, 1) := by decide +kernel
theorem dX1_worked_14 : decode cX1_worked 14 = .ok (.iload_n 2, 1) := by decide +kernel
theorem dX1_worked_15 : decode cX1_worked 15 = .ok (.imul, 1) := by decide +kernel
theorem dX1_worked_16 : decode cX1_worked 16 = .ok (.ireturn, 1) := by decide +kernel
theorem dX1_worked_17 : decode cX1_worked 17 = .ok (.iload_n 0, 1) := by decide +kernel
theorem dX1_worked_18 : decode cX1_worked 18 = .ok (.iconst 2, 1) := by decide +kernel
theorem dX1_worked_19 : decode cX1_worked 19 = .ok (.if_icmp .ne 9, 3) := by decide +kernel
theorem dX1_worked_22 : decode cX1_worked 22 = .ok (.iload_n 1, 1) := by decide +kernel
theorem dX1_worked_23 : decode cX1_worked 23 = .ok (.iload_n 2, 1) := by decide +kernel
end
section
set_option maxRecDepth 100000
theorem dX1_worked_24 : decode cX1_worked 24 = .ok (.isub, 1) := by decide +kernel
theorem dX1_worked_25 : decode cX1_worked 25 = .ok (.goto 6, 3) := by decide +kernel
theorem dX1_worked_28 : decode cX1_worked 28 = .ok (.iload_n 2, 1) := by decide +kernel
theorem dX1_worked_29 : decode cX1_worked 29 = .ok (.iload_n 1, 1) := by decide +kernel
theorem dX1_worked_30 : decode cX1_worked 30 = .ok (.isub, 1) := by decide +kernel
theorem dX1_worked_31 : decode cX1_worked 31 = .ok (.ireturn, 1) := by decide +kernel
theorem dX1_set_0 : decode cX1_set 0 = .ok (.aload_n 0, 1) := by decide +kernel
theorem dX1_set_1 : decode cX1_set 1 = .ok (.iload_n 1, 1) := by decide +kernel
theorem dX1_set_2 : decode cX1_set 2 = .ok (.invokevirtual 35, 3) := by decide +kernel
theorem dX1_set_5 : decode cX1_set 5 = .ok (.ifCond .ne 5, 3) := by decide +kernel
theorem dX1_set_8 : decode cX1_set 8 = .ok (.iconst (-1), 1) := by decide +kernel
theorem dX1_set_9 : decode cX1_set 9 = .ok (.ireturn, 1) := by decide +kernel
theorem dX1_set_10 : decode cX1_set 10 = .ok (.aload_n 0, 1) := by decide +kernel
theorem dX1_set_11 : decode cX1_set 11 = .ok (.getfield 16, 3) := by decide +kernel
theorem dX1_set_14 : decode cX1_set 14 = .ok (.iload_n 1, 1) := by decide +kernel
theorem dX1_set_15 : decode cX1_set 15 = .ok (.iload_n 2, 1) := by decide +kernel
theorem dX1_set_16 : decode cX1_set 16 = .ok (.iastore, 1) := by decide +kernel
theorem dX1_set_17 : decode cX1_set 17 = .ok (.iconst 0, 1) := by decide +kernel
theorem dX1_set_18 : decode cX1_set 18 = .ok (.ireturn, 1) := by decide +kernel
theorem dX1_setSort_0 : decode cX1_setSort 0 = .ok (.aload_n 0, 1) := by decide +kernel
theorem dX1_setSort_1 : decode cX1_setSort 1 = .ok (.iload_n 1, 1) := by decide +kernel
theorem dX1_setSort_2 : decode cX1_setSort 2 = .ok (.invokevirtual 47, 3) := by decide +kernel
theorem dX1_setSort_5 : decode cX1_setSort 5 = .ok (.ifCond .ne 5, 3) := by decide +kernel
theorem dX1_setSort_8 : decode cX1_setSort 8 = .ok (.iconst (-1), 1) := by decide +kernel
theorem dX1_setSort_9 : decode cX1_setSort 9 = .ok (.ireturn, 1) := by decide +kernel
theorem dX1_setSort_10 : decode cX1_setSort 10 = .ok (.aload_n 0, 1) := by decide +kernel
theorem dX1_setSort_11 : decode cX1_setSort 11 = .ok (.getfield 20, 3) := by decide +kernel
theorem dX1_setSort_14 : decode cX1_setSort 14 = .ok (.iload_n 1, 1) := by decide +kernel
theorem dX1_setSort_15 : decode cX1_setSort 15 = .ok (.iload_n 2, 1) := by decide +kernel
theorem dX1_setSort_16 : decode cX1_setSort 16 = .ok (.iconst 3, 1) := by decide +kernel
theorem dX1_setSort_17 : decode cX1_setSort 17 = .ok (.iand, 1) := by decide +kernel
theorem dX1_setSort_18 : decode cX1_setSort 18 = .ok (.iastore, 1) := by decide +kernel
theorem dX1_setSort_19 : decode cX1_setSort 19 = .ok (.iconst 0, 1) := by decide +kernel
theorem dX1_setSort_20 : decode cX1_setSort 20 = .ok (.ireturn, 1) := by decide +kernel
theorem dX1_turn_0 : decode cX1_turn 0 = .ok (.aload_n 0, 1) := by decide +kernel
theorem dX1_turn_1 : decode cX1_turn 1 = .ok (.iload_n 1, 1) := by decide +kernel
theorem dX1_turn_2 : decode cX1_turn 2 = .ok (.invokevirtual 47, 3) := by decide +kernel
theorem dX1_turn_5 : decode cX1_turn 5 = .ok (.ifCond .ne 5, 3) := by decide +kernel
theorem dX1_turn_8 : decode cX1_turn 8 = .ok (.iconst (-1), 1) := by decide +kernel
theorem dX1_turn_9 : decode cX1_turn 9 = .ok (.ireturn, 1) := by decide +kernel
theorem dX1_turn_10 : decode cX1_turn 10 = .ok (.aload_n 0, 1) := by decide +kernel
theorem dX1_turn_11 : decode cX1_turn 11 = .ok (.getfield 23, 3) := by decide +kernel
theorem dX1_turn_14 : decode cX1_turn 14 = .ok (.iload_n 1, 1) := by decide +kernel
theorem dX1_turn_15 : decode cX1_turn 15 = .ok (.iaload, 1) := by decide +kernel
theorem dX1_turn_16 : decode cX1_turn 16 = .ok (.istore_n 2, 1) := by decide +kernel
theorem dX1_turn_17 : decode cX1_turn 17 = .ok (.aload_n 0, 1) := by decide +kernel
theorem dX1_turn_18 : decode cX1_turn 18 = .ok (.getfield 23, 3) := by decide +kernel
theorem dX1_turn_21 : decode cX1_turn 21 = .ok (.iload_n 1, 1) := by decide +kernel
theorem dX1_turn_22 : decode cX1_turn 22 = .ok (.aload_n 0, 1) := by decide +kernel
theorem dX1_turn_23 : decode cX1_turn 23 = .ok (.getfield 26, 3) := by decide +kernel
theorem dX1_turn_26 : decode cX1_turn 26 = .ok (.iload_n 1, 1) := by decide +kernel
theorem dX1_turn_27 : decode cX1_turn 27 = .ok (.iaload, 1) := by decide +kernel
theorem dX1_turn_28 : decode cX1_turn 28 = .ok (.iastore, 1) := by decide +kernel
theorem dX1_turn_29 : decode cX1_turn 29 = .ok (.aload_n 0, 1) := by decide +kernel
theorem dX1_turn_30 : decode cX1_turn 30 = .ok (.getfield 26, 3) := by decide +kernel
theorem dX1_turn_33 : decode cX1_turn 33 = .ok (.iload_n 1, 1) := by decide +kernel
theorem dX1_turn_34 : decode cX1_turn 34 = .ok (.iload_n 2, 1) := by decide +kernel
theorem dX1_turn_35 : decode cX1_turn 35 = .ok (.iastore, 1) := by decide +kernel
theorem dX1_turn_36 : decode cX1_turn 36 = .ok (.iconst 0, 1) := by decide +kernel
theorem dX1_turn_37 : decode cX1_turn 37 = .ok (.ireturn, 1) := by decide +kernel
theorem dX1_value_0 : decode cX1_value 0 = .ok (.aload_n 0, 1) := by decide +kernel
theorem dX1_value_1 : decode cX1_value 1 = .ok (.iload_n 1, 1) := by decide +kernel
theorem dX1_value_2 : decode cX1_value 2 = .ok (.invokevirtual 35, 3) := by decide +kernel
theorem dX1_value_5 : decode cX1_value 5 = .ok (.ifCond .ne 13, 3) := by decide +kernel
theorem dX1_value_8 : decode cX1_value 8 = .ok (.aload_n 0, 1) := by decide +kernel
theorem dX1_value_9 : decode cX1_value 9 = .ok (.iload_n 1, 1) := by decide +kernel
theorem dX1_value_10 : decode cX1_value 10 = .ok (.invokevirtual 47, 3) := by decide +kernel
theorem dX1_value_13 : decode cX1_value 13 = .ok (.ifCond .ne 5, 3) := by decide +kernel
theorem dX1_value_16 : decode cX1_value 16 = .ok (.iconst 0, 1) := by decide +kernel
theorem dX1_value_17 : decode cX1_value 17 = .ok (.ireturn, 1) := by decide +kernel
theorem dX1_value_18 : decode cX1_value 18 = .ok (.aload_n 0, 1) := by decide +kernel
theorem dX1_value_19 : decode cX1_value 19 = .ok (.invokevirtual 54, 3) := by decide +kernel
theorem dX1_value_22 : decode cX1_value 22 = .ok (.aload_n 0, 1) := by decide +kernel
theorem dX1_value_23 : decode cX1_value 23 = .ok (.getfield 32, 3) := by decide +kernel
theorem dX1_value_26 : decode cX1_value 26 = .ok (.iload_n 1, 1) := by decide +kernel
theorem dX1_value_27 : decode cX1_value 27 = .ok (.iaload, 1) := by decide +kernel
theorem dX1_value_28 : decode cX1_value 28 = .ok (.ireturn, 1) := by decide +kernel
theorem dX1_evaluate_0 : decode cX1_evaluate 0 = .ok (.iconst 0, 1) := by decide +kernel
theorem dX1_evaluate_1 : decode cX1_evaluate 1 = .ok (.istore_n 1, 1) := by decide +kernel
theorem dX1_evaluate_2 : decode cX1_evaluate 2 = .ok (.iload_n 1, 1) := by decide +kernel
theorem dX1_evaluate_3 : decode cX1_evaluate 3 = .ok (.bipush 31, 2) := by decide +kernel
theorem dX1_evaluate_5 : decode cX1_evaluate 5 = .ok (.if_icmp .ge 50, 3) := by decide +kernel
theorem dX1_evaluate_8 : decode cX1_evaluate 8 = .ok (.aload_n 0, 1) := by decide +kernel
theorem dX1_evaluate_9 : decode cX1_evaluate 9 = .ok (.getfield 29, 3) := by decide +kernel
theorem dX1_evaluate_12 : decode cX1_evaluate 12 = .ok (.iload_n 1, 1) := by decide +kernel
theorem dX1_evaluate_13 : decode cX1_evaluate 13 = .ok (.aload_n 0, 1) := by decide +kernel
theorem dX1_evaluate_14 : decode cX1_evaluate 14 = .ok (.getfield 7, 3) := by decide +kernel
theorem dX1_evaluate_17 : decode cX1_evaluate 17 = .ok (.iload_n 1, 1) := by decide +kernel
theorem dX1_evaluate_18 : decode cX1_evaluate 18 = .ok (.baload, 1) := by decide +kernel
theorem dX1_evaluate_19 : decode cX1_evaluate 19 = .ok (.ifCond .eq 16, 3) := by decide +kernel
theorem dX1_evaluate_22 : decode cX1_evaluate 22 = .ok (.aload_n 0, 1) := by decide +kernel
theorem dX1_evaluate_23 : decode cX1_evaluate 23 = .ok (.getfield 13, 3) := by decide +kernel
theorem dX1_evaluate_26 : decode cX1_evaluate 26 = .ok (.iload_n 1, 1) := by decide +kernel
theorem dX1_evaluate_27 : decode cX1_evaluate 27 = .ok (.baload, 1) := by decide +kernel
theorem dX1_evaluate_28 : decode cX1_evaluate 28 = .ok (.ifCond .ne 7, 3) := by decide +kernel
theorem dX1_evaluate_31 : decode cX1_evaluate 31 = .ok (.iconst 1, 1) := by decide +kernel
theorem dX1_evaluate_32 : decode cX1_evaluate 32 = .ok (.goto 4, 3) := by decide +kernel
theorem dX1_evaluate_35 : decode cX1_evaluate 35 = .ok (.iconst 0, 1) := by decide +kernel
theorem dX1_evaluate_36 : decode cX1_evaluate 36 = .ok (.bastore, 1) := by decide +kernel
theorem dX1_evaluate_37 : decode cX1_evaluate 37 = .ok (.aload_n 0, 1) := by decide +kernel
theorem dX1_evaluate_38 : decode cX1_evaluate 38 = .ok (.getfield 32, 3) := by decide +kernel
theorem dX1_evaluate_41 : decode cX1_evaluate 41 = .ok (.iload_n 1, 1) := by decide +kernel
theorem dX1_evaluate_42 : decode cX1_evaluate 42 = .ok (.aload_n 0, 1) := by decide +kernel
theorem dX1_evaluate_43 : decode cX1_evaluate 43 = .ok (.getfield 16, 3) := by decide +kernel
theorem dX1_evaluate_46 : decode cX1_evaluate 46 = .ok (.iload_n 1, 1) := by decide +kernel
theorem dX1_evaluate_47 : decode cX1_evaluate 47 = .ok (.iaload, 1) := by decide +kernel
theorem dX1_evaluate_48 : decode cX1_evaluate 48 = .ok (.iastore, 1) := by decide +kernel
theorem dX1_evaluate_49 : decode cX1_evaluate 49 = .ok (.iinc 1 1, 3) := by decide +kernel
theorem dX1_evaluate_52 : decode cX1_evaluate 52 = .ok (.goto (-50), 3) := by decide +kernel
theorem dX1_evaluate_55 : decode cX1_evaluate 55 = .ok (.iconst 0, 1) := by decide +kernel
theorem dX1_evaluate_56 : decode cX1_evaluate 56 = .ok (.istore_n 1, 1) := by decide +kernel
theorem dX1_evaluate_57 : decode cX1_evaluate 57 = .ok (.iload_n 1, 1) := by decide +kernel
theorem dX1_evaluate_58 : decode cX1_evaluate 58 = .ok (.bipush 31, 2) := by decide +kernel
theorem dX1_evaluate_60 : decode cX1_evaluate 60 = .ok (.if_icmp .ge 113, 3) := by decide +kernel
theorem dX1_evaluate_63 : decode cX1_evaluate 63 = .ok (.iconst 0, 1) := by decide +kernel
theorem dX1_evaluate_64 : decode cX1_evaluate 64 = .ok (.istore_n 2, 1) := by decide +kernel
theorem dX1_evaluate_65 : decode cX1_evaluate 65 = .ok (.iload_n 2, 1) := by decide +kernel
theorem dX1_evaluate_66 : decode cX1_evaluate 66 = .ok (.bipush 31, 2) := by decide +kernel
theorem dX1_evaluate_68 : decode cX1_evaluate 68 = .ok (.if_icmp .ge 99, 3) := by decide +kernel
theorem dX1_evaluate_71 : decode cX1_evaluate 71 = .ok (.aload_n 0, 1) := by decide +kernel
theorem dX1_evaluate_72 : decode cX1_evaluate 72 = .ok (.getfield 7, 3) := by decide +kernel
theorem dX1_evaluate_75 : decode cX1_evaluate 75 = .ok (.iload_n 2, 1) := by decide +kernel
theorem dX1_evaluate_76 : decode cX1_evaluate 76 = .ok (.baload, 1) := by decide +kernel
theorem dX1_evaluate_77 : decode cX1_evaluate 77 = .ok (.ifCond .eq 84, 3) := by decide +kernel
theorem dX1_evaluate_80 : decode cX1_evaluate 80 = .ok (.aload_n 0, 1) := by decide +kernel
theorem dX1_evaluate_81 : decode cX1_evaluate 81 = .ok (.getfield 13, 3) := by decide +kernel
theorem dX1_evaluate_84 : decode cX1_evaluate 84 = .ok (.iload_n 2, 1) := by decide +kernel
theorem dX1_evaluate_85 : decode cX1_evaluate 85 = .ok (.baload, 1) := by decide +kernel
theorem dX1_evaluate_86 : decode cX1_evaluate 86 = .ok (.ifCond .eq 75, 3) := by decide +kernel
theorem dX1_evaluate_89 : decode cX1_evaluate 89 = .ok (.aload_n 0, 1) := by decide +kernel
theorem dX1_evaluate_90 : decode cX1_evaluate 90 = .ok (.getfield 29, 3) := by decide +kernel
theorem dX1_evaluate_93 : decode cX1_evaluate 93 = .ok (.aload_n 0, 1) := by decide +kernel
theorem dX1_evaluate_94 : decode cX1_evaluate 94 = .ok (.getfield 23, 3) := by decide +kernel
theorem dX1_evaluate_97 : decode cX1_evaluate 97 = .ok (.iload_n 2, 1) := by decide +kernel
theorem dX1_evaluate_98 : decode cX1_evaluate 98 = .ok (.iaload, 1) := by decide +kernel
theorem dX1_evaluate_99 : decode cX1_evaluate 99 = .ok (.baload, 1) := by decide +kernel
theorem dX1_evaluate_100 : decode cX1_evaluate 100 = .ok (.ifCond .eq 61, 3) := by decide +kernel
theorem dX1_evaluate_103 : decode cX1_evaluate 103 = .ok (.aload_n 0, 1) := by decide +kernel
theorem dX1_evaluate_104 : decode cX1_evaluate 104 = .ok (.getfield 29, 3) := by decide +kernel
theorem dX1_evaluate_107 : decode cX1_evaluate 107 = .ok (.aload_n 0, 1) := by decide +kernel
theorem dX1_evaluate_108 : decode cX1_evaluate 108 = .ok (.getfield 26, 3) := by decide +kernel
theorem dX1_evaluate_111 : decode cX1_evaluate 111 = .ok (.iload_n 2, 1) := by decide +kernel
theorem dX1_evaluate_112 : decode cX1_evaluate 112 = .ok (.iaload, 1) := by decide +kernel
theorem dX1_evaluate_113 : decode cX1_evaluate 113 = .ok (.baload, 1) := by decide +kernel
theorem dX1_evaluate_114 : decode cX1_evaluate 114 = .ok (.ifCond .eq 47, 3) := by decide +kernel
theorem dX1_evaluate_117 : decode cX1_evaluate 117 = .ok (.aload_n 0, 1) := by decide +kernel
theorem dX1_evaluate_118 : decode cX1_evaluate 118 = .ok (.getfield 32, 3) := by decide +kernel
theorem dX1_evaluate_121 : decode cX1_evaluate 121 = .ok (.iload_n 2, 1) := by decide +kernel
theorem dX1_evaluate_122 : decode cX1_evaluate 122 = .ok (.aload_n 0, 1) := by decide +kernel
theorem dX1_evaluate_123 : decode cX1_evaluate 123 = .ok (.getfield 20, 3) := by decide +kernel
theorem dX1_evaluate_126 : decode cX1_evaluate 126 = .ok (.iload_n 2, 1) := by decide +kernel
theorem dX1_evaluate_127 : decode cX1_evaluate 127 = .ok (.iaload, 1) := by decide +kernel
theorem dX1_evaluate_128 : decode cX1_evaluate 128 = .ok (.aload_n 0, 1) := by decide +kernel
theorem dX1_evaluate_129 : decode cX1_evaluate 129 = .ok (.getfield 32, 3) := by decide +kernel
theorem dX1_evaluate_132 : decode cX1_evaluate 132 = .ok (.aload_n 0, 1) := by decide +kernel
theorem dX1_evaluate_133 : decode cX1_evaluate 133 = .ok (.getfield 23, 3) := by decide +kernel
theorem dX1_evaluate_136 : decode cX1_evaluate 136 = .ok (.iload_n 2, 1) := by decide +kernel
theorem dX1_evaluate_137 : decode cX1_evaluate 137 = .ok (.iaload, 1) := by decide +kernel
theorem dX1_evaluate_138 : decode cX1_evaluate 138 = .ok (.iaload, 1) := by decide +kernel
theorem dX1_evaluate_139 : decode cX1_evaluate 139 = .ok (.aload_n 0, 1) := by decide +kernel
theorem dX1_evaluate_140 : decode cX1_evaluate 140 = .ok (.getfield 32, 3) := by decide +kernel
theorem dX1_evaluate_143 : decode cX1_evaluate 143 = .ok (.aload_n 0, 1) := by decide +kernel
theorem dX1_evaluate_144 : decode cX1_evaluate 144 = .ok (.getfield 26, 3) := by decide +kernel
theorem dX1_evaluate_147 : decode cX1_evaluate 147 = .ok (.iload_n 2, 1) := by decide +kernel
theorem dX1_evaluate_148 : decode cX1_evaluate 148 = .ok (.iaload, 1) := by decide +kernel
theorem dX1_evaluate_149 : decode cX1_evaluate 149 = .ok (.iaload, 1) := by decide +kernel
theorem dX1_evaluate_150 : decode cX1_evaluate 150 = .ok (.invokestatic 50, 3) := by decide +kernel
theorem dX1_evaluate_153 : decode cX1_evaluate 153 = .ok (.iastore, 1) := by decide +kernel
theorem dX1_evaluate_154 : decode cX1_evaluate 154 = .ok (.aload_n 0, 1) := by decide +kernel
theorem dX1_evaluate_155 : decode cX1_evaluate 155 = .ok (.getfield 29, 3) := by decide +kernel
theorem dX1_evaluate_158 : decode cX1_evaluate 158 = .ok (.iload_n 2, 1) := by decide +kernel
theorem dX1_evaluate_159 : decode cX1_evaluate 159 = .ok (.iconst 1, 1) := by decide +kernel
theorem dX1_evaluate_160 : decode cX1_evaluate 160 = .ok (.bastore, 1) := by decide +kernel
theorem dX1_evaluate_161 : decode cX1_evaluate 161 = .ok (.iinc 2 1, 3) := by decide +kernel
theorem dX1_evaluate_164 : decode cX1_evaluate 164 = .ok (.goto (-99), 3) := by decide +kernel
theorem dX1_evaluate_167 : decode cX1_evaluate 167 = .ok (.iinc 1 1, 3) := by decide +kernel
theorem dX1_evaluate_170 : decode cX1_evaluate 170 = .ok (.goto (-113), 3) := by decide +kernel
theorem dX1_evaluate_173 : decode cX1_evaluate 173 = .ok (.return_, 1) := by decide +kernel
theorem dX1_slope_0 : decode cX1_slope 0 = .ok (.aload_n 0, 1) := by decide +kernel
theorem dX1_slope_1 : decode cX1_slope 1 = .ok (.iload_n 1, 1) := by decide +kernel
theorem dX1_slope_2 : decode cX1_slope 2 = .ok (.invokevirtual 35, 3) := by decide +kernel
theorem dX1_slope_5 : decode cX1_slope 5 = .ok (.ifCond .ne 5, 3) := by decide +kernel
theorem dX1_slope_8 : decode cX1_slope 8 = .ok (.iconst 0, 1) := by decide +kernel
theorem dX1_slope_9 : decode cX1_slope 9 = .ok (.ireturn, 1) := by decide +kernel
theorem dX1_slope_10 : decode cX1_slope 10 = .ok (.aload_n 0, 1) := by decide +kernel
theorem dX1_slope_11 : decode cX1_slope 11 = .ok (.iconst 0, 1) := by decide +kernel
theorem dX1_slope_12 : decode cX1_slope 12 = .ok (.invokevirtual 57, 3) := by decide +kernel
theorem dX1_slope_15 : decode cX1_slope 15 = .ok (.istore_n 2, 1) := by decide +kernel
theorem dX1_slope_16 : decode cX1_slope 16 = .ok (.aload_n 0, 1) := by decide +kernel
theorem dX1_slope_17 : decode cX1_slope 17 = .ok (.getfield 16, 3) := by decide +kernel
theorem dX1_slope_20 : decode cX1_slope 20 = .ok (.iload_n 1, 1) := by decide +kernel
theorem dX1_slope_21 : decode cX1_slope 21 = .ok (.dup2, 1) := by decide +kernel
theorem dX1_slope_22 : decode cX1_slope 22 = .ok (.iaload, 1) := by decide +kernel
theorem dX1_slope_23 : decode cX1_slope 23 = .ok (.iconst 1, 1) := by decide +kernel
theorem dX1_slope_24 : decode cX1_slope 24 = .ok (.iadd, 1) := by decide +kernel
theorem dX1_slope_25 : decode cX1_slope 25 = .ok (.iastore, 1) := by decide +kernel
theorem dX1_slope_26 : decode cX1_slope 26 = .ok (.aload_n 0, 1) := by decide +kernel
theorem dX1_slope_27 : decode cX1_slope 27 = .ok (.iconst 0, 1) := by decide +kernel
theorem dX1_slope_28 : decode cX1_slope 28 = .ok (.invokevirtual 57, 3) := by decide +kernel
theorem dX1_slope_31 : decode cX1_slope 31 = .ok (.istore_n 3, 1) := by decide +kernel
theorem dX1_slope_32 : decode cX1_slope 32 = .ok (.aload_n 0, 1) := by decide +kernel
theorem dX1_slope_33 : decode cX1_slope 33 = .ok (.getfield 16, 3) := by decide +kernel
theorem dX1_slope_36 : decode cX1_slope 36 = .ok (.iload_n 1, 1) := by decide +kernel
theorem dX1_slope_37 : decode cX1_slope 37 = .ok (.dup2, 1) := by decide +kernel
theorem dX1_slope_38 : decode cX1_slope 38 = .ok (.iaload, 1) := by decide +kernel
theorem dX1_slope_39 : decode cX1_slope 39 = .ok (.iconst 1, 1) := by decide +kernel
theorem dX1_slope_40 : decode cX1_slope 40 = .ok (.isub, 1) := by decide +kernel
theorem dX1_slope_41 : decode cX1_slope 41 = .ok (.iastore, 1) := by decide +kernel
theorem dX1_slope_42 : decode cX1_slope 42 = .ok (.iload_n 3, 1) := by decide +kernel
theorem dX1_slope_43 : decode cX1_slope 43 = .ok (.iload_n 2, 1) := by decide +kernel
theorem dX1_slope_44 : decode cX1_slope 44 = .ok (.isub, 1) := by decide +kernel
theorem dX1_slope_45 : decode cX1_slope 45 = .ok (.ireturn, 1) := by decide +kernel
theorem dX1_left_0 : decode cX1_left 0 = .ok (.aload_n 0, 1) := by decide +kernel
theorem dX1_left_1 : decode cX1_left 1 = .ok (.iload_n 1, 1) := by decide +kernel
theorem dX1_left_2 : decode cX1_left 2 = .ok (.invokevirtual 47, 3) := by decide +kernel
theorem dX1_left_5 : decode cX1_left 5 = .ok (.ifCond .eq 12, 3) := by decide +kernel
theorem dX1_left_8 : decode cX1_left 8 = .ok (.aload_n 0, 1) := by decide +kernel
theorem dX1_left_9 : decode cX1_left 9 = .ok (.getfield 23, 3) := by decide +kernel
theorem dX1_left_12 : decode cX1_left 12 = .ok (.iload_n 1, 1) := by decide +kernel
theorem dX1_left_13 : decode cX1_left 13 = .ok (.iaload, 1) := by decide +kernel
theorem dX1_left_14 : decode cX1_left 14 = .ok (.goto 4, 3) := by decide +kernel
theorem dX1_left_17 : decode cX1_left 17 = .ok (.iconst (-1), 1) := by decide +kernel
theorem dX1_left_18 : decode cX1_left 18 = .ok (.ireturn, 1) := by decide +kernel
theorem dX1_right_0 : decode cX1_right 0 = .ok (.aload_n 0, 1) := by decide +kernel
theorem dX1_right_1 : decode cX1_right 1 = .ok (.iload_n 1, 1) := by decide +kernel
theorem dX1_right_2 : decode cX1_right 2 = .ok (.invokevirtual 47, 3) := by decide +kernel
theorem dX1_right_5 : decode cX1_right 5 = .ok (.ifCond .eq 12, 3) := by decide +kernel
theorem dX1_right_8 : decode cX1_right 8 = .ok (.aload_n 0, 1) := by decide +kernel
theorem dX1_right_9 : decode cX1_right 9 = .ok (.getfield 26, 3) := by decide +kernel
theorem dX1_right_12 : decode cX1_right 12 = .ok (.iload_n 1, 1) := by decide +kernel
theorem dX1_right_13 : decode cX1_right 13 = .ok (.iaload, 1) := by decide +kernel
theorem dX1_right_14 : decode cX1_right 14 = .ok (.goto 4, 3) := by decide +kernel
theorem dX1_right_17 : decode cX1_right 17 = .ok (.iconst (-1), 1) := by decide +kernel
theorem dX1_right_18 : decode cX1_right 18 = .ok (.ireturn, 1) := by decide +kernel
theorem dX1_joints_0 : decode cX1_joints 0 = .ok (.iconst 0, 1) := by decide +kernel
theorem dX1_joints_1 : decode cX1_joints 1 = .ok (.istore_n 1, 1) := by decide +kernel
theorem dX1_joints_2 : decode cX1_joints 2 = .ok (.iconst 0, 1) := by decide +kernel
theorem dX1_joints_3 : decode cX1_joints 3 = .ok (.istore_n 2, 1) := by decide +kernel
theorem dX1_joints_4 : decode cX1_joints 4 = .ok (.iload_n 2, 1) := by decide +kernel
theorem dX1_joints_5 : decode cX1_joints 5 = .ok (.bipush 31, 2) := by decide +kernel
theorem dX1_joints_7 : decode cX1_joints 7 = .ok (.if_icmp .ge 20, 3) := by decide +kernel
theorem dX1_joints_10 : decode cX1_joints 10 = .ok (.aload_n 0, 1) := by decide +kernel
theorem dX1_joints_11 : decode cX1_joints 11 = .ok (.iload_n 2, 1) := by decide +kernel
theorem dX1_joints_12 : decode cX1_joints 12 = .ok (.invokevirtual 47, 3) := by decide +kernel
theorem dX1_joints_15 : decode cX1_joints 15 = .ok (.ifCond .eq 6, 3) := by decide +kernel
theorem dX1_joints_18 : decode cX1_joints 18 = .ok (.iinc 1 1, 3) := by decide +kernel
theorem dX1_joints_21 : decode cX1_joints 21 = .ok (.iinc 2 1, 3) := by decide +kernel
theorem dX1_joints_24 : decode cX1_joints 24 = .ok (.goto (-20), 3) := by decide +kernel
theorem dX1_joints_27 : decode cX1_joints 27 = .ok (.iload_n 1, 1) := by decide +kernel
theorem dX1_joints_28 : decode cX1_joints 28 = .ok (.ireturn, 1) := by decide +kernel
end
section
/-! java/lang/Object -/
set_option maxRecDepth 100000
def RJ0 : String := "java/lang/Object"
abbrev cJ0_init : ByteArray := object_method_1_code
def yJ0_init : MethodName := ⟨RJ0, "<init>", "()V"⟩
theorem dJ0_init_0 : decode cJ0_init 0 = .ok (.return_, 1) := by decide +kernel
theorem q27 : (Jvm.Cond.instanceMethod ({ cls := "java/lang/Object", name := "<init>", desc := "()V" } : Jvm.MethodName)) ∈ lw_all := lw_g (lw_at lw_m1 9 rfl) rfl
theorem q28 : (Jvm.Cond.code ({ cls := "java/lang/Object", name := "<init>", desc := "()V" } : Jvm.MethodName) object_method_1_code (1 : Nat) (Option.none : Option Jvm.ClassFile.FieldType)) ∈ lw_all := lw_g (lw_at lw_m1 10 rfl) rfl
theorem q129 : (Jvm.Cond.arrayClass Jvm.ClassFile.FieldType.int) ∈ lw_all := lw_g (lw_at lw_m1 111 rfl) rfl
set_option maxRecDepth 100000
theorem q130 : (Jvm.Cond.arrayClass Jvm.ClassFile.FieldType.boolean) ∈ lw_all := lw_g (lw_at lw_m1 112 rfl) rfl
theorem q18 : (Jvm.Cond.initialized "TreeContractLaw") ∈ lw_all := lw_g (lw_at lw_m1 0 rfl) rfl
set_option maxRecDepth 100000
theorem q21 : (Jvm.Cond.classLink "TreeContractLaw" (7 : Nat) "TreeContract") ∈ lw_all := lw_g (lw_at lw_m1 3 rfl) rfl
theorem q23 : (Jvm.Cond.methodLink "TreeContractLaw" (9 : Nat) ({ cls := "TreeContract", name := "<init>", desc := "()V" } : Jvm.MethodName)) ∈ lw_all := lw_g (lw_at lw_m1 5 rfl) rfl
theorem q131 : (Jvm.Cond.methodLink "TreeContractLaw" (13 : Nat) ({ cls := "TreeContract", name := "grow", desc := "(IIII)I" } : Jvm.MethodName)) ∈ lw_all := lw_g (lw_at lw_m1 113 rfl) rfl
theorem q147 : (Jvm.Cond.methodLink "TreeContractLaw" (18 : Nat) ({ cls := "TreeContract", name := "shrink", desc := "(I)I" } : Jvm.MethodName)) ∈ lw_all := lw_g (lw_at lw_m1 129 rfl) rfl
theorem q154 : (Jvm.Cond.methodLink "TreeContractLaw" (23 : Nat) ({ cls := "TreeContract", name := "set", desc := "(II)I" } : Jvm.MethodName)) ∈ lw_all := lw_g (lw_at lw_m1 136 rfl) rfl
theorem q174 : (Jvm.Cond.methodLink "TreeContractLaw" (28 : Nat) ({ cls := "TreeContract", name := "setSort", desc := "(II)I" } : Jvm.MethodName)) ∈ lw_all := lw_g (lw_at lw_m1 156 rfl) rfl
theorem q178 : (Jvm.Cond.methodLink "TreeContractLaw" (32 : Nat) ({ cls := "TreeContract", name := "turn", desc := "(I)I" } : Jvm.MethodName)) ∈ lw_all := lw_g (lw_at lw_m1 160 rfl) rfl
theorem q182 : (Jvm.Cond.methodLink "TreeContractLaw" (36 : Nat) ({ cls := "TreeContract", name := "value", desc := "(I)I" } : Jvm.MethodName)) ∈ lw_all := lw_g (lw_at lw_m1 164 rfl) rfl
theorem q206 : (Jvm.Cond.methodLink "TreeContractLaw" (40 : Nat) ({ cls := "TreeContract", name := "slope", desc := "(I)I" } : Jvm.MethodName)) ∈ lw_all := lw_g (lw_at lw_m1 188 rfl) rfl
theorem q214 : (Jvm.Cond.methodLink "TreeContractLaw" (44 : Nat) ({ cls := "TreeContract", name := "left", desc := "(I)I" } : Jvm.MethodName)) ∈ lw_all := lw_g (lw_at lw_m1 196 rfl) rfl
theorem q218 : (Jvm.Cond.methodLink "TreeContractLaw" (48 : Nat) ({ cls := "TreeContract", name := "right", desc := "(I)I" } : Jvm.MethodName)) ∈ lw_all := lw_g (lw_at lw_m1 200 rfl) rfl
theorem q222 : (Jvm.Cond.methodLink "TreeContractLaw" (52 : Nat) ({ cls := "TreeContract", name := "joints", desc := "()I" } : Jvm.MethodName)) ∈ lw_all := lw_g (lw_at lw_m1 204 rfl) rfl
theorem q226 : (Jvm.Cond.classLink "TreeContractLaw" (10 : Nat) "TreeContractModel") ∈ lw_all := lw_g (lw_at lw_m1 208 rfl) rfl
theorem q228 : (Jvm.Cond.methodLink "TreeContractLaw" (12 : Nat) ({ cls := "TreeContractModel", name := "<init>", desc := "()V" } : Jvm.MethodName)) ∈ lw_all := lw_g (lw_at lw_m1 210 rfl) rfl
theorem q257 : (Jvm.Cond.methodLink "TreeContractLaw" (17 : Nat) ({ cls := "TreeContractModel", name := "grow", desc := "(IIII)I" } : Jvm.MethodName)) ∈ lw_all := lw_g (lw_at lw_m1 239 rfl) rfl
theorem q273 : (Jvm.Cond.methodLink "TreeContractLaw" (22 : Nat) ({ cls := "TreeContractModel", name := "shrink", desc := "(I)I" } : Jvm.MethodName)) ∈ lw_all := lw_g (lw_at lw_m2 15 rfl) rfl
theorem q284 : (Jvm.Cond.methodLink "TreeContractLaw" (27 : Nat) ({ cls := "TreeContractModel", name := "set", desc := "(II)I" } : Jvm.MethodName)) ∈ lw_all := lw_g (lw_at lw_m2 26 rfl) rfl
theorem q288 : (Jvm.Cond.methodLink "TreeContractLaw" (31 : Nat) ({ cls := "TreeContractModel", name := "setSort", desc := "(II)I" } : Jvm.MethodName)) ∈ lw_all := lw_g (lw_at lw_m2 30 rfl) rfl
theorem q292 : (Jvm.Cond.methodLink "TreeContractLaw" (35 : Nat) ({ cls := "TreeContractModel", name := "turn", desc := "(I)I" } : Jvm.MethodName)) ∈ lw_all := lw_g (lw_at lw_m2 34 rfl) rfl
theorem q296 : (Jvm.Cond.methodLink "TreeContractLaw" (39 : Nat) ({ cls := "TreeContractModel", name := "value", desc := "(I)I" } : Jvm.MethodName)) ∈ lw_all := lw_g (lw_at lw_m2 38 rfl) rfl
theorem q304 : (Jvm.Cond.methodLink "TreeContractLaw" (43 : Nat) ({ cls := "TreeContractModel", name := "slope", desc := "(I)I" } : Jvm.MethodName)) ∈ lw_all := lw_g (lw_at lw_m2 46 rfl) rfl
theorem q309 : (Jvm.Cond.methodLink "TreeContractLaw" (47 : Nat) ({ cls := "TreeContractModel", name := "left", desc := "(I)I" } : Jvm.MethodName)) ∈ lw_all := lw_g (lw_at lw_m2 51 rfl) rfl
theorem q313 : (Jvm.Cond.methodLink "TreeContractLaw" (51 : Nat) ({ cls := "TreeContractModel", name := "right", desc := "(I)I" } : Jvm.MethodName)) ∈ lw_all := lw_g (lw_at lw_m2 55 rfl) rfl
theorem q317 : (Jvm.Cond.methodLink "TreeContractLaw" (56 : Nat) ({ cls := "TreeContractModel", name := "joints", desc := "()I" } : Jvm.MethodName)) ∈ lw_all := lw_g (lw_at lw_m2 59 rfl) rfl
/-! the law's own entry -/
set_option maxRecDepth 100000
abbrev cL_law : ByteArray := code
theorem dL_law_0 : decode cL_law 0 = .ok (.new 7, 3) := by decide +kernel
theorem dL_law_3 : decode cL_law 3 = .ok (.dup, 1) := by decide +kernel
theorem dL_law_4 : decode cL_law 4 = .ok (.invokespecial 9, 3) := by decide +kernel
theorem dL_law_7 : decode cL_law 7 = .ok (.astore_n 1, 1) := by decide +kernel
theorem dL_law_8 : decode cL_law 8 = .ok (.new 10, 3) := by decide +kernel
theorem dL_law_11 : decode cL_law 11 = .ok (.dup, 1) := by decide +kernel
theorem dL_law_12 : decode cL_law 12 = .ok (.invokespecial 12, 3) := by decide +kernel
theorem dL_law_15 : decode cL_law 15 = .ok (.astore_n 2, 1) := by decide +kernel
theorem dL_law_16 : decode cL_law 16 = .ok (.iconst 0, 1) := by decide +kernel
theorem dL_law_17 : decode cL_law 17 = .ok (.istore_n 3, 1) := by decide +kernel
theorem dL_law_18 : decode cL_law 18 = .ok (.iload_n 3, 1) := by decide +kernel
theorem dL_law_19 : decode cL_law 19 = .ok (.aload_n 0, 1) := by decide +kernel
theorem dL_law_20 : decode cL_law 20 = .ok (.arraylength, 1) := by decide +kernel
theorem dL_law_21 : decode cL_law 21 = .ok (.iconst 5, 1) := by decide +kernel
theorem dL_law_22 : decode cL_law 22 = .ok (.isub, 1) := by decide +kernel
theorem dL_law_23 : decode cL_law 23 = .ok (.if_icmp .gt 341, 3) := by decide +kernel
theorem dL_law_26 : decode cL_law 26 = .ok (.aload_n 0, 1) := by decide +kernel
theorem dL_law_27 : decode cL_law 27 = .ok (.iload_n 3, 1) := by decide +kernel
theorem dL_law_28 : decode cL_law 28 = .ok (.iaload, 1) := by decide +kernel
theorem dL_law_29 : decode cL_law 29 = .ok (.bipush 15, 2) := by decide +kernel
theorem dL_law_31 : decode cL_law 31 = .ok (.iand, 1) := by decide +kernel
theorem dL_law_32 : decode cL_law 32 = .ok (.tableswitch 326 0 9 #[56, 109, 132, 165, 198, 221, 244, 267, 290, 313], 56) := by decide +kernel
theorem dL_law_88 : decode cL_law 88 = .ok (.aload_n 1, 1) := by decide +kernel
theorem dL_law_89 : decode cL_law 89 = .ok (.aload_n 0, 1) := by decide +kernel
theorem dL_law_90 : decode cL_law 90 = .ok (.iload_n 3, 1) := by decide +kernel
theorem dL_law_91 : decode cL_law 91 = .ok (.iconst 1, 1) := by decide +kernel
theorem dL_law_92 : decode cL_law 92 = .ok (.iadd, 1) := by decide +kernel
theorem dL_law_93 : decode cL_law 93 = .ok (.iaload, 1) := by decide +kernel
theorem dL_law_94 : decode cL_law 94 = .ok (.aload_n 0, 1) := by decide +kernel
theorem dL_law_95 : decode cL_law 95 = .ok (.iload_n 3, 1) := by decide +kernel
theorem dL_law_96 : decode cL_law 96 = .ok (.iconst 2, 1) := by decide +kernel
theorem dL_law_97 : decode cL_law 97 = .ok (.iadd, 1) := by decide +kernel
theorem dL_law_98 : decode cL_law 98 = .ok (.iaload, 1) := by decide +kernel
theorem dL_law_99 : decode cL_law 99 = .ok (.aload_n 0, 1) := by decide +kernel
theorem dL_law_100 : decode cL_law 100 = .ok (.iload_n 3, 1) := by decide +kernel
theorem dL_law_101 : decode cL_law 101 = .ok (.iconst 3, 1) := by decide +kernel
theorem dL_law_102 : decode cL_law 102 = .ok (.iadd, 1) := by decide +kernel
theorem dL_law_103 : decode cL_law 103 = .ok (.iaload, 1) := by decide +kernel
theorem dL_law_104 : decode cL_law 104 = .ok (.aload_n 0, 1) := by decide +kernel
theorem dL_law_105 : decode cL_law 105 = .ok (.iload_n 3, 1) := by decide +kernel
theorem dL_law_106 : decode cL_law 106 = .ok (.iconst 4, 1) := by decide +kernel
theorem dL_law_107 : decode cL_law 107 = .ok (.iadd, 1) := by decide +kernel
theorem dL_law_108 : decode cL_law 108 = .ok (.iaload, 1) := by decide +kernel
theorem dL_law_109 : decode cL_law 109 = .ok (.invokevirtual 13, 3) := by decide +kernel
theorem dL_law_112 : decode cL_law 112 = .ok (.aload_n 2, 1) := by decide +kernel
theorem dL_law_113 : decode cL_law 113 = .ok (.aload_n 0, 1) := by decide +kernel
theorem dL_law_114 : decode cL_law 114 = .ok (.iload_n 3, 1) := by decide +kernel
theorem dL_law_115 : decode cL_law 115 = .ok (.iconst 1, 1) := by decide +kernel
theorem dL_law_116 : decode cL_law 116 = .ok (.iadd, 1) := by decide +kernel
theorem dL_law_117 : decode cL_law 117 = .ok (.iaload, 1) := by decide +kernel
theorem dL_law_118 : decode cL_law 118 = .ok (.aload_n 0, 1) := by decide +kernel
theorem dL_law_119 : decode cL_law 119 = .ok (.iload_n 3, 1) := by decide +kernel
theorem dL_law_120 : decode cL_law 120 = .ok (.iconst 2, 1) := by decide +kernel
theorem dL_law_121 : decode cL_law 121 = .ok (.iadd, 1) := by decide +kernel
theorem dL_law_122 : decode cL_law 122 = .ok (.iaload, 1) := by decide +kernel
theorem dL_law_123 : decode cL_law 123 = .ok (.aload_n 0, 1) := by decide +kernel
theorem dL_law_124 : decode cL_law 124 = .ok (.iload_n 3, 1) := by decide +kernel
theorem dL_law_125 : decode cL_law 125 = .ok (.iconst 3, 1) := by decide +kernel
theorem dL_law_126 : decode cL_law 126 = .ok (.iadd, 1) := by decide +kernel
theorem dL_law_127 : decode cL_law 127 = .ok (.iaload, 1) := by decide +kernel
theorem dL_law_128 : decode cL_law 128 = .ok (.aload_n 0, 1) := by decide +kernel
theorem dL_law_129 : decode cL_law 129 = .ok (.iload_n 3, 1) := by decide +kernel
theorem dL_law_130 : decode cL_law 130 = .ok (.iconst 4, 1) := by decide +kernel
theorem dL_law_131 : decode cL_law 131 = .ok (.iadd, 1) := by decide +kernel
theorem dL_law_132 : decode cL_law 132 = .ok (.iaload, 1) := by decide +kernel
theorem dL_law_133 : decode cL_law 133 = .ok (.invokevirtual 17, 3) := by decide +kernel
theorem dL_law_136 : decode cL_law 136 = .ok (.if_icmp .eq 222, 3) := by decide +kernel
theorem dL_law_139 : decode cL_law 139 = .ok (.iconst 0, 1) := by decide +kernel
theorem dL_law_140 : decode cL_law 140 = .ok (.ireturn, 1) := by decide +kernel
theorem dL_law_141 : decode cL_law 141 = .ok (.aload_n 1, 1) := by decide +kernel
theorem dL_law_142 : decode cL_law 142 = .ok (.aload_n 0, 1) := by decide +kernel
theorem dL_law_143 : decode cL_law 143 = .ok (.iload_n 3, 1) := by decide +kernel
theorem dL_law_144 : decode cL_law 144 = .ok (.iconst 1, 1) := by decide +kernel
theorem dL_law_145 : decode cL_law 145 = .ok (.iadd, 1) := by decide +kernel
theorem dL_law_146 : decode cL_law 146 = .ok (.iaload, 1) := by decide +kernel
theorem dL_law_147 : decode cL_law 147 = .ok (.invokevirtual 18, 3) := by decide +kernel
theorem dL_law_150 : decode cL_law 150 = .ok (.aload_n 2, 1) := by decide +kernel
theorem dL_law_151 : decode cL_law 151 = .ok (.aload_n 0, 1) := by decide +kernel
theorem dL_law_152 : decode cL_law 152 = .ok (.iload_n 3, 1) := by decide +kernel
theorem dL_law_153 : decode cL_law 153 = .ok (.iconst 1, 1) := by decide +kernel
theorem dL_law_154 : decode cL_law 154 = .ok (.iadd, 1) := by decide +kernel
theorem dL_law_155 : decode cL_law 155 = .ok (.iaload, 1) := by decide +kernel
theorem dL_law_156 : decode cL_law 156 = .ok (.invokevirtual 22, 3) := by decide +kernel
theorem dL_law_159 : decode cL_law 159 = .ok (.if_icmp .eq 199, 3) := by decide +kernel
theorem dL_law_162 : decode cL_law 162 = .ok (.iconst 0, 1) := by decide +kernel
theorem dL_law_163 : decode cL_law 163 = .ok (.ireturn, 1) := by decide +kernel
theorem dL_law_164 : decode cL_law 164 = .ok (.aload_n 1, 1) := by decide +kernel
theorem dL_law_165 : decode cL_law 165 = .ok (.aload_n 0, 1) := by decide +kernel
theorem dL_law_166 : decode cL_law 166 = .ok (.iload_n 3, 1) := by decide +kernel
theorem dL_law_167 : decode cL_law 167 = .ok (.iconst 1, 1) := by decide +kernel
theorem dL_law_168 : decode cL_law 168 = .ok (.iadd, 1) := by decide +kernel
theorem dL_law_169 : decode cL_law 169 = .ok (.iaload, 1) := by decide +kernel
theorem dL_law_170 : decode cL_law 170 = .ok (.aload_n 0, 1) := by decide +kernel
theorem dL_law_171 : decode cL_law 171 = .ok (.iload_n 3, 1) := by decide +kernel
theorem dL_law_172 : decode cL_law 172 = .ok (.iconst 2, 1) := by decide +kernel
theorem dL_law_173 : decode cL_law 173 = .ok (.iadd, 1) := by decide +kernel
theorem dL_law_174 : decode cL_law 174 = .ok (.iaload, 1) := by decide +kernel
theorem dL_law_175 : decode cL_law 175 = .ok (.invokevirtual 23, 3) := by decide +kernel
theorem dL_law_178 : decode cL_law 178 = .ok (.aload_n 2, 1) := by decide +kernel
theorem dL_law_179 : decode cL_law 179 = .ok (.aload_n 0, 1) := by decide +kernel
theorem dL_law_180 : decode cL_law 180 = .ok (.iload_n 3, 1) := by decide +kernel
theorem dL_law_181 : decode cL_law 181 = .ok (.iconst 1, 1) := by decide +kernel
theorem dL_law_182 : decode cL_law 182 = .ok (.iadd, 1) := by decide +kernel
theorem dL_law_183 : decode cL_law 183 = .ok (.iaload, 1) := by decide +kernel
theorem dL_law_184 : decode cL_law 184 = .ok (.aload_n 0, 1) := by decide +kernel
theorem dL_law_185 : decode cL_law 185 = .ok (.iload_n 3, 1) := by decide +kernel
theorem dL_law_186 : decode cL_law 186 = .ok (.iconst 2, 1) := by decide +kernel
theorem dL_law_187 : decode cL_law 187 = .ok (.iadd, 1) := by decide +kernel
theorem dL_law_188 : decode cL_law 188 = .ok (.iaload, 1) := by decide +kernel
theorem dL_law_189 : decode cL_law 189 = .ok (.invokevirtual 27, 3) := by decide +kernel
theorem dL_law_192 : decode cL_law 192 = .ok (.if_icmp .eq 166, 3) := by decide +kernel
theorem dL_law_195 : decode cL_law 195 = .ok (.iconst 0, 1) := by decide +kernel
theorem dL_law_196 : decode cL_law 196 = .ok (.ireturn, 1) := by decide +kernel
theorem dL_law_197 : decode cL_law 197 = .ok (.aload_n 1, 1) := by decide +kernel
theorem dL_law_198 : decode cL_law 198 = .ok (.aload_n 0, 1) := by decide +kernel
theorem dL_law_199 : decode cL_law 199 = .ok (.iload_n 3, 1) := by decide +kernel
theorem dL_law_200 : decode cL_law 200 = .ok (.iconst 1, 1) := by decide +kernel
theorem dL_law_201 : decode cL_law 201 = .ok (.iadd, 1) := by decide +kernel
theorem dL_law_202 : decode cL_law 202 = .ok (.iaload, 1) := by decide +kernel
theorem dL_law_203 : decode cL_law 203 = .ok (.aload_n 0, 1) := by decide +kernel
theorem dL_law_204 : decode cL_law 204 = .ok (.iload_n 3, 1) := by decide +kernel
theorem dL_law_205 : decode cL_law 205 = .ok (.iconst 2, 1) := by decide +kernel
theorem dL_law_206 : decode cL_law 206 = .ok (.iadd, 1) := by decide +kernel
theorem dL_law_207 : decode cL_law 207 = .ok (.iaload, 1) := by decide +kernel
theorem dL_law_208 : decode cL_law 208 = .ok (.invokevirtual 28, 3) := by decide +kernel
theorem dL_law_211 : decode cL_law 211 = .ok (.aload_n 2, 1) := by decide +kernel
theorem dL_law_212 : decode cL_law 212 = .ok (.aload_n 0, 1) := by decide +kernel
theorem dL_law_213 : decode cL_law 213 = .ok (.iload_n 3, 1) := by decide +kernel
theorem dL_law_214 : decode cL_law 214 = .ok (.iconst 1, 1) := by decide +kernel
theorem dL_law_215 : decode cL_law 215 = .ok (.iadd, 1) := by decide +kernel
theorem dL_law_216 : decode cL_law 216 = .ok (.iaload, 1) := by decide +kernel
theorem dL_law_217 : decode cL_law 217 = .ok (.aload_n 0, 1) := by decide +kernel
theorem dL_law_218 : decode cL_law 218 = .ok (.iload_n 3, 1) := by decide +kernel
theorem dL_law_219 : decode cL_law 219 = .ok (.iconst 2, 1) := by decide +kernel
theorem dL_law_220 : decode cL_law 220 = .ok (.iadd, 1) := by decide +kernel
theorem dL_law_221 : decode cL_law 221 = .ok (.iaload, 1) := by decide +kernel
theorem dL_law_222 : decode cL_law 222 = .ok (.invokevirtual 31, 3) := by decide +kernel
theorem dL_law_225 : decode cL_law 225 = .ok (.if_icmp .eq 133, 3) := by decide +kernel
theorem dL_law_228 : decode cL_law 228 = .ok (.iconst 0, 1) := by decide +kernel
theorem dL_law_229 : decode cL_law 229 = .ok (.ireturn, 1) := by decide +kernel
theorem dL_law_230 : decode cL_law 230 = .ok (.aload_n 1, 1) := by decide +kernel
theorem dL_law_231 : decode cL_law 231 = .ok (.aload_n 0, 1) := by decide +kernel
theorem dL_law_232 : decode cL_law 232 = .ok (.iload_n 3, 1) := by decide +kernel
theorem dL_law_233 : decode cL_law 233 = .ok (.iconst 1, 1) := by decide +kernel
theorem dL_law_234 : decode cL_law 234 = .ok (.iadd, 1) := by decide +kernel
theorem dL_law_235 : decode cL_law 235 = .ok (.iaload, 1) := by decide +kernel
theorem dL_law_236 : decode cL_law 236 = .ok (.invokevirtual 32, 3) := by decide +kernel
theorem dL_law_239 : decode cL_law 239 = .ok (.aload_n 2, 1) := by decide +kernel
theorem dL_law_240 : decode cL_law 240 = .ok (.aload_n 0, 1) := by decide +kernel
theorem dL_law_241 : decode cL_law 241 = .ok (.iload_n 3, 1) := by decide +kernel
theorem dL_law_242 : decode cL_law 242 = .ok (.iconst 1, 1) := by decide +kernel
theorem dL_law_243 : decode cL_law 243 = .ok (.iadd, 1) := by decide +kernel
theorem dL_law_244 : decode cL_law 244 = .ok (.iaload, 1) := by decide +kernel
theorem dL_law_245 : decode cL_law 245 = .ok (.invokevirtual 35, 3) := by decide +kernel
theorem dL_law_248 : decode cL_law 248 = .ok (.if_icmp .eq 110, 3) := by decide +kernel
theorem dL_law_251 : decode cL_law 251 = .ok (.iconst 0, 1) := by decide +kernel
theorem dL_law_252 : decode cL_law 252 = .ok (.ireturn, 1) := by decide +kernel
theorem dL_law_253 : decode cL_law 253 = .ok (.aload_n 1, 1) := by decide +kernel
theorem dL_law_254 : decode cL_law 254 = .ok (.aload_n 0, 1) := by decide +kernel
theorem dL_law_255 : decode cL_law 255 = .ok (.iload_n 3, 1) := by decide +kernel
theorem dL_law_256 : decode cL_law 256 = .ok (.iconst 1, 1) := by decide +kernel
theorem dL_law_257 : decode cL_law 257 = .ok (.iadd, 1) := by decide +kernel
theorem dL_law_258 : decode cL_law 258 = .ok (.iaload, 1) := by decide +kernel
theorem dL_law_259 : decode cL_law 259 = .ok (.invokevirtual 36, 3) := by decide +kernel
theorem dL_law_262 : decode cL_law 262 = .ok (.aload_n 2, 1) := by decide +kernel
theorem dL_law_263 : decode cL_law 263 = .ok (.aload_n 0, 1) := by decide +kernel
theorem dL_law_264 : decode cL_law 264 = .ok (.iload_n 3, 1) := by decide +kernel
theorem dL_law_265 : decode cL_law 265 = .ok (.iconst 1, 1) := by decide +kernel
theorem dL_law_266 : decode cL_law 266 = .ok (.iadd, 1) := by decide +kernel
theorem dL_law_267 : decode cL_law 267 = .ok (.iaload, 1) := by decide +kernel
theorem dL_law_268 : decode cL_law 268 = .ok (.invokevirtual 39, 3) := by decide +kernel
theorem dL_law_271 : decode cL_law 271 = .ok (.if_icmp .eq 87, 3) := by decide +kernel
theorem dL_law_274 : decode cL_law 274 = .ok (.iconst 0, 1) := by decide +kernel
theorem dL_law_275 : decode cL_law 275 = .ok (.ireturn, 1) := by decide +kernel
theorem dL_law_276 : decode cL_law 276 = .ok (.aload_n 1, 1) := by decide +kernel
theorem dL_law_277 : decode cL_law 277 = .ok (.aload_n 0, 1) := by decide +kernel
theorem dL_law_278 : decode cL_law 278 = .ok (.iload_n 3, 1) := by decide +kernel
theorem dL_law_279 : decode cL_law 279 = .ok (.iconst 1, 1) := by decide +kernel
theorem dL_law_280 : decode cL_law 280 = .ok (.iadd, 1) := by decide +kernel
theorem dL_law_281 : decode cL_law 281 = .ok (.iaload, 1) := by decide +kernel
theorem dL_law_282 : decode cL_law 282 = .ok (.invokevirtual 40, 3) := by decide +kernel
theorem dL_law_285 : decode cL_law 285 = .ok (.aload_n 2, 1) := by decide +kernel
theorem dL_law_286 : decode cL_law 286 = .ok (.aload_n 0, 1) := by decide +kernel
theorem dL_law_287 : decode cL_law 287 = .ok (.iload_n 3, 1) := by decide +kernel
theorem dL_law_288 : decode cL_law 288 = .ok (.iconst 1, 1) := by decide +kernel
theorem dL_law_289 : decode cL_law 289 = .ok (.iadd, 1) := by decide +kernel
theorem dL_law_290 : decode cL_law 290 = .ok (.iaload, 1) := by decide +kernel
theorem dL_law_291 : decode cL_law 291 = .ok (.invokevirtual 43, 3) := by decide +kernel
theorem dL_law_294 : decode cL_law 294 = .ok (.if_icmp .eq 64, 3) := by decide +kernel
theorem dL_law_297 : decode cL_law 297 = .ok (.iconst 0, 1) := by decide +kernel
theorem dL_law_298 : decode cL_law 298 = .ok (.ireturn, 1) := by decide +kernel
theorem dL_law_299 : decode cL_law 299 = .ok (.aload_n 1, 1) := by decide +kernel
theorem dL_law_300 : decode cL_law 300 = .ok (.aload_n 0, 1) := by decide +kernel
theorem dL_law_301 : decode cL_law 301 = .ok (.iload_n 3, 1) := by decide +kernel
theorem dL_law_302 : decode cL_law 302 = .ok (.iconst 1, 1) := by decide +kernel
theorem dL_law_303 : decode cL_law 303 = .ok (.iadd, 1) := by decide +kernel
theorem dL_law_304 : decode cL_law 304 = .ok (.iaload, 1) := by decide +kernel
theorem dL_law_305 : decode cL_law 305 = .ok (.invokevirtual 44, 3) := by decide +kernel
theorem dL_law_308 : decode cL_law 308 = .ok (.aload_n 2, 1) := by decide +kernel
theorem dL_law_309 : decode cL_law 309 = .ok (.aload_n 0, 1) := by decide +kernel
theorem dL_law_310 : decode cL_law 310 = .ok (.iload_n 3, 1) := by decide +kernel
theorem dL_law_311 : decode cL_law 311 = .ok (.iconst 1, 1) := by decide +kernel
theorem dL_law_312 : decode cL_law 312 = .ok (.iadd, 1) := by decide +kernel
theorem dL_law_313 : decode cL_law 313 = .ok (.iaload, 1) := by decide +kernel
theorem dL_law_314 : decode cL_law 314 = .ok (.invokevirtual 47, 3) := by decide +kernel
theorem dL_law_317 : decode cL_law 317 = .ok (.if_icmp .eq 41, 3) := by decide +kernel
theorem dL_law_320 : decode cL_law 320 = .ok (.iconst 0, 1) := by decide +kernel
theorem dL_law_321 : decode cL_law 321 = .ok (.ireturn, 1) := by decide +kernel
theorem dL_law_322 : decode cL_law 322 = .ok (.aload_n 1, 1) := by decide +kernel
theorem dL_law_323 : decode cL_law 323 = .ok (.aload_n 0, 1) := by decide +kernel
theorem dL_law_324 : decode cL_law 324 = .ok (.iload_n 3, 1) := by decide +kernel
theorem dL_law_325 : decode cL_law 325 = .ok (.iconst 1, 1) := by decide +kernel
theorem dL_law_326 : decode cL_law 326 = .ok (.iadd, 1) := by decide +kernel
theorem dL_law_327 : decode cL_law 327 = .ok (.iaload, 1) := by decide +kernel
theorem dL_law_328 : decode cL_law 328 = .ok (.invokevirtual 48, 3) := by decide +kernel
theorem dL_law_331 : decode cL_law 331 = .ok (.aload_n 2, 1) := by decide +kernel
theorem dL_law_332 : decode cL_law 332 = .ok (.aload_n 0, 1) := by decide +kernel
theorem dL_law_333 : decode cL_law 333 = .ok (.iload_n 3, 1) := by decide +kernel
theorem dL_law_334 : decode cL_law 334 = .ok (.iconst 1, 1) := by decide +kernel
theorem dL_law_335 : decode cL_law 335 = .ok (.iadd, 1) := by decide +kernel
theorem dL_law_336 : decode cL_law 336 = .ok (.iaload, 1) := by decide +kernel
theorem dL_law_337 : decode cL_law 337 = .ok (.invokevirtual 51, 3) := by decide +kernel
theorem dL_law_340 : decode cL_law 340 = .ok (.if_icmp .eq 18, 3) := by decide +kernel
theorem dL_law_343 : decode cL_law 343 = .ok (.iconst 0, 1) := by decide +kernel
theorem dL_law_344 : decode cL_law 344 = .ok (.ireturn, 1) := by decide +kernel
theorem dL_law_345 : decode cL_law 345 = .ok (.aload_n 1, 1) := by decide +kernel
theorem dL_law_346 : decode cL_law 346 = .ok (.invokevirtual 52, 3) := by decide +kernel
theorem dL_law_349 : decode cL_law 349 = .ok (.aload_n 2, 1) := by decide +kernel
theorem dL_law_350 : decode cL_law 350 = .ok (.invokevirtual 56, 3) := by decide +kernel
theorem dL_law_353 : decode cL_law 353 = .ok (.if_icmp .eq 5, 3) := by decide +kernel
theorem dL_law_356 : decode cL_law 356 = .ok (.iconst 0, 1) := by decide +kernel
theorem dL_law_357 : decode cL_law 357 = .ok (.ireturn, 1) := by decide +kernel
theorem dL_law_358 : decode cL_law 358 = .ok (.iinc 3 5, 3) := by decide +kernel
theorem dL_law_361 : decode cL_law 361 = .ok (.goto (-343), 3) := by decide +kernel
theorem dL_law_364 : decode cL_law 364 = .ok (.iconst 1, 1) := by decide +kernel
theorem dL_law_365 : decode cL_law 365 = .ok (.ireturn, 1) := by decide +kernel
end
section
/-! words for the worlds -/
abbrev xF : Type := Nat → Nat → Int32
abbrev xG : Type := Nat → Int32
abbrev ix (i : Int32) : Nat := i.toNatClampNeg
/-- array k gets x at place i -/
def fS (F : xF) (k i : Nat) (x : Int32) : xF := fun j => if j = k then upd (F k) i x else F j
/-- the int field k gets x -/
def gS (G : xG) (k : Nat) (x : Int32) : xG := fun j => if j = k then x else G j
abbrev vwCl : List vw_C := [(RX0, TX0, 33), (RX1, TX1, 8)]
def rmL (d : Nat) : Room := { frames := d, cells := 0, slots := 0, locals := 40 * d }
theorem va_A_mem {ws : va_W} {q : Nat} : (∃ (k : Nat) (e : va_E), ws[k]? = some (q, e)) ↔ q ∈ ws.map Prod.fst := by
  constructor
  · rintro ⟨k, e, h⟩
    exact List.mem_map.mpr ⟨(q, e), List.mem_of_getElem? h, rfl⟩
  · intro h
    obtain ⟨⟨a, e⟩, hm, rfl⟩ := List.mem_map.mp h
    obtain ⟨k, hk⟩ := List.getElem?_of_mem hm
    exact ⟨k, e, hk⟩
theorem va_A_fst {ws ws' : va_W} {sz : Nat} (h : ws.map Prod.fst = ws'.map Prod.fst) : va_A ws sz = va_A ws' sz := by
  funext q
  unfold va_A
  rw [va_A_mem, va_A_mem, h]
section LVX
variable {p : Program} {l : Launch} {e : Env} {R : Room} {s : State} {m : MethodId} {args : Array Value} {below : List Frame} {meth : Method} {c : Code} {H : Heap} {locs : List Loc} {cells slots : Nat} {Q : State → Prop} {pc J : Nat} {ls : Array Slot} {st rest : List Value}
/-- two ways meet at J with one int on the stack -/
theorem lx_join (E : Int32) (k : ∀ v : Int32, v = E → W p l e R s m args below meth c H locs cells slots Q (F0 m J ls (.int v :: rest))) (br : (∀ v : Int32, v = E → W p l e R s m args below meth c H locs cells slots Q (F0 m J ls (.int v :: rest))) → W p l e R s m args below meth c H locs cells slots Q (F0 m pc ls st)) : W p l e R s m args below meth c H locs cells slots Q (F0 m pc ls st) := br k
/-- the top of the stack by another name -/
theorem lx_top {v w : Int32} (h : v = w) (k : W p l e R s m args below meth c H locs cells slots Q (F0 m pc ls (.int w :: rest))) : W p l e R s m args below meth c H locs cells slots Q (F0 m pc ls (.int v :: rest)) := by
  rw [h]; exact k
/-- a loop whose measure falls at each turn -/
theorem lx_loop (I : Nat → Array Slot → Heap → List Loc → Prop) (z : ∀ ls H locs, ¬ I 0 ls H locs) (stp : ∀ n, (∀ ls H locs, I n ls H locs → W p l e R s m args below meth c H locs cells slots Q (F0 m pc ls [])) → ∀ ls H locs, I (n + 1) ls H locs → W p l e R s m args below meth c H locs cells slots Q (F0 m pc ls [])) (n : Nat) (h : I n ls H locs) : W p l e R s m args below meth c H locs cells slots Q (F0 m pc ls []) := by
  induction n generalizing ls H locs with
  | zero => exact absurd h (z _ _ _)
  | succ n ih => exact stp n (fun _ _ _ h => ih h) _ _ _ h
/-- ways that meet at J with the heap changed on them: K says what holds there -/
theorem lx_meet {I : Array Slot → Heap → List Loc → Prop} (k : ∀ ls H locs, I ls H locs → W p l e R s m args below meth c H locs cells slots Q (F0 m J ls rest)) (br : (∀ ls H locs, I ls H locs → W p l e R s m args below meth c H locs cells slots Q (F0 m J ls rest)) → W p l e R s m args below meth c H locs cells slots Q (F0 m pc ls st)) : W p l e R s m args below meth c H locs cells slots Q (F0 m pc ls st) := br k
end LVX
end
section
set_option maxRecDepth 100000
set_option maxHeartbeats 4000000
/-! the world of one TreeContract: its object and arrays -/
def tkFs (h : Nat → Nat) (G : xG) : List Value := [.ref (h 0), .ref (h 1), .ref (h 2), .ref (h 3), .ref (h 4), .int (G 5), .ref (h 6), .ref (h 7), .ref (h 8), .ref (h 9), .int (G 10), .int (G 11), .ref (h 12), .ref (h 13), .ref (h 14), .ref (h 15), .ref (h 16), .ref (h 17), .ref (h 18), .int (G 19), .int (G 20), .ref (h 21), .ref (h 22), .ref (h 23), .ref (h 24), .ref (h 25), .ref (h 26), .ref (h 27), .ref (h 28), .int (G 29), .int (G 30), .int (G 31), .int (G 32)]
def tkW (cA : Nat → ClassId) (o : Nat) (h : Nat → Nat) (F : xF) (G : xG) : va_W := [(o, .inr (0, tkFs h G)), (h 0, .inl (cA 0, 31, .inl (F 0))), (h 1, .inl (cA 1, 31, .inl (F 1))), (h 2, .inl (cA 2, 31, .inl (F 2))), (h 3, .inl (cA 3, 31, .inl (F 3))), (h 4, .inl (cA 4, 31, .inl (F 4))), (h 6, .inl (cA 6, 31, .inl (F 6))), (h 7, .inl (cA 7, 31, .inl (F 7))), (h 8, .inl (cA 8, 31, .inl (F 8))), (h 9, .inl (cA 9, 31, .inl (F 9))), (h 12, .inl (cA 12, 16, .inl (F 12))), (h 13, .inl (cA 13, 32, .inl (F 13))), (h 14, .inl (cA 14, 46, .inl (F 14))), (h 15, .inl (cA 15, 46, .inl (F 15))), (h 16, .inl (cA 16, 46, .inl (F 16))), (h 17, .inl (cA 17, 46, .inl (F 17))), (h 18, .inl (cA 18, 46, .inl (F 18))), (h 21, .inl (cA 21, 15, .inl (F 21))), (h 22, .inl (cA 22, 15, .inl (F 22))), (h 23, .inl (cA 23, 15, .inl (F 23))), (h 24, .inl (cA 24, 15, .inl (F 24))), (h 25, .inl (cA 25, 15, .inl (F 25))), (h 26, .inl (cA 26, 15, .inl (F 26))), (h 27, .inl (cA 27, 15, .inl (F 27))), (h 28, .inl (cA 28, 31, .inl (F 28)))]
def tkTy (cA : Nat → ClassId) : List (ClassId × FieldType) := [(cA 0, .int), (cA 1, .int), (cA 2, .int), (cA 3, .int), (cA 4, .int), (cA 6, .int), (cA 7, .int), (cA 8, .int), (cA 9, .int), (cA 12, .int), (cA 13, .int), (cA 14, .int), (cA 15, .int), (cA 16, .int), (cA 17, .int), (cA 18, .boolean), (cA 21, .int), (cA 22, .int), (cA 23, .int), (cA 24, .boolean), (cA 25, .int), (cA 26, .int), (cA 27, .int), (cA 28, .int)]
def tkA (cA : Nat → ClassId) (o : Nat) (h : Nat → Nat) (sz : Nat) : Nat → Prop := va_A (tkW cA o h (fun _ _ => 0) (fun _ => 0)) sz
theorem tkA_eq {cA : Nat → ClassId} {o : Nat} {h : Nat → Nat} {F : xF} {G : xG} {sz : Nat} : va_A (tkW cA o h F G) sz = tkA cA o h sz := va_A_fst rfl
def tkC (p : Program) (c : Code) (cc : ByteArray) (nL : Nat) (s : State) (m : MethodId) (args : Array Value) (D : va_G) (cA : Nat → ClassId) (A : Nat → Prop) : Prop := p.tables.exec = Jvm.exec ∧ c.code = cc ∧ c.maxLocals = nL ∧ s.vm.findClass RX0 = some m.cls ∧ (∀ w ∈ lw_all, w.before args s = true) ∧ va_K D vwCl (tkTy cA) s ∧ (∀ q : Nat, s.heap.size ≤ q → A q)
def tkT (D : va_G) (cA : Nat → ClassId) (o : Nat) (h : Nat → Nat) (A : Nat → Prop) (H0 : Heap) (F : xF) (G : xG) (H : Heap) (locs : List Loc) : Prop := va_P D vwCl (tkW cA o h F G) H ∧ va_D A (tkW cA o h F G) ∧ va_S A H0 H locs
abbrev tkPre (D : va_G) (cA : Nat → ClassId) (o : Nat) (h : Nat → Nat) (F : xF) (G : xG) (sz : Nat) (U : State) : Prop := U.heap.size = sz ∧ va_P D vwCl (tkW cA o h F G) U.heap ∧ va_K D vwCl (tkTy cA) U ∧ va_D (fun _ => True) (tkW cA o h F G)
abbrev tkB (D : va_G) (cA : Nat → ClassId) (o : Nat) (h : Nat → Nat) (A : Nat → Prop) (u : xF × xG) (t : State) : Prop := va_P D vwCl (tkW cA o h u.1 u.2) t.heap ∧ va_K D vwCl (tkTy cA) t ∧ va_D A (tkW cA o h u.1 u.2)
abbrev tkQi (D : va_G) (cA : Nat → ClassId) (o : Nat) (h : Nat → Nat) (A : Nat → Prop) (rv : Int32) (F1 : xF) (G1 : xG) : Array Value → State → Outcome → State → Prop := va_Qi (fun (r : Int32) (u : xF × xG) => r = rv ∧ u = (F1, G1)) (tkB D cA o h A) A
abbrev tkQv (D : va_G) (cA : Nat → ClassId) (o : Nat) (h : Nat → Nat) (A : Nat → Prop) (F1 : xF) (G1 : xG) : Array Value → State → Outcome → State → Prop := va_Qv (fun (u : xF × xG) => u = (F1, G1)) (tkB D cA o h A) A
/-- the contract: from F, G it answers rv and leaves F1, G1 -/
def tkMi (l : Launch) (y : MethodName) (bytes : ByteArray) (maxL : Nat) (ret : Option FieldType) (rm : Room) (D : va_G) (cA : Nat → ClassId) (o : Nat) (h : Nat → Nat) (As : List Value) (F : xF) (G : xG) (rv : Int32) (F1 : xF) (G1 : xG) : Prop := ∀ sz : Nat, Met l y (ws_ y bytes maxL ret) rm (va_Pc As (tkPre D cA o h F G sz)) (tkQi D cA o h (tkA cA o h sz) rv F1 G1) 0 0 (tkA cA o h sz)
def tkMv (l : Launch) (y : MethodName) (bytes : ByteArray) (maxL : Nat) (rm : Room) (D : va_G) (cA : Nat → ClassId) (o : Nat) (h : Nat → Nat) (As : List Value) (F : xF) (G : xG) (F1 : xF) (G1 : xG) : Prop := ∀ sz : Nat, Met l y (ws_ y bytes maxL none) rm (va_Pc As (tkPre D cA o h F G sz)) (tkQv D cA o h (tkA cA o h sz) F1 G1) 0 0 (tkA cA o h sz)
section TKR
variable {p : Program} {l : Launch} {e : Env} {R : Room} {s : State} {m : MethodId} {args : Array Value} {below : List Frame} {meth : Method} {c : Code} {H : Heap} {locs : List Loc} {cells slots : Nat} {Q : State → Prop}
variable {cc : ByteArray} {pc nL : Nat} {ls : Array Slot} {rest : List Value} {D : va_G} {A : Nat → Prop} {cA : Nat → ClassId} {o : Nat} {h : Nat → Nat} {F : xF} {G : xG}
theorem tk_get (C : tkC p c cc nL s m args D cA A) (T : tkT D cA o h A s.heap F G H locs) (k : Nat) (hk : k < 33) {index : Nat} (hlink : Cond.fieldLink RX0 index RX0 (TX0 k).2.1 (TX0 k).2.2.1 ∈ lw_all) (hs : (TX0 k).1 = RX0) {v : Value} (hv : (tkFs h G)[k]? = some v) (hdg : decode cc pc = .ok (.getfield index, 3)) (kk : W p l e R s m args below meth c H locs cells slots Q (F0 m (pc + 3) ls (v :: rest))) : W p l e R s m args below meth c H locs cells slots Q (F0 m pc ls (.ref o :: rest)) :=
  va_get C.1 C.2.1 C.2.2.2.2.1 in_X0 C.2.2.2.1 C.2.2.2.2.2.1 T.1 0 rfl rfl k hk (C.2.2.2.2.1 _ hlink) (by rw [hs]; exact fun _ h => h) hv hdg kk
theorem tk_put (C : tkC p c cc nL s m args D cA A) (T : tkT D cA o h A s.heap F G H locs) (k : Nat) (hk : k < 33) {index : Nat} (hlink : Cond.fieldLink RX0 index RX0 (TX0 k).2.1 (TX0 k).2.2.1 ∈ lw_all) (hs : (TX0 k).1 = RX0) (hfin : (TX0 k).2.2.2 = false) {ty : FieldType} {v : Int32} (hd : parseFieldDescriptor (TX0 k).2.2.1 = some ty) (hn : narrow ty (.int v) = .int v) (hfit : fits ty (.int v) = true) (hset : (tkW cA o h F G).set 0 (o, .inr (0, (tkFs h G).set k (.int v))) = tkW cA o h F (gS G k v)) (hdg : decode cc pc = .ok (.putfield index, 3)) (kk : ∀ (H : Heap) (locs : List Loc), tkT D cA o h A s.heap F (gS G k v) H locs → W p l e R s m args below meth c H locs cells slots Q (F0 m (pc + 3) ls rest)) : W p l e R s m args below meth c H locs cells slots Q (F0 m pc ls (.int v :: .ref o :: rest)) := by
  refine va_put C.1 C.2.1 C.2.2.2.2.1 in_X0 tyX0 tyX0_ok nmX0 C.2.2.2.1 C.2.2.2.2.2.1 T.1 T.2.1 T.2.2 0 rfl rfl k hk (C.2.2.2.2.1 _ hlink) (by rw [hs]; exact fun _ h => h) hfin hd hn hfit (show k < (tkFs h G).length from hk) hdg (fun H locs hP hD hS => ?_)
  rw [hset] at hP hD
  exact kk H locs ⟨hP, hD, hS⟩
theorem tk_iald (C : tkC p c cc nL s m args D cA A) (T : tkT D cA o h A s.heap F G H locs) (k q0 t0 n : Nat) (ha : (tkW cA o h F G)[q0]? = some (h k, .inl (cA k, n, .inl (F k)))) (ht : (tkTy cA)[t0]? = some (cA k, .int)) {i : Int32} (hin : vp_in i n) {v : Int32} (hv : F k i.toNatClampNeg = v) (hdg : decode cc pc = .ok (.iaload, 1)) (kk : W p l e R s m args below meth c H locs cells slots Q (F0 m (pc + 1) ls (.int v :: rest))) : W p l e R s m args below meth c H locs cells slots Q (F0 m pc ls (.int i :: .ref (h k) :: rest)) := by
  subst hv
  exact va_iald C.1 C.2.1 C.2.2.2.2.2.1 T.1 q0 t0 ha ht hin hdg kk
theorem tk_ialdN (C : tkC p c cc nL s m args D cA A) (T : tkT D cA o h A s.heap F G H locs) (k q0 t0 n : Nat) (ha : (tkW cA o h F G)[q0]? = some (h k, .inl (cA k, n, .inl (F k)))) (ht : (tkTy cA)[t0]? = some (cA k, .int)) (hn : n < 2 ^ 31) {i : Nat} (hin : i < n) {v : Int32} (hv : F k i = v) (hdg : decode cc pc = .ok (.iaload, 1)) (kk : W p l e R s m args below meth c H locs cells slots Q (F0 m (pc + 1) ls (.int v :: rest))) : W p l e R s m args below meth c H locs cells slots Q (F0 m pc ls (.int (nI i) :: .ref (h k) :: rest)) :=
  tk_iald C T k q0 t0 n ha ht (vp_in_nI hin hn) (by rw [nI_clamp (Nat.lt_trans hin hn)]; exact hv) hdg kk
theorem tk_iast (C : tkC p c cc nL s m args D cA A) (T : tkT D cA o h A s.heap F G H locs) (k q0 t0 n : Nat) (ha : (tkW cA o h F G)[q0]? = some (h k, .inl (cA k, n, .inl (F k)))) (ht : (tkTy cA)[t0]? = some (cA k, .int)) {i x : Int32} (hin : vp_in i n) (hset : (tkW cA o h F G).set q0 (h k, .inl (cA k, n, .inl (upd (F k) i.toNatClampNeg x))) = tkW cA o h (fS F k i.toNatClampNeg x) G) (hdg : decode cc pc = .ok (.iastore, 1)) (kk : ∀ (H : Heap) (locs : List Loc), tkT D cA o h A s.heap (fS F k i.toNatClampNeg x) G H locs → W p l e R s m args below meth c H locs cells slots Q (F0 m (pc + 1) ls rest)) : W p l e R s m args below meth c H locs cells slots Q (F0 m pc ls (.int x :: .int i :: .ref (h k) :: rest)) := by
  refine va_iast C.1 C.2.1 C.2.2.2.2.2.1 T.1 T.2.1 T.2.2 q0 t0 ha ht hin hdg (fun H locs hP hD hS => ?_)
  rw [hset] at hP hD
  exact kk H locs ⟨hP, hD, hS⟩
theorem tk_iastN (C : tkC p c cc nL s m args D cA A) (T : tkT D cA o h A s.heap F G H locs) (k q0 t0 n : Nat) (ha : (tkW cA o h F G)[q0]? = some (h k, .inl (cA k, n, .inl (F k)))) (ht : (tkTy cA)[t0]? = some (cA k, .int)) (hn : n < 2 ^ 31) {i : Nat} {x : Int32} (hin : i < n) (hset : (tkW cA o h F G).set q0 (h k, .inl (cA k, n, .inl (upd (F k) i x))) = tkW cA o h (fS F k i x) G) (hdg : decode cc pc = .ok (.iastore, 1)) (kk : ∀ (H : Heap) (locs : List Loc), tkT D cA o h A s.heap (fS F k i x) G H locs → W p l e R s m args below meth c H locs cells slots Q (F0 m (pc + 1) ls rest)) : W p l e R s m args below meth c H locs cells slots Q (F0 m pc ls (.int x :: .int (nI i) :: .ref (h k) :: rest)) := by
  have e := nI_clamp (Nat.lt_trans hin hn)
  refine tk_iast C T k q0 t0 n ha ht (vp_in_nI hin hn) (by rw [e]; exact hset) hdg (fun H locs T => ?_)
  rw [e] at T
  exact kk H locs T
theorem tk_zald (C : tkC p c cc nL s m args D cA A) (T : tkT D cA o h A s.heap F G H locs) (k q0 t0 n : Nat) (ha : (tkW cA o h F G)[q0]? = some (h k, .inl (cA k, n, .inl (F k)))) (ht : (tkTy cA)[t0]? = some (cA k, .boolean)) {i : Int32} (hin : vp_in i n) {v : Int32} (hv : F k i.toNatClampNeg = v) (hdg : decode cc pc = .ok (.baload, 1)) (kk : W p l e R s m args below meth c H locs cells slots Q (F0 m (pc + 1) ls (.int v :: rest))) : W p l e R s m args below meth c H locs cells slots Q (F0 m pc ls (.int i :: .ref (h k) :: rest)) := by
  subst hv
  exact va_zald C.1 C.2.1 C.2.2.2.2.2.1 T.1 q0 t0 ha ht hin hdg kk
theorem tk_zaldN (C : tkC p c cc nL s m args D cA A) (T : tkT D cA o h A s.heap F G H locs) (k q0 t0 n : Nat) (ha : (tkW cA o h F G)[q0]? = some (h k, .inl (cA k, n, .inl (F k)))) (ht : (tkTy cA)[t0]? = some (cA k, .boolean)) (hn : n < 2 ^ 31) {i : Nat} (hin : i < n) {v : Int32} (hv : F k i = v) (hdg : decode cc pc = .ok (.baload, 1)) (kk : W p l e R s m args below meth c H locs cells slots Q (F0 m (pc + 1) ls (.int v :: rest))) : W p l e R s m args below meth c H locs cells slots Q (F0 m pc ls (.int (nI i) :: .ref (h k) :: rest)) :=
  tk_zald C T k q0 t0 n ha ht (vp_in_nI hin hn) (by rw [nI_clamp (Nat.lt_trans hin hn)]; exact hv) hdg kk
theorem tk_zast (C : tkC p c cc nL s m args D cA A) (T : tkT D cA o h A s.heap F G H locs) (k q0 t0 n : Nat) (ha : (tkW cA o h F G)[q0]? = some (h k, .inl (cA k, n, .inl (F k)))) (ht : (tkTy cA)[t0]? = some (cA k, .boolean)) {i x : Int32} (hb : vp_nar .boolean x = x) (hin : vp_in i n) (hset : (tkW cA o h F G).set q0 (h k, .inl (cA k, n, .inl (upd (F k) i.toNatClampNeg x))) = tkW cA o h (fS F k i.toNatClampNeg x) G) (hdg : decode cc pc = .ok (.bastore, 1)) (kk : ∀ (H : Heap) (locs : List Loc), tkT D cA o h A s.heap (fS F k i.toNatClampNeg x) G H locs → W p l e R s m args below meth c H locs cells slots Q (F0 m (pc + 1) ls rest)) : W p l e R s m args below meth c H locs cells slots Q (F0 m pc ls (.int x :: .int i :: .ref (h k) :: rest)) := by
  refine va_zast C.1 C.2.1 C.2.2.2.2.2.1 T.1 T.2.1 T.2.2 q0 t0 ha ht hin hdg (fun H locs hP hD hS => ?_)
  rw [hb, hset] at hP hD
  exact kk H locs ⟨hP, hD, hS⟩
theorem tk_zastN (C : tkC p c cc nL s m args D cA A) (T : tkT D cA o h A s.heap F G H locs) (k q0 t0 n : Nat) (ha : (tkW cA o h F G)[q0]? = some (h k, .inl (cA k, n, .inl (F k)))) (ht : (tkTy cA)[t0]? = some (cA k, .boolean)) (hn : n < 2 ^ 31) {i : Nat} {x : Int32} (hb : vp_nar .boolean x = x) (hin : i < n) (hset : (tkW cA o h F G).set q0 (h k, .inl (cA k, n, .inl (upd (F k) i x))) = tkW cA o h (fS F k i x) G) (hdg : decode cc pc = .ok (.bastore, 1)) (kk : ∀ (H : Heap) (locs : List Loc), tkT D cA o h A s.heap (fS F k i x) G H locs → W p l e R s m args below meth c H locs cells slots Q (F0 m (pc + 1) ls rest)) : W p l e R s m args below meth c H locs cells slots Q (F0 m pc ls (.int x :: .int (nI i) :: .ref (h k) :: rest)) := by
  have e := nI_clamp (Nat.lt_trans hin hn)
  refine tk_zast C T k q0 t0 n ha ht hb (vp_in_nI hin hn) (by rw [e]; exact hset) hdg (fun H locs T => ?_)
  rw [e] at T
  exact kk H locs T
theorem tk_ofi {y : MethodName} {maxL : Nat} {ret : Option FieldType} {rm : Room} {As : List Value} {rv : Int32} {F1 : xF} {G1 : xG} (hy : plainName y.cls = true) (hyc : y.cls = RX0) (hAs : (lg_sl As).length ≤ maxL) (body : ∀ (p : Program) (e : Env) (s : State) (m : MethodId) (below : List Frame) (meth : Method) (c : Code) (A : Nat → Prop) (ls : Array Slot), tkC p c cc maxL s m As.toArray D cA A → tkT D cA o h A s.heap F G s.heap [] → meth.sig.returnType = ret → meth.locks = false → lv_has ls maxL (lv_args 0 As) → W p l e rm s m As.toArray below meth c s.heap [] 0 0 (MQ below (tkQi D cA o h A rv F1 G1) As.toArray s 0 0 A) (F0 m 0 ls [])) : tkMi l y cc maxL ret rm D cA o h As F G rv F1 G1 := by
  intro sz
  refine Met.ofW (cc := cc) (maxL := maxL) (ret := ret) hy rfl ?_
  intro p e s m args below meth c s₁ B hml hv
  obtain ⟨rfl, hsz, hP, hK, hD0⟩ := hv
  have hts := atoms_spec (ws := ws_ y cc maxL ret) B.pre
  have hts : ∀ w ∈ lw_all, w.before _ s = true := fun w h => hts w (List.mem_cons_of_mem _ h)
  have hown : s.vm.findClass y.cls = some m.cls := findClass_of_methodNamed B.named
  rw [hyc] at hown
  subst hsz
  have hD := hD0.self (sz := s.heap.size)
  rw [tkA_eq] at hD
  have hA : ∀ q : Nat, s.heap.size ≤ q → tkA cA o h s.heap.size q := fun q h => Or.inr h
  have hl := lv_entry As (n := maxL) hAs
  rw [lg_entry_eq]
  exact body p e s m below meth c (tkA cA o h s.heap.size) _ ⟨B.exec, B.bytes, hml, hown, hts, hK, hA⟩ ⟨hP, hD, va_S.rf⟩ B.returns B.notSynchronized hl
theorem tk_ofv {y : MethodName} {maxL : Nat} {rm : Room} {As : List Value} {F1 : xF} {G1 : xG} (hy : plainName y.cls = true) (hyc : y.cls = RX0) (hAs : (lg_sl As).length ≤ maxL) (body : ∀ (p : Program) (e : Env) (s : State) (m : MethodId) (below : List Frame) (meth : Method) (c : Code) (A : Nat → Prop) (ls : Array Slot), tkC p c cc maxL s m As.toArray D cA A → tkT D cA o h A s.heap F G s.heap [] → meth.sig.returnType = none → meth.locks = false → lv_has ls maxL (lv_args 0 As) → W p l e rm s m As.toArray below meth c s.heap [] 0 0 (MQ below (tkQv D cA o h A F1 G1) As.toArray s 0 0 A) (F0 m 0 ls [])) : tkMv l y cc maxL rm D cA o h As F G F1 G1 := by
  intro sz
  refine Met.ofW (cc := cc) (maxL := maxL) (ret := none) hy rfl ?_
  intro p e s m args below meth c s₁ B hml hv
  obtain ⟨rfl, hsz, hP, hK, hD0⟩ := hv
  have hts := atoms_spec (ws := ws_ y cc maxL none) B.pre
  have hts : ∀ w ∈ lw_all, w.before _ s = true := fun w h => hts w (List.mem_cons_of_mem _ h)
  have hown : s.vm.findClass y.cls = some m.cls := findClass_of_methodNamed B.named
  rw [hyc] at hown
  subst hsz
  have hD := hD0.self (sz := s.heap.size)
  rw [tkA_eq] at hD
  have hA : ∀ q : Nat, s.heap.size ≤ q → tkA cA o h s.heap.size q := fun q h => Or.inr h
  have hl := lv_entry As (n := maxL) hAs
  rw [lg_entry_eq]
  exact body p e s m below meth c (tkA cA o h s.heap.size) _ ⟨B.exec, B.bytes, hml, hown, hts, hK, hA⟩ ⟨hP, hD, va_S.rf⟩ B.returns B.notSynchronized hl
theorem tk_iret (C : tkC p c cc nL s m args D cA A) (T : tkT D cA o h A s.heap F G H locs) {r rv : Int32} {F1 : xF} {G1 : xG} (hr : meth.sig.returnType = some .int) (hlk : meth.locks = false) (he : r = rv) (hs : (F, G) = (F1, G1)) (hdg : decode cc pc = .ok (.ireturn, 1)) : W p l e R s m args below meth c H locs 0 0 (MQ below (tkQi D cA o h A rv F1 G1) args s 0 0 A) (F0 m pc ls [.int r]) :=
  W.iret C.1 C.2.1 hr (fun t ht hW => ⟨⟨r, (F, G), rfl, ⟨he, hs⟩, by rw [ht]; exact T.1, va_K.moved hW.alike C.2.2.2.2.2.1, T.2.1⟩, T.2.2.F ht⟩) T.2.2.2.2 hdg hlk
theorem tk_zret (C : tkC p c cc nL s m args D cA A) (T : tkT D cA o h A s.heap F G H locs) {r rv : Int32} {F1 : xF} {G1 : xG} (hr : meth.sig.returnType = some .boolean) (hlk : meth.locks = false) (hz : narrow .boolean (.int r) = .int r) (he : r = rv) (hs : (F, G) = (F1, G1)) (hdg : decode cc pc = .ok (.ireturn, 1)) : W p l e R s m args below meth c H locs 0 0 (MQ below (tkQi D cA o h A rv F1 G1) args s 0 0 A) (F0 m pc ls [.int r]) :=
  W.zret C.1 C.2.1 hr hz (fun t ht hW => ⟨⟨r, (F, G), rfl, ⟨he, hs⟩, by rw [ht]; exact T.1, va_K.moved hW.alike C.2.2.2.2.2.1, T.2.1⟩, T.2.2.F ht⟩) T.2.2.2.2 hdg hlk
theorem tk_vret (C : tkC p c cc nL s m args D cA A) (T : tkT D cA o h A s.heap F G H locs) {F1 : xF} {G1 : xG} (hr : meth.sig.returnType = none) (hlk : meth.locks = false) (hs : (F, G) = (F1, G1)) (hdg : decode cc pc = .ok (.return_, 1)) : W p l e R s m args below meth c H locs 0 0 (MQ below (tkQv D cA o h A F1 G1) args s 0 0 A) (F0 m pc ls []) :=
  W.vret C.1 C.2.1 hr (fun t ht hW => ⟨⟨(F, G), rfl, hs, by rw [ht]; exact T.1, va_K.moved hW.alike C.2.2.2.2.2.1, T.2.1⟩, T.2.2.F ht⟩) T.2.2.2.2 hdg hlk
theorem tk_fr (C : tkC p c cc nL s m args D cA A) (T : tkT D cA o h A s.heap F G H locs) : ∀ q, tkA cA o h H.size q → A q := by
  rw [← tkA_eq (F := F) (G := G)]
  intro q hq
  rcases hq with ⟨k, e, hk⟩ | hq
  · exact T.2.1.2 k _ hk
  · exact C.2.2.2.2.2.2 q (Nat.le_trans T.2.2.1 hq)
theorem tk_calli (C : tkC p c cc nL s m args D cA A) (T : tkT D cA o h A s.heap F G H locs) {y : MethodName} {bytes : ByteArray} {maxL idx n : Nat} {ret : Option FieldType} {rm : Room} {As rest st : List Value} {rv : Int32} {F1 : xF} {G1 : xG} (hM : tkMi l y bytes maxL ret rm D cA o h (.ref o :: As) F G rv F1 G1) (hl : Cond.methodLink RX0 idx y ∈ lw_all) (hi : Cond.instanceMethod y ∈ lw_all) (hse : Cond.selects RX0 y y ∈ lw_all) (hc : Cond.code y bytes maxL ret ∈ lw_all) (hrc : rm.cells = 0) (hrs : rm.slots = 0) (hd : y.cls = RX0 ∧ y.cls ≠ "java/lang/invoke/MethodHandle" ∧ y.cls ≠ "java/lang/invoke/VarHandle" ∧ (parseMethodDescriptor y.desc).map (fun d => d.parameters.length) = some n) (hR : rm.frames + 1 ≤ R.frames ∧ 8 + (maxL + 11) + rm.locals ≤ R.locals) (hn : As.length = n) (hls : ls.size = nL) (hroom : (rest.map fun v => v.category).sum ≤ 8) (hcs : cells ≤ R.cells ∧ slots ≤ R.slots) (hst : st = As.reverse ++ .ref o :: rest) (hdg : decode cc pc = .ok (.invokevirtual idx, 3)) (kk : ∀ (H : Heap) (locs : List Loc), tkT D cA o h A s.heap F1 G1 H locs → W p l e R s m args below meth c H locs cells slots Q (F0 m (pc + 3) ls (.int rv :: rest))) : W p l e R s m args below meth c H locs cells slots Q (F0 m pc ls st) := by
  have hF := tk_fr C T
  obtain ⟨hx, hb, hml, hown, hts, hK, hA⟩ := C
  obtain ⟨hP, hD, hS⟩ := T
  refine va_calli (va_runV (As := As) (rest := rest) ⟨hx, hb, hml, hown, hts⟩ (hM H.size) (cwV n hts (lw_V hl hi hse q19 hc) rfl hrc hrs hd hR) ⟨fun a U g mk q => by obtain ⟨q0, q1, qP, qK, qD⟩ := q; exact ⟨q0, q1, qP, va_K.moved (u := U) (U := U.calling g mk a) (Vm.Alike.refl U.vm) qK, qD⟩, va_recv hK hP (ci := 0) (q0 := 0) rfl rfl, fun U hU hW => ⟨rfl, by rw [hU], by rw [hU]; exact hP, va_K.moved hW.alike hK, hD.weaken (fun _ _ _ _ => trivial)⟩⟩ rfl hn hls hst (lv_room hroom) hdg hcs) hS (fun q _ h => hF q h) hF (fun r u t H1 locs1 ht hvm hp hB hz1 hk1 hS1 => ?_)
  obtain ⟨rfl, rfl⟩ := hp
  obtain ⟨hP1, hK1, hD1⟩ := hB
  rw [ht] at hP1
  exact kk H1 locs1 ⟨hP1, hD1.weaken (fun _ q _ h => hF q.1 h), hS1⟩
theorem tk_scalli (C : tkC p c cc nL s m args D cA A) (T : tkT D cA o h A s.heap F G H locs) {y : MethodName} {bytes : ByteArray} {maxL idx n : Nat} {ret : Option FieldType} {rm : Room} {As rest st : List Value} {rv : Int32} {F1 : xF} {G1 : xG} (hM : tkMi l y bytes maxL ret rm D cA o h As F G rv F1 G1) (hl : Cond.methodLink RX0 idx y ∈ lw_all) (hi : Cond.static y ∈ lw_all) (hc : Cond.code y bytes maxL ret ∈ lw_all) (hrc : rm.cells = 0) (hrs : rm.slots = 0) (hd : y.cls = RX0 ∧ y.cls ≠ "java/lang/invoke/MethodHandle" ∧ y.cls ≠ "java/lang/invoke/VarHandle" ∧ (parseMethodDescriptor y.desc).map (fun d => d.parameters.length) = some n) (hR : rm.frames + 1 ≤ R.frames ∧ 8 + (maxL + 11) + rm.locals ≤ R.locals) (hn : As.length = n) (hls : ls.size = nL) (hroom : (rest.map fun v => v.category).sum ≤ 8) (hcs : cells ≤ R.cells ∧ slots ≤ R.slots) (hst : st = As.reverse ++ rest) (hdg : decode cc pc = .ok (.invokestatic idx, 3)) (kk : ∀ (H : Heap) (locs : List Loc), tkT D cA o h A s.heap F1 G1 H locs → W p l e R s m args below meth c H locs cells slots Q (F0 m (pc + 3) ls (.int rv :: rest))) : W p l e R s m args below meth c H locs cells slots Q (F0 m pc ls st) := by
  have hF := tk_fr C T
  obtain ⟨hx, hb, hml, hown, hts, hK, hA⟩ := C
  obtain ⟨hP, hD, hS⟩ := T
  refine va_calli (va_runS (As := As) (rest := rest) ⟨hx, hb, hml, hown, hts⟩ (hM H.size) (va_cwS n hts (lw_S hl hi (by rw [hd.1]; exact q19) hc) rfl hrc hrs hd.2 hR) ⟨fun a U g mk q => by obtain ⟨q0, q1, qP, qK, qD⟩ := q; exact ⟨q0, q1, qP, va_K.moved (u := U) (U := U.calling g mk a) (Vm.Alike.refl U.vm) qK, qD⟩, fun U hU hW => ⟨rfl, by rw [hU], by rw [hU]; exact hP, va_K.moved hW.alike hK, hD.weaken (fun _ _ _ _ => trivial)⟩⟩ rfl hn hls hst (lv_room hroom) hdg hcs) hS (fun q _ h => hF q h) hF (fun r u t H1 locs1 ht hvm hp hB hz1 hk1 hS1 => ?_)
  obtain ⟨rfl, rfl⟩ := hp
  obtain ⟨hP1, hK1, hD1⟩ := hB
  rw [ht] at hP1
  exact kk H1 locs1 ⟨hP1, hD1.weaken (fun _ q _ h => hF q.1 h), hS1⟩
theorem tk_callv (C : tkC p c cc nL s m args D cA A) (T : tkT D cA o h A s.heap F G H locs) {y : MethodName} {bytes : ByteArray} {maxL idx n : Nat} {rm : Room} {As rest st : List Value} {F1 : xF} {G1 : xG} (hM : tkMv l y bytes maxL rm D cA o h (.ref o :: As) F G F1 G1) (hl : Cond.methodLink RX0 idx y ∈ lw_all) (hi : Cond.instanceMethod y ∈ lw_all) (hse : Cond.selects RX0 y y ∈ lw_all) (hc : Cond.code y bytes maxL none ∈ lw_all) (hrc : rm.cells = 0) (hrs : rm.slots = 0) (hd : y.cls = RX0 ∧ y.cls ≠ "java/lang/invoke/MethodHandle" ∧ y.cls ≠ "java/lang/invoke/VarHandle" ∧ (parseMethodDescriptor y.desc).map (fun d => d.parameters.length) = some n) (hR : rm.frames + 1 ≤ R.frames ∧ 8 + (maxL + 11) + rm.locals ≤ R.locals) (hn : As.length = n) (hls : ls.size = nL) (hroom : (rest.map fun v => v.category).sum ≤ 8) (hcs : cells ≤ R.cells ∧ slots ≤ R.slots) (hst : st = As.reverse ++ .ref o :: rest) (hdg : decode cc pc = .ok (.invokevirtual idx, 3)) (kk : ∀ (H : Heap) (locs : List Loc), tkT D cA o h A s.heap F1 G1 H locs → W p l e R s m args below meth c H locs cells slots Q (F0 m (pc + 3) ls (rest))) : W p l e R s m args below meth c H locs cells slots Q (F0 m pc ls st) := by
  have hF := tk_fr C T
  obtain ⟨hx, hb, hml, hown, hts, hK, hA⟩ := C
  obtain ⟨hP, hD, hS⟩ := T
  refine va_callv (va_runV (As := As) (rest := rest) ⟨hx, hb, hml, hown, hts⟩ (hM H.size) (cwV n hts (lw_V hl hi hse q19 hc) rfl hrc hrs hd hR) ⟨fun a U g mk q => by obtain ⟨q0, q1, qP, qK, qD⟩ := q; exact ⟨q0, q1, qP, va_K.moved (u := U) (U := U.calling g mk a) (Vm.Alike.refl U.vm) qK, qD⟩, va_recv hK hP (ci := 0) (q0 := 0) rfl rfl, fun U hU hW => ⟨rfl, by rw [hU], by rw [hU]; exact hP, va_K.moved hW.alike hK, hD.weaken (fun _ _ _ _ => trivial)⟩⟩ rfl hn hls hst (lv_room hroom) hdg hcs) hS (fun q _ h => hF q h) hF (fun u t H1 locs1 ht hvm hp hB hz1 hk1 hS1 => ?_)
  subst hp
  obtain ⟨hP1, hK1, hD1⟩ := hB
  rw [ht] at hP1
  exact kk H1 locs1 ⟨hP1, hD1.weaken (fun _ q _ h => hF q.1 h), hS1⟩
theorem tk_scallv (C : tkC p c cc nL s m args D cA A) (T : tkT D cA o h A s.heap F G H locs) {y : MethodName} {bytes : ByteArray} {maxL idx n : Nat} {rm : Room} {As rest st : List Value} {F1 : xF} {G1 : xG} (hM : tkMv l y bytes maxL rm D cA o h As F G F1 G1) (hl : Cond.methodLink RX0 idx y ∈ lw_all) (hi : Cond.static y ∈ lw_all) (hc : Cond.code y bytes maxL none ∈ lw_all) (hrc : rm.cells = 0) (hrs : rm.slots = 0) (hd : y.cls = RX0 ∧ y.cls ≠ "java/lang/invoke/MethodHandle" ∧ y.cls ≠ "java/lang/invoke/VarHandle" ∧ (parseMethodDescriptor y.desc).map (fun d => d.parameters.length) = some n) (hR : rm.frames + 1 ≤ R.frames ∧ 8 + (maxL + 11) + rm.locals ≤ R.locals) (hn : As.length = n) (hls : ls.size = nL) (hroom : (rest.map fun v => v.category).sum ≤ 8) (hcs : cells ≤ R.cells ∧ slots ≤ R.slots) (hst : st = As.reverse ++ rest) (hdg : decode cc pc = .ok (.invokestatic idx, 3)) (kk : ∀ (H : Heap) (locs : List Loc), tkT D cA o h A s.heap F1 G1 H locs → W p l e R s m args below meth c H locs cells slots Q (F0 m (pc + 3) ls (rest))) : W p l e R s m args below meth c H locs cells slots Q (F0 m pc ls st) := by
  have hF := tk_fr C T
  obtain ⟨hx, hb, hml, hown, hts, hK, hA⟩ := C
  obtain ⟨hP, hD, hS⟩ := T
  refine va_callv (va_runS (As := As) (rest := rest) ⟨hx, hb, hml, hown, hts⟩ (hM H.size) (va_cwS n hts (lw_S hl hi (by rw [hd.1]; exact q19) hc) rfl hrc hrs hd.2 hR) ⟨fun a U g mk q => by obtain ⟨q0, q1, qP, qK, qD⟩ := q; exact ⟨q0, q1, qP, va_K.moved (u := U) (U := U.calling g mk a) (Vm.Alike.refl U.vm) qK, qD⟩, fun U hU hW => ⟨rfl, by rw [hU], by rw [hU]; exact hP, va_K.moved hW.alike hK, hD.weaken (fun _ _ _ _ => trivial)⟩⟩ rfl hn hls hst (lv_room hroom) hdg hcs) hS (fun q _ h => hF q h) hF (fun u t H1 locs1 ht hvm hp hB hz1 hk1 hS1 => ?_)
  subst hp
  obtain ⟨hP1, hK1, hD1⟩ := hB
  rw [ht] at hP1
  exact kk H1 locs1 ⟨hP1, hD1.weaken (fun _ q _ h => hF q.1 h), hS1⟩
end TKR
theorem tkl0 : Cond.fieldLink RX0 7 RX0 (TX0 0).2.1 (TX0 0).2.2.1 ∈ lw_all := q29
theorem tkl1 : Cond.fieldLink RX0 13 RX0 (TX0 1).2.1 (TX0 1).2.2.1 ∈ lw_all := q30
theorem tkl2 : Cond.fieldLink RX0 16 RX0 (TX0 2).2.1 (TX0 2).2.2.1 ∈ lw_all := q31
theorem tkl3 : Cond.fieldLink RX0 19 RX0 (TX0 3).2.1 (TX0 3).2.2.1 ∈ lw_all := q32
theorem tkl4 : Cond.fieldLink RX0 22 RX0 (TX0 4).2.1 (TX0 4).2.2.1 ∈ lw_all := q33
theorem tkl5 : Cond.fieldLink RX0 87 RX0 (TX0 5).2.1 (TX0 5).2.2.1 ∈ lw_all := q34
theorem tkl6 : Cond.fieldLink RX0 25 RX0 (TX0 6).2.1 (TX0 6).2.2.1 ∈ lw_all := q35
theorem tkl7 : Cond.fieldLink RX0 28 RX0 (TX0 7).2.1 (TX0 7).2.2.1 ∈ lw_all := q36
theorem tkl8 : Cond.fieldLink RX0 31 RX0 (TX0 8).2.1 (TX0 8).2.2.1 ∈ lw_all := q37
theorem tkl9 : Cond.fieldLink RX0 34 RX0 (TX0 9).2.1 (TX0 9).2.2.1 ∈ lw_all := q38
theorem tkl10 : Cond.fieldLink RX0 122 RX0 (TX0 10).2.1 (TX0 10).2.2.1 ∈ lw_all := q39
theorem tkl11 : Cond.fieldLink RX0 135 RX0 (TX0 11).2.1 (TX0 11).2.2.1 ∈ lw_all := q40
theorem tkl12 : Cond.fieldLink RX0 37 RX0 (TX0 12).2.1 (TX0 12).2.2.1 ∈ lw_all := q41
theorem tkl13 : Cond.fieldLink RX0 40 RX0 (TX0 13).2.1 (TX0 13).2.2.1 ∈ lw_all := q42
theorem tkl14 : Cond.fieldLink RX0 43 RX0 (TX0 14).2.1 (TX0 14).2.2.1 ∈ lw_all := q43
theorem tkl15 : Cond.fieldLink RX0 46 RX0 (TX0 15).2.1 (TX0 15).2.2.1 ∈ lw_all := q44
theorem tkl16 : Cond.fieldLink RX0 49 RX0 (TX0 16).2.1 (TX0 16).2.2.1 ∈ lw_all := q45
theorem tkl17 : Cond.fieldLink RX0 52 RX0 (TX0 17).2.1 (TX0 17).2.2.1 ∈ lw_all := q46
theorem tkl18 : Cond.fieldLink RX0 55 RX0 (TX0 18).2.1 (TX0 18).2.2.1 ∈ lw_all := q47
theorem tkl19 : Cond.fieldLink RX0 98 RX0 (TX0 19).2.1 (TX0 19).2.2.1 ∈ lw_all := q48
theorem tkl20 : Cond.fieldLink RX0 116 RX0 (TX0 20).2.1 (TX0 20).2.2.1 ∈ lw_all := q49
theorem tkl21 : Cond.fieldLink RX0 59 RX0 (TX0 21).2.1 (TX0 21).2.2.1 ∈ lw_all := q50
theorem tkl22 : Cond.fieldLink RX0 62 RX0 (TX0 22).2.1 (TX0 22).2.2.1 ∈ lw_all := q51
theorem tkl23 : Cond.fieldLink RX0 65 RX0 (TX0 23).2.1 (TX0 23).2.2.1 ∈ lw_all := q52
theorem tkl24 : Cond.fieldLink RX0 68 RX0 (TX0 24).2.1 (TX0 24).2.2.1 ∈ lw_all := q53
theorem tkl25 : Cond.fieldLink RX0 71 RX0 (TX0 25).2.1 (TX0 25).2.2.1 ∈ lw_all := q54
theorem tkl26 : Cond.fieldLink RX0 74 RX0 (TX0 26).2.1 (TX0 26).2.2.1 ∈ lw_all := q55
theorem tkl27 : Cond.fieldLink RX0 77 RX0 (TX0 27).2.1 (TX0 27).2.2.1 ∈ lw_all := q56
theorem tkl28 : Cond.fieldLink RX0 80 RX0 (TX0 28).2.1 (TX0 28).2.2.1 ∈ lw_all := q57
theorem tkl29 : Cond.fieldLink RX0 145 RX0 (TX0 29).2.1 (TX0 29).2.2.1 ∈ lw_all := q58
theorem tkl30 : Cond.fieldLink RX0 148 RX0 (TX0 30).2.1 (TX0 30).2.2.1 ∈ lw_all := q59
theorem tkl31 : Cond.fieldLink RX0 151 RX0 (TX0 31).2.1 (TX0 31).2.2.1 ∈ lw_all := q60
theorem tkl32 : Cond.fieldLink RX0 154 RX0 (TX0 32).2.1 (TX0 32).2.2.1 ∈ lw_all := q61
theorem tka0 {cA : Nat → ClassId} {o : Nat} {h : Nat → Nat} {F : xF} {G : xG} : (tkW cA o h F G)[1]? = some (h 0, .inl (cA 0, 31, .inl (F 0))) := rfl
theorem tkt0 {cA : Nat → ClassId} : (tkTy cA)[0]? = some (cA 0, .int) := rfl
theorem tks0 {cA : Nat → ClassId} {o : Nat} {h : Nat → Nat} {F : xF} {G : xG} {i : Nat} {x : Int32} : (tkW cA o h F G).set 1 (h 0, .inl (cA 0, 31, .inl (upd (F 0) i x))) = tkW cA o h (fS F 0 i x) G := rfl
theorem tka1 {cA : Nat → ClassId} {o : Nat} {h : Nat → Nat} {F : xF} {G : xG} : (tkW cA o h F G)[2]? = some (h 1, .inl (cA 1, 31, .inl (F 1))) := rfl
theorem tkt1 {cA : Nat → ClassId} : (tkTy cA)[1]? = some (cA 1, .int) := rfl
theorem tks1 {cA : Nat → ClassId} {o : Nat} {h : Nat → Nat} {F : xF} {G : xG} {i : Nat} {x : Int32} : (tkW cA o h F G).set 2 (h 1, .inl (cA 1, 31, .inl (upd (F 1) i x))) = tkW cA o h (fS F 1 i x) G := rfl
theorem tka2 {cA : Nat → ClassId} {o : Nat} {h : Nat → Nat} {F : xF} {G : xG} : (tkW cA o h F G)[3]? = some (h 2, .inl (cA 2, 31, .inl (F 2))) := rfl
theorem tkt2 {cA : Nat → ClassId} : (tkTy cA)[2]? = some (cA 2, .int) := rfl
theorem tks2 {cA : Nat → ClassId} {o : Nat} {h : Nat → Nat} {F : xF} {G : xG} {i : Nat} {x : Int32} : (tkW cA o h F G).set 3 (h 2, .inl (cA 2, 31, .inl (upd (F 2) i x))) = tkW cA o h (fS F 2 i x) G := rfl
theorem tka3 {cA : Nat → ClassId} {o : Nat} {h : Nat → Nat} {F : xF} {G : xG} : (tkW cA o h F G)[4]? = some (h 3, .inl (cA 3, 31, .inl (F 3))) := rfl
theorem tkt3 {cA : Nat → ClassId} : (tkTy cA)[3]? = some (cA 3, .int) := rfl
theorem tks3 {cA : Nat → ClassId} {o : Nat} {h : Nat → Nat} {F : xF} {G : xG} {i : Nat} {x : Int32} : (tkW cA o h F G).set 4 (h 3, .inl (cA 3, 31, .inl (upd (F 3) i x))) = tkW cA o h (fS F 3 i x) G := rfl
theorem tka4 {cA : Nat → ClassId} {o : Nat} {h : Nat → Nat} {F : xF} {G : xG} : (tkW cA o h F G)[5]? = some (h 4, .inl (cA 4, 31, .inl (F 4))) := rfl
theorem tkt4 {cA : Nat → ClassId} : (tkTy cA)[4]? = some (cA 4, .int) := rfl
theorem tks4 {cA : Nat → ClassId} {o : Nat} {h : Nat → Nat} {F : xF} {G : xG} {i : Nat} {x : Int32} : (tkW cA o h F G).set 5 (h 4, .inl (cA 4, 31, .inl (upd (F 4) i x))) = tkW cA o h (fS F 4 i x) G := rfl
theorem tka6 {cA : Nat → ClassId} {o : Nat} {h : Nat → Nat} {F : xF} {G : xG} : (tkW cA o h F G)[6]? = some (h 6, .inl (cA 6, 31, .inl (F 6))) := rfl
theorem tkt6 {cA : Nat → ClassId} : (tkTy cA)[5]? = some (cA 6, .int) := rfl
theorem tks6 {cA : Nat → ClassId} {o : Nat} {h : Nat → Nat} {F : xF} {G : xG} {i : Nat} {x : Int32} : (tkW cA o h F G).set 6 (h 6, .inl (cA 6, 31, .inl (upd (F 6) i x))) = tkW cA o h (fS F 6 i x) G := rfl
theorem tka7 {cA : Nat → ClassId} {o : Nat} {h : Nat → Nat} {F : xF} {G : xG} : (tkW cA o h F G)[7]? = some (h 7, .inl (cA 7, 31, .inl (F 7))) := rfl
theorem tkt7 {cA : Nat → ClassId} : (tkTy cA)[6]? = some (cA 7, .int) := rfl
theorem tks7 {cA : Nat → ClassId} {o : Nat} {h : Nat → Nat} {F : xF} {G : xG} {i : Nat} {x : Int32} : (tkW cA o h F G).set 7 (h 7, .inl (cA 7, 31, .inl (upd (F 7) i x))) = tkW cA o h (fS F 7 i x) G := rfl
theorem tka8 {cA : Nat → ClassId} {o : Nat} {h : Nat → Nat} {F : xF} {G : xG} : (tkW cA o h F G)[8]? = some (h 8, .inl (cA 8, 31, .inl (F 8))) := rfl
theorem tkt8 {cA : Nat → ClassId} : (tkTy cA)[7]? = some (cA 8, .int) := rfl
theorem tks8 {cA : Nat → ClassId} {o : Nat} {h : Nat → Nat} {F : xF} {G : xG} {i : Nat} {x : Int32} : (tkW cA o h F G).set 8 (h 8, .inl (cA 8, 31, .inl (upd (F 8) i x))) = tkW cA o h (fS F 8 i x) G := rfl
theorem tka9 {cA : Nat → ClassId} {o : Nat} {h : Nat → Nat} {F : xF} {G : xG} : (tkW cA o h F G)[9]? = some (h 9, .inl (cA 9, 31, .inl (F 9))) := rfl
theorem tkt9 {cA : Nat → ClassId} : (tkTy cA)[8]? = some (cA 9, .int) := rfl
theorem tks9 {cA : Nat → ClassId} {o : Nat} {h : Nat → Nat} {F : xF} {G : xG} {i : Nat} {x : Int32} : (tkW cA o h F G).set 9 (h 9, .inl (cA 9, 31, .inl (upd (F 9) i x))) = tkW cA o h (fS F 9 i x) G := rfl
theorem tka12 {cA : Nat → ClassId} {o : Nat} {h : Nat → Nat} {F : xF} {G : xG} : (tkW cA o h F G)[10]? = some (h 12, .inl (cA 12, 16, .inl (F 12))) := rfl
theorem tkt12 {cA : Nat → ClassId} : (tkTy cA)[9]? = some (cA 12, .int) := rfl
theorem tks12 {cA : Nat → ClassId} {o : Nat} {h : Nat → Nat} {F : xF} {G : xG} {i : Nat} {x : Int32} : (tkW cA o h F G).set 10 (h 12, .inl (cA 12, 16, .inl (upd (F 12) i x))) = tkW cA o h (fS F 12 i x) G := rfl
theorem tka13 {cA : Nat → ClassId} {o : Nat} {h : Nat → Nat} {F : xF} {G : xG} : (tkW cA o h F G)[11]? = some (h 13, .inl (cA 13, 32, .inl (F 13))) := rfl
theorem tkt13 {cA : Nat → ClassId} : (tkTy cA)[10]? = some (cA 13, .int) := rfl
theorem tks13 {cA : Nat → ClassId} {o : Nat} {h : Nat → Nat} {F : xF} {G : xG} {i : Nat} {x : Int32} : (tkW cA o h F G).set 11 (h 13, .inl (cA 13, 32, .inl (upd (F 13) i x))) = tkW cA o h (fS F 13 i x) G := rfl
theorem tka14 {cA : Nat → ClassId} {o : Nat} {h : Nat → Nat} {F : xF} {G : xG} : (tkW cA o h F G)[12]? = some (h 14, .inl (cA 14, 46, .inl (F 14))) := rfl
theorem tkt14 {cA : Nat → ClassId} : (tkTy cA)[11]? = some (cA 14, .int) := rfl
theorem tks14 {cA : Nat → ClassId} {o : Nat} {h : Nat → Nat} {F : xF} {G : xG} {i : Nat} {x : Int32} : (tkW cA o h F G).set 12 (h 14, .inl (cA 14, 46, .inl (upd (F 14) i x))) = tkW cA o h (fS F 14 i x) G := rfl
theorem tka15 {cA : Nat → ClassId} {o : Nat} {h : Nat → Nat} {F : xF} {G : xG} : (tkW cA o h F G)[13]? = some (h 15, .inl (cA 15, 46, .inl (F 15))) := rfl
theorem tkt15 {cA : Nat → ClassId} : (tkTy cA)[12]? = some (cA 15, .int) := rfl
theorem tks15 {cA : Nat → ClassId} {o : Nat} {h : Nat → Nat} {F : xF} {G : xG} {i : Nat} {x : Int32} : (tkW cA o h F G).set 13 (h 15, .inl (cA 15, 46, .inl (upd (F 15) i x))) = tkW cA o h (fS F 15 i x) G := rfl
theorem tka16 {cA : Nat → ClassId} {o : Nat} {h : Nat → Nat} {F : xF} {G : xG} : (tkW cA o h F G)[14]? = some (h 16, .inl (cA 16, 46, .inl (F 16))) := rfl
theorem tkt16 {cA : Nat → ClassId} : (tkTy cA)[13]? = some (cA 16, .int) := rfl
theorem tks16 {cA : Nat → ClassId} {o : Nat} {h : Nat → Nat} {F : xF} {G : xG} {i : Nat} {x : Int32} : (tkW cA o h F G).set 14 (h 16, .inl (cA 16, 46, .inl (upd (F 16) i x))) = tkW cA o h (fS F 16 i x) G := rfl
theorem tka17 {cA : Nat → ClassId} {o : Nat} {h : Nat → Nat} {F : xF} {G : xG} : (tkW cA o h F G)[15]? = some (h 17, .inl (cA 17, 46, .inl (F 17))) := rfl
theorem tkt17 {cA : Nat → ClassId} : (tkTy cA)[14]? = some (cA 17, .int) := rfl
theorem tks17 {cA : Nat → ClassId} {o : Nat} {h : Nat → Nat} {F : xF} {G : xG} {i : Nat} {x : Int32} : (tkW cA o h F G).set 15 (h 17, .inl (cA 17, 46, .inl (upd (F 17) i x))) = tkW cA o h (fS F 17 i x) G := rfl
theorem tka18 {cA : Nat → ClassId} {o : Nat} {h : Nat → Nat} {F : xF} {G : xG} : (tkW cA o h F G)[16]? = some (h 18, .inl (cA 18, 46, .inl (F 18))) := rfl
theorem tkt18 {cA : Nat → ClassId} : (tkTy cA)[15]? = some (cA 18, .boolean) := rfl
theorem tks18 {cA : Nat → ClassId} {o : Nat} {h : Nat → Nat} {F : xF} {G : xG} {i : Nat} {x : Int32} : (tkW cA o h F G).set 16 (h 18, .inl (cA 18, 46, .inl (upd (F 18) i x))) = tkW cA o h (fS F 18 i x) G := rfl
theorem tka21 {cA : Nat → ClassId} {o : Nat} {h : Nat → Nat} {F : xF} {G : xG} : (tkW cA o h F G)[17]? = some (h 21, .inl (cA 21, 15, .inl (F 21))) := rfl
theorem tkt21 {cA : Nat → ClassId} : (tkTy cA)[16]? = some (cA 21, .int) := rfl
theorem tks21 {cA : Nat → ClassId} {o : Nat} {h : Nat → Nat} {F : xF} {G : xG} {i : Nat} {x : Int32} : (tkW cA o h F G).set 17 (h 21, .inl (cA 21, 15, .inl (upd (F 21) i x))) = tkW cA o h (fS F 21 i x) G := rfl
theorem tka22 {cA : Nat → ClassId} {o : Nat} {h : Nat → Nat} {F : xF} {G : xG} : (tkW cA o h F G)[18]? = some (h 22, .inl (cA 22, 15, .inl (F 22))) := rfl
theorem tkt22 {cA : Nat → ClassId} : (tkTy cA)[17]? = some (cA 22, .int) := rfl
theorem tks22 {cA : Nat → ClassId} {o : Nat} {h : Nat → Nat} {F : xF} {G : xG} {i : Nat} {x : Int32} : (tkW cA o h F G).set 18 (h 22, .inl (cA 22, 15, .inl (upd (F 22) i x))) = tkW cA o h (fS F 22 i x) G := rfl
theorem tka23 {cA : Nat → ClassId} {o : Nat} {h : Nat → Nat} {F : xF} {G : xG} : (tkW cA o h F G)[19]? = some (h 23, .inl (cA 23, 15, .inl (F 23))) := rfl
theorem tkt23 {cA : Nat → ClassId} : (tkTy cA)[18]? = some (cA 23, .int) := rfl
theorem tks23 {cA : Nat → ClassId} {o : Nat} {h : Nat → Nat} {F : xF} {G : xG} {i : Nat} {x : Int32} : (tkW cA o h F G).set 19 (h 23, .inl (cA 23, 15, .inl (upd (F 23) i x))) = tkW cA o h (fS F 23 i x) G := rfl
theorem tka24 {cA : Nat → ClassId} {o : Nat} {h : Nat → Nat} {F : xF} {G : xG} : (tkW cA o h F G)[20]? = some (h 24, .inl (cA 24, 15, .inl (F 24))) := rfl
theorem tkt24 {cA : Nat → ClassId} : (tkTy cA)[19]? = some (cA 24, .boolean) := rfl
theorem tks24 {cA : Nat → ClassId} {o : Nat} {h : Nat → Nat} {F : xF} {G : xG} {i : Nat} {x : Int32} : (tkW cA o h F G).set 20 (h 24, .inl (cA 24, 15, .inl (upd (F 24) i x))) = tkW cA o h (fS F 24 i x) G := rfl
theorem tka25 {cA : Nat → ClassId} {o : Nat} {h : Nat → Nat} {F : xF} {G : xG} : (tkW cA o h F G)[21]? = some (h 25, .inl (cA 25, 15, .inl (F 25))) := rfl
theorem tkt25 {cA : Nat → ClassId} : (tkTy cA)[20]? = some (cA 25, .int) := rfl
theorem tks25 {cA : Nat → ClassId} {o : Nat} {h : Nat → Nat} {F : xF} {G : xG} {i : Nat} {x : Int32} : (tkW cA o h F G).set 21 (h 25, .inl (cA 25, 15, .inl (upd (F 25) i x))) = tkW cA o h (fS F 25 i x) G := rfl
theorem tka26 {cA : Nat → ClassId} {o : Nat} {h : Nat → Nat} {F : xF} {G : xG} : (tkW cA o h F G)[22]? = some (h 26, .inl (cA 26, 15, .inl (F 26))) := rfl
theorem tkt26 {cA : Nat → ClassId} : (tkTy cA)[21]? = some (cA 26, .int) := rfl
theorem tks26 {cA : Nat → ClassId} {o : Nat} {h : Nat → Nat} {F : xF} {G : xG} {i : Nat} {x : Int32} : (tkW cA o h F G).set 22 (h 26, .inl (cA 26, 15, .inl (upd (F 26) i x))) = tkW cA o h (fS F 26 i x) G := rfl
theorem tka27 {cA : Nat → ClassId} {o : Nat} {h : Nat → Nat} {F : xF} {G : xG} : (tkW cA o h F G)[23]? = some (h 27, .inl (cA 27, 15, .inl (F 27))) := rfl
theorem tkt27 {cA : Nat → ClassId} : (tkTy cA)[22]? = some (cA 27, .int) := rfl
theorem tks27 {cA : Nat → ClassId} {o : Nat} {h : Nat → Nat} {F : xF} {G : xG} {i : Nat} {x : Int32} : (tkW cA o h F G).set 23 (h 27, .inl (cA 27, 15, .inl (upd (F 27) i x))) = tkW cA o h (fS F 27 i x) G := rfl
theorem tka28 {cA : Nat → ClassId} {o : Nat} {h : Nat → Nat} {F : xF} {G : xG} : (tkW cA o h F G)[24]? = some (h 28, .inl (cA 28, 31, .inl (F 28))) := rfl
theorem tkt28 {cA : Nat → ClassId} : (tkTy cA)[23]? = some (cA 28, .int) := rfl
theorem tks28 {cA : Nat → ClassId} {o : Nat} {h : Nat → Nat} {F : xF} {G : xG} {i : Nat} {x : Int32} : (tkW cA o h F G).set 24 (h 28, .inl (cA 28, 31, .inl (upd (F 28) i x))) = tkW cA o h (fS F 28 i x) G := rfl
theorem tkp5 {cA : Nat → ClassId} {o : Nat} {h : Nat → Nat} {F : xF} {G : xG} {v : Int32} : (tkW cA o h F G).set 0 (o, .inr (0, (tkFs h G).set 5 (.int v))) = tkW cA o h F (gS G 5 v) := rfl
theorem tkp10 {cA : Nat → ClassId} {o : Nat} {h : Nat → Nat} {F : xF} {G : xG} {v : Int32} : (tkW cA o h F G).set 0 (o, .inr (0, (tkFs h G).set 10 (.int v))) = tkW cA o h F (gS G 10 v) := rfl
theorem tkp11 {cA : Nat → ClassId} {o : Nat} {h : Nat → Nat} {F : xF} {G : xG} {v : Int32} : (tkW cA o h F G).set 0 (o, .inr (0, (tkFs h G).set 11 (.int v))) = tkW cA o h F (gS G 11 v) := rfl
theorem tkp19 {cA : Nat → ClassId} {o : Nat} {h : Nat → Nat} {F : xF} {G : xG} {v : Int32} : (tkW cA o h F G).set 0 (o, .inr (0, (tkFs h G).set 19 (.int v))) = tkW cA o h F (gS G 19 v) := rfl
theorem tkp20 {cA : Nat → ClassId} {o : Nat} {h : Nat → Nat} {F : xF} {G : xG} {v : Int32} : (tkW cA o h F G).set 0 (o, .inr (0, (tkFs h G).set 20 (.int v))) = tkW cA o h F (gS G 20 v) := rfl
theorem tkp29 {cA : Nat → ClassId} {o : Nat} {h : Nat → Nat} {F : xF} {G : xG} {v : Int32} : (tkW cA o h F G).set 0 (o, .inr (0, (tkFs h G).set 29 (.int v))) = tkW cA o h F (gS G 29 v) := rfl
theorem tkp30 {cA : Nat → ClassId} {o : Nat} {h : Nat → Nat} {F : xF} {G : xG} {v : Int32} : (tkW cA o h F G).set 0 (o, .inr (0, (tkFs h G).set 30 (.int v))) = tkW cA o h F (gS G 30 v) := rfl
theorem tkp31 {cA : Nat → ClassId} {o : Nat} {h : Nat → Nat} {F : xF} {G : xG} {v : Int32} : (tkW cA o h F G).set 0 (o, .inr (0, (tkFs h G).set 31 (.int v))) = tkW cA o h F (gS G 31 v) := rfl
theorem tkp32 {cA : Nat → ClassId} {o : Nat} {h : Nat → Nat} {F : xF} {G : xG} {v : Int32} : (tkW cA o h F G).set 0 (o, .inr (0, (tkFs h G).set 32 (.int v))) = tkW cA o h F (gS G 32 v) := rfl
end
section
set_option maxRecDepth 100000
set_option maxHeartbeats 4000000
/-! the world of one TreeContractModel: its object and arrays -/
def tmFs (h : Nat → Nat) (G : xG) : List Value := [.ref (h 0), .ref (h 1), .ref (h 2), .ref (h 3), .ref (h 4), .ref (h 5), .ref (h 6), .ref (h 7)]
def tmW (cA : Nat → ClassId) (o : Nat) (h : Nat → Nat) (F : xF) (G : xG) : va_W := [(o, .inr (1, tmFs h G)), (h 0, .inl (cA 0, 31, .inl (F 0))), (h 1, .inl (cA 1, 31, .inl (F 1))), (h 2, .inl (cA 2, 31, .inl (F 2))), (h 3, .inl (cA 3, 31, .inl (F 3))), (h 4, .inl (cA 4, 31, .inl (F 4))), (h 5, .inl (cA 5, 31, .inl (F 5))), (h 6, .inl (cA 6, 31, .inl (F 6))), (h 7, .inl (cA 7, 31, .inl (F 7)))]
def tmTy (cA : Nat → ClassId) : List (ClassId × FieldType) := [(cA 0, .boolean), (cA 1, .boolean), (cA 2, .int), (cA 3, .int), (cA 4, .int), (cA 5, .int), (cA 6, .boolean), (cA 7, .int)]
def tmA (cA : Nat → ClassId) (o : Nat) (h : Nat → Nat) (sz : Nat) : Nat → Prop := va_A (tmW cA o h (fun _ _ => 0) (fun _ => 0)) sz
theorem tmA_eq {cA : Nat → ClassId} {o : Nat} {h : Nat → Nat} {F : xF} {G : xG} {sz : Nat} : va_A (tmW cA o h F G) sz = tmA cA o h sz := va_A_fst rfl
def tmC (p : Program) (c : Code) (cc : ByteArray) (nL : Nat) (s : State) (m : MethodId) (args : Array Value) (D : va_G) (cA : Nat → ClassId) (A : Nat → Prop) : Prop := p.tables.exec = Jvm.exec ∧ c.code = cc ∧ c.maxLocals = nL ∧ s.vm.findClass RX1 = some m.cls ∧ (∀ w ∈ lw_all, w.before args s = true) ∧ va_K D vwCl (tmTy cA) s ∧ (∀ q : Nat, s.heap.size ≤ q → A q)
def tmT (D : va_G) (cA : Nat → ClassId) (o : Nat) (h : Nat → Nat) (A : Nat → Prop) (H0 : Heap) (F : xF) (G : xG) (H : Heap) (locs : List Loc) : Prop := va_P D vwCl (tmW cA o h F G) H ∧ va_D A (tmW cA o h F G) ∧ va_S A H0 H locs
abbrev tmPre (D : va_G) (cA : Nat → ClassId) (o : Nat) (h : Nat → Nat) (F : xF) (G : xG) (sz : Nat) (U : State) : Prop := U.heap.size = sz ∧ va_P D vwCl (tmW cA o h F G) U.heap ∧ va_K D vwCl (tmTy cA) U ∧ va_D (fun _ => True) (tmW cA o h F G)
abbrev tmB (D : va_G) (cA : Nat → ClassId) (o : Nat) (h : Nat → Nat) (A : Nat → Prop) (u : xF × xG) (t : State) : Prop := va_P D vwCl (tmW cA o h u.1 u.2) t.heap ∧ va_K D vwCl (tmTy cA) t ∧ va_D A (tmW cA o h u.1 u.2)
abbrev tmQi (D : va_G) (cA : Nat → ClassId) (o : Nat) (h : Nat → Nat) (A : Nat → Prop) (rv : Int32) (F1 : xF) (G1 : xG) : Array Value → State → Outcome → State → Prop := va_Qi (fun (r : Int32) (u : xF × xG) => r = rv ∧ u = (F1, G1)) (tmB D cA o h A) A
abbrev tmQv (D : va_G) (cA : Nat → ClassId) (o : Nat) (h : Nat → Nat) (A : Nat → Prop) (F1 : xF) (G1 : xG) : Array Value → State → Outcome → State → Prop := va_Qv (fun (u : xF × xG) => u = (F1, G1)) (tmB D cA o h A) A
/-- the contract: from F, G it answers rv and leaves F1, G1 -/
def tmMi (l : Launch) (y : MethodName) (bytes : ByteArray) (maxL : Nat) (ret : Option FieldType) (rm : Room) (D : va_G) (cA : Nat → ClassId) (o : Nat) (h : Nat → Nat) (As : List Value) (F : xF) (G : xG) (rv : Int32) (F1 : xF) (G1 : xG) : Prop := ∀ sz : Nat, Met l y (ws_ y bytes maxL ret) rm (va_Pc As (tmPre D cA o h F G sz)) (tmQi D cA o h (tmA cA o h sz) rv F1 G1) 0 0 (tmA cA o h sz)
def tmMv (l : Launch) (y : MethodName) (bytes : ByteArray) (maxL : Nat) (rm : Room) (D : va_G) (cA : Nat → ClassId) (o : Nat) (h : Nat → Nat) (As : List Value) (F : xF) (G : xG) (F1 : xF) (G1 : xG) : Prop := ∀ sz : Nat, Met l y (ws_ y bytes maxL none) rm (va_Pc As (tmPre D cA o h F G sz)) (tmQv D cA o h (tmA cA o h sz) F1 G1) 0 0 (tmA cA o h sz)
section TMR
variable {p : Program} {l : Launch} {e : Env} {R : Room} {s : State} {m : MethodId} {args : Array Value} {below : List Frame} {meth : Method} {c : Code} {H : Heap} {locs : List Loc} {cells slots : Nat} {Q : State → Prop}
variable {cc : ByteArray} {pc nL : Nat} {ls : Array Slot} {rest : List Value} {D : va_G} {A : Nat → Prop} {cA : Nat → ClassId} {o : Nat} {h : Nat → Nat} {F : xF} {G : xG}
theorem tm_get (C : tmC p c cc nL s m args D cA A) (T : tmT D cA o h A s.heap F G H locs) (k : Nat) (hk : k < 8) {index : Nat} (hlink : Cond.fieldLink RX1 index RX1 (TX1 k).2.1 (TX1 k).2.2.1 ∈ lw_all) (hs : (TX1 k).1 = RX1) {v : Value} (hv : (tmFs h G)[k]? = some v) (hdg : decode cc pc = .ok (.getfield index, 3)) (kk : W p l e R s m args below meth c H locs cells slots Q (F0 m (pc + 3) ls (v :: rest))) : W p l e R s m args below meth c H locs cells slots Q (F0 m pc ls (.ref o :: rest)) :=
  va_get C.1 C.2.1 C.2.2.2.2.1 in_X1 C.2.2.2.1 C.2.2.2.2.2.1 T.1 0 rfl rfl k hk (C.2.2.2.2.1 _ hlink) (by rw [hs]; exact fun _ h => h) hv hdg kk
theorem tm_put (C : tmC p c cc nL s m args D cA A) (T : tmT D cA o h A s.heap F G H locs) (k : Nat) (hk : k < 8) {index : Nat} (hlink : Cond.fieldLink RX1 index RX1 (TX1 k).2.1 (TX1 k).2.2.1 ∈ lw_all) (hs : (TX1 k).1 = RX1) (hfin : (TX1 k).2.2.2 = false) {ty : FieldType} {v : Int32} (hd : parseFieldDescriptor (TX1 k).2.2.1 = some ty) (hn : narrow ty (.int v) = .int v) (hfit : fits ty (.int v) = true) (hset : (tmW cA o h F G).set 0 (o, .inr (1, (tmFs h G).set k (.int v))) = tmW cA o h F (gS G k v)) (hdg : decode cc pc = .ok (.putfield index, 3)) (kk : ∀ (H : Heap) (locs : List Loc), tmT D cA o h A s.heap F (gS G k v) H locs → W p l e R s m args below meth c H locs cells slots Q (F0 m (pc + 3) ls rest)) : W p l e R s m args below meth c H locs cells slots Q (F0 m pc ls (.int v :: .ref o :: rest)) := by
  refine va_put C.1 C.2.1 C.2.2.2.2.1 in_X1 tyX1 tyX1_ok nmX1 C.2.2.2.1 C.2.2.2.2.2.1 T.1 T.2.1 T.2.2 0 rfl rfl k hk (C.2.2.2.2.1 _ hlink) (by rw [hs]; exact fun _ h => h) hfin hd hn hfit (show k < (tmFs h G).length from hk) hdg (fun H locs hP hD hS => ?_)
  rw [hset] at hP hD
  exact kk H locs ⟨hP, hD, hS⟩
theorem tm_iald (C : tmC p c cc nL s m args D cA A) (T : tmT D cA o h A s.heap F G H locs) (k q0 t0 n : Nat) (ha : (tmW cA o h F G)[q0]? = some (h k, .inl (cA k, n, .inl (F k)))) (ht : (tmTy cA)[t0]? = some (cA k, .int)) {i : Int32} (hin : vp_in i n) {v : Int32} (hv : F k i.toNatClampNeg = v) (hdg : decode cc pc = .ok (.iaload, 1)) (kk : W p l e R s m args below meth c H locs cells slots Q (F0 m (pc + 1) ls (.int v :: rest))) : W p l e R s m args below meth c H locs cells slots Q (F0 m pc ls (.int i :: .ref (h k) :: rest)) := by
  subst hv
  exact va_iald C.1 C.2.1 C.2.2.2.2.2.1 T.1 q0 t0 ha ht hin hdg kk
theorem tm_ialdN (C : tmC p c cc nL s m args D cA A) (T : tmT D cA o h A s.heap F G H locs) (k q0 t0 n : Nat) (ha : (tmW cA o h F G)[q0]? = some (h k, .inl (cA k, n, .inl (F k)))) (ht : (tmTy cA)[t0]? = some (cA k, .int)) (hn : n < 2 ^ 31) {i : Nat} (hin : i < n) {v : Int32} (hv : F k i = v) (hdg : decode cc pc = .ok (.iaload, 1)) (kk : W p l e R s m args below meth c H locs cells slots Q (F0 m (pc + 1) ls (.int v :: rest))) : W p l e R s m args below meth c H locs cells slots Q (F0 m pc ls (.int (nI i) :: .ref (h k) :: rest)) :=
  tm_iald C T k q0 t0 n ha ht (vp_in_nI hin hn) (by rw [nI_clamp (Nat.lt_trans hin hn)]; exact hv) hdg kk
theorem tm_iast (C : tmC p c cc nL s m args D cA A) (T : tmT D cA o h A s.heap F G H locs) (k q0 t0 n : Nat) (ha : (tmW cA o h F G)[q0]? = some (h k, .inl (cA k, n, .inl (F k)))) (ht : (tmTy cA)[t0]? = some (cA k, .int)) {i x : Int32} (hin : vp_in i n) (hset : (tmW cA o h F G).set q0 (h k, .inl (cA k, n, .inl (upd (F k) i.toNatClampNeg x))) = tmW cA o h (fS F k i.toNatClampNeg x) G) (hdg : decode cc pc = .ok (.iastore, 1)) (kk : ∀ (H : Heap) (locs : List Loc), tmT D cA o h A s.heap (fS F k i.toNatClampNeg x) G H locs → W p l e R s m args below meth c H locs cells slots Q (F0 m (pc + 1) ls rest)) : W p l e R s m args below meth c H locs cells slots Q (F0 m pc ls (.int x :: .int i :: .ref (h k) :: rest)) := by
  refine va_iast C.1 C.2.1 C.2.2.2.2.2.1 T.1 T.2.1 T.2.2 q0 t0 ha ht hin hdg (fun H locs hP hD hS => ?_)
  rw [hset] at hP hD
  exact kk H locs ⟨hP, hD, hS⟩
theorem tm_iastN (C : tmC p c cc nL s m args D cA A) (T : tmT D cA o h A s.heap F G H locs) (k q0 t0 n : Nat) (ha : (tmW cA o h F G)[q0]? = some (h k, .inl (cA k, n, .inl (F k)))) (ht : (tmTy cA)[t0]? = some (cA k, .int)) (hn : n < 2 ^ 31) {i : Nat} {x : Int32} (hin : i < n) (hset : (tmW cA o h F G).set q0 (h k, .inl (cA k, n, .inl (upd (F k) i x))) = tmW cA o h (fS F k i x) G) (hdg : decode cc pc = .ok (.iastore, 1)) (kk : ∀ (H : Heap) (locs : List Loc), tmT D cA o h A s.heap (fS F k i x) G H locs → W p l e R s m args below meth c H locs cells slots Q (F0 m (pc + 1) ls rest)) : W p l e R s m args below meth c H locs cells slots Q (F0 m pc ls (.int x :: .int (nI i) :: .ref (h k) :: rest)) := by
  have e := nI_clamp (Nat.lt_trans hin hn)
  refine tm_iast C T k q0 t0 n ha ht (vp_in_nI hin hn) (by rw [e]; exact hset) hdg (fun H locs T => ?_)
  rw [e] at T
  exact kk H locs T
theorem tm_zald (C : tmC p c cc nL s m args D cA A) (T : tmT D cA o h A s.heap F G H locs) (k q0 t0 n : Nat) (ha : (tmW cA o h F G)[q0]? = some (h k, .inl (cA k, n, .inl (F k)))) (ht : (tmTy cA)[t0]? = some (cA k, .boolean)) {i : Int32} (hin : vp_in i n) {v : Int32} (hv : F k i.toNatClampNeg = v) (hdg : decode cc pc = .ok (.baload, 1)) (kk : W p l e R s m args below meth c H locs cells slots Q (F0 m (pc + 1) ls (.int v :: rest))) : W p l e R s m args below meth c H locs cells slots Q (F0 m pc ls (.int i :: .ref (h k) :: rest)) := by
  subst hv
  exact va_zald C.1 C.2.1 C.2.2.2.2.2.1 T.1 q0 t0 ha ht hin hdg kk
theorem tm_zaldN (C : tmC p c cc nL s m args D cA A) (T : tmT D cA o h A s.heap F G H locs) (k q0 t0 n : Nat) (ha : (tmW cA o h F G)[q0]? = some (h k, .inl (cA k, n, .inl (F k)))) (ht : (tmTy cA)[t0]? = some (cA k, .boolean)) (hn : n < 2 ^ 31) {i : Nat} (hin : i < n) {v : Int32} (hv : F k i = v) (hdg : decode cc pc = .ok (.baload, 1)) (kk : W p l e R s m args below meth c H locs cells slots Q (F0 m (pc + 1) ls (.int v :: rest))) : W p l e R s m args below meth c H locs cells slots Q (F0 m pc ls (.int (nI i) :: .ref (h k) :: rest)) :=
  tm_zald C T k q0 t0 n ha ht (vp_in_nI hin hn) (by rw [nI_clamp (Nat.lt_trans hin hn)]; exact hv) hdg kk
theorem tm_zast (C : tmC p c cc nL s m args D cA A) (T : tmT D cA o h A s.heap F G H locs) (k q0 t0 n : Nat) (ha : (tmW cA o h F G)[q0]? = some (h k, .inl (cA k, n, .inl (F k)))) (ht : (tmTy cA)[t0]? = some (cA k, .boolean)) {i x : Int32} (hb : vp_nar .boolean x = x) (hin : vp_in i n) (hset : (tmW cA o h F G).set q0 (h k, .inl (cA k, n, .inl (upd (F k) i.toNatClampNeg x))) = tmW cA o h (fS F k i.toNatClampNeg x) G) (hdg : decode cc pc = .ok (.bastore, 1)) (kk : ∀ (H : Heap) (locs : List Loc), tmT D cA o h A s.heap (fS F k i.toNatClampNeg x) G H locs → W p l e R s m args below meth c H locs cells slots Q (F0 m (pc + 1) ls rest)) : W p l e R s m args below meth c H locs cells slots Q (F0 m pc ls (.int x :: .int i :: .ref (h k) :: rest)) := by
  refine va_zast C.1 C.2.1 C.2.2.2.2.2.1 T.1 T.2.1 T.2.2 q0 t0 ha ht hin hdg (fun H locs hP hD hS => ?_)
  rw [hb, hset] at hP hD
  exact kk H locs ⟨hP, hD, hS⟩
theorem tm_zastN (C : tmC p c cc nL s m args D cA A) (T : tmT D cA o h A s.heap F G H locs) (k q0 t0 n : Nat) (ha : (tmW cA o h F G)[q0]? = some (h k, .inl (cA k, n, .inl (F k)))) (ht : (tmTy cA)[t0]? = some (cA k, .boolean)) (hn : n < 2 ^ 31) {i : Nat} {x : Int32} (hb : vp_nar .boolean x = x) (hin : i < n) (hset : (tmW cA o h F G).set q0 (h k, .inl (cA k, n, .inl (upd (F k) i x))) = tmW cA o h (fS F k i x) G) (hdg : decode cc pc = .ok (.bastore, 1)) (kk : ∀ (H : Heap) (locs : List Loc), tmT D cA o h A s.heap (fS F k i x) G H locs → W p l e R s m args below meth c H locs cells slots Q (F0 m (pc + 1) ls rest)) : W p l e R s m args below meth c H locs cells slots Q (F0 m pc ls (.int x :: .int (nI i) :: .ref (h k) :: rest)) := by
  have e := nI_clamp (Nat.lt_trans hin hn)
  refine tm_zast C T k q0 t0 n ha ht hb (vp_in_nI hin hn) (by rw [e]; exact hset) hdg (fun H locs T => ?_)
  rw [e] at T
  exact kk H locs T
theorem tm_ofi {y : MethodName} {maxL : Nat} {ret : Option FieldType} {rm : Room} {As : List Value} {rv : Int32} {F1 : xF} {G1 : xG} (hy : plainName y.cls = true) (hyc : y.cls = RX1) (hAs : (lg_sl As).length ≤ maxL) (body : ∀ (p : Program) (e : Env) (s : State) (m : MethodId) (below : List Frame) (meth : Method) (c : Code) (A : Nat → Prop) (ls : Array Slot), tmC p c cc maxL s m As.toArray D cA A → tmT D cA o h A s.heap F G s.heap [] → meth.sig.returnType = ret → meth.locks = false → lv_has ls maxL (lv_args 0 As) → W p l e rm s m As.toArray below meth c s.heap [] 0 0 (MQ below (tmQi D cA o h A rv F1 G1) As.toArray s 0 0 A) (F0 m 0 ls [])) : tmMi l y cc maxL ret rm D cA o h As F G rv F1 G1 := by
  intro sz
  refine Met.ofW (cc := cc) (maxL := maxL) (ret := ret) hy rfl ?_
  intro p e s m args below meth c s₁ B hml hv
  obtain ⟨rfl, hsz, hP, hK, hD0⟩ := hv
  have hts := atoms_spec (ws := ws_ y cc maxL ret) B.pre
  have hts : ∀ w ∈ lw_all, w.before _ s = true := fun w h => hts w (List.mem_cons_of_mem _ h)
  have hown : s.vm.findClass y.cls = some m.cls := findClass_of_methodNamed B.named
  rw [hyc] at hown
  subst hsz
  have hD := hD0.self (sz := s.heap.size)
  rw [tmA_eq] at hD
  have hA : ∀ q : Nat, s.heap.size ≤ q → tmA cA o h s.heap.size q := fun q h => Or.inr h
  have hl := lv_entry As (n := maxL) hAs
  rw [lg_entry_eq]
  exact body p e s m below meth c (tmA cA o h s.heap.size) _ ⟨B.exec, B.bytes, hml, hown, hts, hK, hA⟩ ⟨hP, hD, va_S.rf⟩ B.returns B.notSynchronized hl
theorem tm_ofv {y : MethodName} {maxL : Nat} {rm : Room} {As : List Value} {F1 : xF} {G1 : xG} (hy : plainName y.cls = true) (hyc : y.cls = RX1) (hAs : (lg_sl As).length ≤ maxL) (body : ∀ (p : Program) (e : Env) (s : State) (m : MethodId) (below : List Frame) (meth : Method) (c : Code) (A : Nat → Prop) (ls : Array Slot), tmC p c cc maxL s m As.toArray D cA A → tmT D cA o h A s.heap F G s.heap [] → meth.sig.returnType = none → meth.locks = false → lv_has ls maxL (lv_args 0 As) → W p l e rm s m As.toArray below meth c s.heap [] 0 0 (MQ below (tmQv D cA o h A F1 G1) As.toArray s 0 0 A) (F0 m 0 ls [])) : tmMv l y cc maxL rm D cA o h As F G F1 G1 := by
  intro sz
  refine Met.ofW (cc := cc) (maxL := maxL) (ret := none) hy rfl ?_
  intro p e s m args below meth c s₁ B hml hv
  obtain ⟨rfl, hsz, hP, hK, hD0⟩ := hv
  have hts := atoms_spec (ws := ws_ y cc maxL none) B.pre
  have hts : ∀ w ∈ lw_all, w.before _ s = true := fun w h => hts w (List.mem_cons_of_mem _ h)
  have hown : s.vm.findClass y.cls = some m.cls := findClass_of_methodNamed B.named
  rw [hyc] at hown
  subst hsz
  have hD := hD0.self (sz := s.heap.size)
  rw [tmA_eq] at hD
  have hA : ∀ q : Nat, s.heap.size ≤ q → tmA cA o h s.heap.size q := fun q h => Or.inr h
  have hl := lv_entry As (n := maxL) hAs
  rw [lg_entry_eq]
  exact body p e s m below meth c (tmA cA o h s.heap.size) _ ⟨B.exec, B.bytes, hml, hown, hts, hK, hA⟩ ⟨hP, hD, va_S.rf⟩ B.returns B.notSynchronized hl
theorem tm_iret (C : tmC p c cc nL s m args D cA A) (T : tmT D cA o h A s.heap F G H locs) {r rv : Int32} {F1 : xF} {G1 : xG} (hr : meth.sig.returnType = some .int) (hlk : meth.locks = false) (he : r = rv) (hs : (F, G) = (F1, G1)) (hdg : decode cc pc = .ok (.ireturn, 1)) : W p l e R s m args below meth c H locs 0 0 (MQ below (tmQi D cA o h A rv F1 G1) args s 0 0 A) (F0 m pc ls [.int r]) :=
  W.iret C.1 C.2.1 hr (fun t ht hW => ⟨⟨r, (F, G), rfl, ⟨he, hs⟩, by rw [ht]; exact T.1, va_K.moved hW.alike C.2.2.2.2.2.1, T.2.1⟩, T.2.2.F ht⟩) T.2.2.2.2 hdg hlk
theorem tm_zret (C : tmC p c cc nL s m args D cA A) (T : tmT D cA o h A s.heap F G H locs) {r rv : Int32} {F1 : xF} {G1 : xG} (hr : meth.sig.returnType = some .boolean) (hlk : meth.locks = false) (hz : narrow .boolean (.int r) = .int r) (he : r = rv) (hs : (F, G) = (F1, G1)) (hdg : decode cc pc = .ok (.ireturn, 1)) : W p l e R s m args below meth c H locs 0 0 (MQ below (tmQi D cA o h A rv F1 G1) args s 0 0 A) (F0 m pc ls [.int r]) :=
  W.zret C.1 C.2.1 hr hz (fun t ht hW => ⟨⟨r, (F, G), rfl, ⟨he, hs⟩, by rw [ht]; exact T.1, va_K.moved hW.alike C.2.2.2.2.2.1, T.2.1⟩, T.2.2.F ht⟩) T.2.2.2.2 hdg hlk
theorem tm_vret (C : tmC p c cc nL s m args D cA A) (T : tmT D cA o h A s.heap F G H locs) {F1 : xF} {G1 : xG} (hr : meth.sig.returnType = none) (hlk : meth.locks = false) (hs : (F, G) = (F1, G1)) (hdg : decode cc pc = .ok (.return_, 1)) : W p l e R s m args below meth c H locs 0 0 (MQ below (tmQv D cA o h A F1 G1) args s 0 0 A) (F0 m pc ls []) :=
  W.vret C.1 C.2.1 hr (fun t ht hW => ⟨⟨(F, G), rfl, hs, by rw [ht]; exact T.1, va_K.moved hW.alike C.2.2.2.2.2.1, T.2.1⟩, T.2.2.F ht⟩) T.2.2.2.2 hdg hlk
theorem tm_fr (C : tmC p c cc nL s m args D cA A) (T : tmT D cA o h A s.heap F G H locs) : ∀ q, tmA cA o h H.size q → A q := by
  rw [← tmA_eq (F := F) (G := G)]
  intro q hq
  rcases hq with ⟨k, e, hk⟩ | hq
  · exact T.2.1.2 k _ hk
  · exact C.2.2.2.2.2.2 q (Nat.le_trans T.2.2.1 hq)
theorem tm_calli (C : tmC p c cc nL s m args D cA A) (T : tmT D cA o h A s.heap F G H locs) {y : MethodName} {bytes : ByteArray} {maxL idx n : Nat} {ret : Option FieldType} {rm : Room} {As rest st : List Value} {rv : Int32} {F1 : xF} {G1 : xG} (hM : tmMi l y bytes maxL ret rm D cA o h (.ref o :: As) F G rv F1 G1) (hl : Cond.methodLink RX1 idx y ∈ lw_all) (hi : Cond.instanceMethod y ∈ lw_all) (hse : Cond.selects RX1 y y ∈ lw_all) (hc : Cond.code y bytes maxL ret ∈ lw_all) (hrc : rm.cells = 0) (hrs : rm.slots = 0) (hd : y.cls = RX1 ∧ y.cls ≠ "java/lang/invoke/MethodHandle" ∧ y.cls ≠ "java/lang/invoke/VarHandle" ∧ (parseMethodDescriptor y.desc).map (fun d => d.parameters.length) = some n) (hR : rm.frames + 1 ≤ R.frames ∧ 8 + (maxL + 11) + rm.locals ≤ R.locals) (hn : As.length = n) (hls : ls.size = nL) (hroom : (rest.map fun v => v.category).sum ≤ 8) (hcs : cells ≤ R.cells ∧ slots ≤ R.slots) (hst : st = As.reverse ++ .ref o :: rest) (hdg : decode cc pc = .ok (.invokevirtual idx, 3)) (kk : ∀ (H : Heap) (locs : List Loc), tmT D cA o h A s.heap F1 G1 H locs → W p l e R s m args below meth c H locs cells slots Q (F0 m (pc + 3) ls (.int rv :: rest))) : W p l e R s m args below meth c H locs cells slots Q (F0 m pc ls st) := by
  have hF := tm_fr C T
  obtain ⟨hx, hb, hml, hown, hts, hK, hA⟩ := C
  obtain ⟨hP, hD, hS⟩ := T
  refine va_calli (va_runV (As := As) (rest := rest) ⟨hx, hb, hml, hown, hts⟩ (hM H.size) (cwV n hts (lw_V hl hi hse q20 hc) rfl hrc hrs hd hR) ⟨fun a U g mk q => by obtain ⟨q0, q1, qP, qK, qD⟩ := q; exact ⟨q0, q1, qP, va_K.moved (u := U) (U := U.calling g mk a) (Vm.Alike.refl U.vm) qK, qD⟩, va_recv hK hP (ci := 1) (q0 := 0) rfl rfl, fun U hU hW => ⟨rfl, by rw [hU], by rw [hU]; exact hP, va_K.moved hW.alike hK, hD.weaken (fun _ _ _ _ => trivial)⟩⟩ rfl hn hls hst (lv_room hroom) hdg hcs) hS (fun q _ h => hF q h) hF (fun r u t H1 locs1 ht hvm hp hB hz1 hk1 hS1 => ?_)
  obtain ⟨rfl, rfl⟩ := hp
  obtain ⟨hP1, hK1, hD1⟩ := hB
  rw [ht] at hP1
  exact kk H1 locs1 ⟨hP1, hD1.weaken (fun _ q _ h => hF q.1 h), hS1⟩
theorem tm_scalli (C : tmC p c cc nL s m args D cA A) (T : tmT D cA o h A s.heap F G H locs) {y : MethodName} {bytes : ByteArray} {maxL idx n : Nat} {ret : Option FieldType} {rm : Room} {As rest st : List Value} {rv : Int32} {F1 : xF} {G1 : xG} (hM : tmMi l y bytes maxL ret rm D cA o h As F G rv F1 G1) (hl : Cond.methodLink RX1 idx y ∈ lw_all) (hi : Cond.static y ∈ lw_all) (hc : Cond.code y bytes maxL ret ∈ lw_all) (hrc : rm.cells = 0) (hrs : rm.slots = 0) (hd : y.cls = RX1 ∧ y.cls ≠ "java/lang/invoke/MethodHandle" ∧ y.cls ≠ "java/lang/invoke/VarHandle" ∧ (parseMethodDescriptor y.desc).map (fun d => d.parameters.length) = some n) (hR : rm.frames + 1 ≤ R.frames ∧ 8 + (maxL + 11) + rm.locals ≤ R.locals) (hn : As.length = n) (hls : ls.size = nL) (hroom : (rest.map fun v => v.category).sum ≤ 8) (hcs : cells ≤ R.cells ∧ slots ≤ R.slots) (hst : st = As.reverse ++ rest) (hdg : decode cc pc = .ok (.invokestatic idx, 3)) (kk : ∀ (H : Heap) (locs : List Loc), tmT D cA o h A s.heap F1 G1 H locs → W p l e R s m args below meth c H locs cells slots Q (F0 m (pc + 3) ls (.int rv :: rest))) : W p l e R s m args below meth c H locs cells slots Q (F0 m pc ls st) := by
  have hF := tm_fr C T
  obtain ⟨hx, hb, hml, hown, hts, hK, hA⟩ := C
  obtain ⟨hP, hD, hS⟩ := T
  refine va_calli (va_runS (As := As) (rest := rest) ⟨hx, hb, hml, hown, hts⟩ (hM H.size) (va_cwS n hts (lw_S hl hi (by rw [hd.1]; exact q20) hc) rfl hrc hrs hd.2 hR) ⟨fun a U g mk q => by obtain ⟨q0, q1, qP, qK, qD⟩ := q; exact ⟨q0, q1, qP, va_K.moved (u := U) (U := U.calling g mk a) (Vm.Alike.refl U.vm) qK, qD⟩, fun U hU hW => ⟨rfl, by rw [hU], by rw [hU]; exact hP, va_K.moved hW.alike hK, hD.weaken (fun _ _ _ _ => trivial)⟩⟩ rfl hn hls hst (lv_room hroom) hdg hcs) hS (fun q _ h => hF q h) hF (fun r u t H1 locs1 ht hvm hp hB hz1 hk1 hS1 => ?_)
  obtain ⟨rfl, rfl⟩ := hp
  obtain ⟨hP1, hK1, hD1⟩ := hB
  rw [ht] at hP1
  exact kk H1 locs1 ⟨hP1, hD1.weaken (fun _ q _ h => hF q.1 h), hS1⟩
theorem tm_callv (C : tmC p c cc nL s m args D cA A) (T : tmT D cA o h A s.heap F G H locs) {y : MethodName} {bytes : ByteArray} {maxL idx n : Nat} {rm : Room} {As rest st : List Value} {F1 : xF} {G1 : xG} (hM : tmMv l y bytes maxL rm D cA o h (.ref o :: As) F G F1 G1) (hl : Cond.methodLink RX1 idx y ∈ lw_all) (hi : Cond.instanceMethod y ∈ lw_all) (hse : Cond.selects RX1 y y ∈ lw_all) (hc : Cond.code y bytes maxL none ∈ lw_all) (hrc : rm.cells = 0) (hrs : rm.slots = 0) (hd : y.cls = RX1 ∧ y.cls ≠ "java/lang/invoke/MethodHandle" ∧ y.cls ≠ "java/lang/invoke/VarHandle" ∧ (parseMethodDescriptor y.desc).map (fun d => d.parameters.length) = some n) (hR : rm.frames + 1 ≤ R.frames ∧ 8 + (maxL + 11) + rm.locals ≤ R.locals) (hn : As.length = n) (hls : ls.size = nL) (hroom : (rest.map fun v => v.category).sum ≤ 8) (hcs : cells ≤ R.cells ∧ slots ≤ R.slots) (hst : st = As.reverse ++ .ref o :: rest) (hdg : decode cc pc = .ok (.invokevirtual idx, 3)) (kk : ∀ (H : Heap) (locs : List Loc), tmT D cA o h A s.heap F1 G1 H locs → W p l e R s m args below meth c H locs cells slots Q (F0 m (pc + 3) ls (rest))) : W p l e R s m args below meth c H locs cells slots Q (F0 m pc ls st) := by
  have hF := tm_fr C T
  obtain ⟨hx, hb, hml, hown, hts, hK, hA⟩ := C
  obtain ⟨hP, hD, hS⟩ := T
  refine va_callv (va_runV (As := As) (rest := rest) ⟨hx, hb, hml, hown, hts⟩ (hM H.size) (cwV n hts (lw_V hl hi hse q20 hc) rfl hrc hrs hd hR) ⟨fun a U g mk q => by obtain ⟨q0, q1, qP, qK, qD⟩ := q; exact ⟨q0, q1, qP, va_K.moved (u := U) (U := U.calling g mk a) (Vm.Alike.refl U.vm) qK, qD⟩, va_recv hK hP (ci := 1) (q0 := 0) rfl rfl, fun U hU hW => ⟨rfl, by rw [hU], by rw [hU]; exact hP, va_K.moved hW.alike hK, hD.weaken (fun _ _ _ _ => trivial)⟩⟩ rfl hn hls hst (lv_room hroom) hdg hcs) hS (fun q _ h => hF q h) hF (fun u t H1 locs1 ht hvm hp hB hz1 hk1 hS1 => ?_)
  subst hp
  obtain ⟨hP1, hK1, hD1⟩ := hB
  rw [ht] at hP1
  exact kk H1 locs1 ⟨hP1, hD1.weaken (fun _ q _ h => hF q.1 h), hS1⟩
theorem tm_scallv (C : tmC p c cc nL s m args D cA A) (T : tmT D cA o h A s.heap F G H locs) {y : MethodName} {bytes : ByteArray} {maxL idx n : Nat} {rm : Room} {As rest st : List Value} {F1 : xF} {G1 : xG} (hM : tmMv l y bytes maxL rm D cA o h As F G F1 G1) (hl : Cond.methodLink RX1 idx y ∈ lw_all) (hi : Cond.static y ∈ lw_all) (hc : Cond.code y bytes maxL none ∈ lw_all) (hrc : rm.cells = 0) (hrs : rm.slots = 0) (hd : y.cls = RX1 ∧ y.cls ≠ "java/lang/invoke/MethodHandle" ∧ y.cls ≠ "java/lang/invoke/VarHandle" ∧ (parseMethodDescriptor y.desc).map (fun d => d.parameters.length) = some n) (hR : rm.frames + 1 ≤ R.frames ∧ 8 + (maxL + 11) + rm.locals ≤ R.locals) (hn : As.length = n) (hls : ls.size = nL) (hroom : (rest.map fun v => v.category).sum ≤ 8) (hcs : cells ≤ R.cells ∧ slots ≤ R.slots) (hst : st = As.reverse ++ rest) (hdg : decode cc pc = .ok (.invokestatic idx, 3)) (kk : ∀ (H : Heap) (locs : List Loc), tmT D cA o h A s.heap F1 G1 H locs → W p l e R s m args below meth c H locs cells slots Q (F0 m (pc + 3) ls (rest))) : W p l e R s m args below meth c H locs cells slots Q (F0 m pc ls st) := by
  have hF := tm_fr C T
  obtain ⟨hx, hb, hml, hown, hts, hK, hA⟩ := C
  obtain ⟨hP, hD, hS⟩ := T
  refine va_callv (va_runS (As := As) (rest := rest) ⟨hx, hb, hml, hown, hts⟩ (hM H.size) (va_cwS n hts (lw_S hl hi (by rw [hd.1]; exact q20) hc) rfl hrc hrs hd.2 hR) ⟨fun a U g mk q => by obtain ⟨q0, q1, qP, qK, qD⟩ := q; exact ⟨q0, q1, qP, va_K.moved (u := U) (U := U.calling g mk a) (Vm.Alike.refl U.vm) qK, qD⟩, fun U hU hW => ⟨rfl, by rw [hU], by rw [hU]; exact hP, va_K.moved hW.alike hK, hD.weaken (fun _ _ _ _ => trivial)⟩⟩ rfl hn hls hst (lv_room hroom) hdg hcs) hS (fun q _ h => hF q h) hF (fun u t H1 locs1 ht hvm hp hB hz1 hk1 hS1 => ?_)
  subst hp
  obtain ⟨hP1, hK1, hD1⟩ := hB
  rw [ht] at hP1
  exact kk H1 locs1 ⟨hP1, hD1.weaken (fun _ q _ h => hF q.1 h), hS1⟩
end TMR
theorem tml0 : Cond.fieldLink RX1 7 RX1 (TX1 0).2.1 (TX1 0).2.2.1 ∈ lw_all := q232
theorem tml1 : Cond.fieldLink RX1 13 RX1 (TX1 1).2.1 (TX1 1).2.2.1 ∈ lw_all := q233
theorem tml2 : Cond.fieldLink RX1 16 RX1 (TX1 2).2.1 (TX1 2).2.2.1 ∈ lw_all := q234
theorem tml3 : Cond.fieldLink RX1 20 RX1 (TX1 3).2.1 (TX1 3).2.2.1 ∈ lw_all := q235
theorem tml4 : Cond.fieldLink RX1 23 RX1 (TX1 4).2.1 (TX1 4).2.2.1 ∈ lw_all := q236
theorem tml5 : Cond.fieldLink RX1 26 RX1 (TX1 5).2.1 (TX1 5).2.2.1 ∈ lw_all := q237
theorem tml6 : Cond.fieldLink RX1 29 RX1 (TX1 6).2.1 (TX1 6).2.2.1 ∈ lw_all := q238
theorem tml7 : Cond.fieldLink RX1 32 RX1 (TX1 7).2.1 (TX1 7).2.2.1 ∈ lw_all := q239
theorem tma0 {cA : Nat → ClassId} {o : Nat} {h : Nat → Nat} {F : xF} {G : xG} : (tmW cA o h F G)[1]? = some (h 0, .inl (cA 0, 31, .inl (F 0))) := rfl
theorem tmt0 {cA : Nat → ClassId} : (tmTy cA)[0]? = some (cA 0, .boolean) := rfl
theorem tms0 {cA : Nat → ClassId} {o : Nat} {h : Nat → Nat} {F : xF} {G : xG} {i : Nat} {x : Int32} : (tmW cA o h F G).set 1 (h 0, .inl (cA 0, 31, .inl (upd (F 0) i x))) = tmW cA o h (fS F 0 i x) G := rfl
theorem tma1 {cA : Nat → ClassId} {o : Nat} {h : Nat → Nat} {F : xF} {G : xG} : (tmW cA o h F G)[2]? = some (h 1, .inl (cA 1, 31, .inl (F 1))) := rfl
theorem tmt1 {cA : Nat → ClassId} : (tmTy cA)[1]? = some (cA 1, .boolean) := rfl
theorem tms1 {cA : Nat → ClassId} {o : Nat} {h : Nat → Nat} {F : xF} {G : xG} {i : Nat} {x : Int32} : (tmW cA o h F G).set 2 (h 1, .inl (cA 1, 31, .inl (upd (F 1) i x))) = tmW cA o h (fS F 1 i x) G := rfl
theorem tma2 {cA : Nat → ClassId} {o : Nat} {h : Nat → Nat} {F : xF} {G : xG} : (tmW cA o h F G)[3]? = some (h 2, .inl (cA 2, 31, .inl (F 2))) := rfl
theorem tmt2 {cA : Nat → ClassId} : (tmTy cA)[2]? = some (cA 2, .int) := rfl
theorem tms2 {cA : Nat → ClassId} {o : Nat} {h : Nat → Nat} {F : xF} {G : xG} {i : Nat} {x : Int32} : (tmW cA o h F G).set 3 (h 2, .inl (cA 2, 31, .inl (upd (F 2) i x))) = tmW cA o h (fS F 2 i x) G := rfl
theorem tma3 {cA : Nat → ClassId} {o : Nat} {h : Nat → Nat} {F : xF} {G : xG} : (tmW cA o h F G)[4]? = some (h 3, .inl (cA 3, 31, .inl (F 3))) := rfl
theorem tmt3 {cA : Nat → ClassId} : (tmTy cA)[3]? = some (cA 3, .int) := rfl
theorem tms3 {cA : Nat → ClassId} {o : Nat} {h : Nat → Nat} {F : xF} {G : xG} {i : Nat} {x : Int32} : (tmW cA o h F G).set 4 (h 3, .inl (cA 3, 31, .inl (upd (F 3) i x))) = tmW cA o h (fS F 3 i x) G := rfl
theorem tma4 {cA : Nat → ClassId} {o : Nat} {h : Nat → Nat} {F : xF} {G : xG} : (tmW cA o h F G)[5]? = some (h 4, .inl (cA 4, 31, .inl (F 4))) := rfl
theorem tmt4 {cA : Nat → ClassId} : (tmTy cA)[4]? = some (cA 4, .int) := rfl
theorem tms4 {cA : Nat → ClassId} {o : Nat} {h : Nat → Nat} {F : xF} {G : xG} {i : Nat} {x : Int32} : (tmW cA o h F G).set 5 (h 4, .inl (cA 4, 31, .inl (upd (F 4) i x))) = tmW cA o h (fS F 4 i x) G := rfl
theorem tma5 {cA : Nat → ClassId} {o : Nat} {h : Nat → Nat} {F : xF} {G : xG} : (tmW cA o h F G)[6]? = some (h 5, .inl (cA 5, 31, .inl (F 5))) := rfl
theorem tmt5 {cA : Nat → ClassId} : (tmTy cA)[5]? = some (cA 5, .int) := rfl
theorem tms5 {cA : Nat → ClassId} {o : Nat} {h : Nat → Nat} {F : xF} {G : xG} {i : Nat} {x : Int32} : (tmW cA o h F G).set 6 (h 5, .inl (cA 5, 31, .inl (upd (F 5) i x))) = tmW cA o h (fS F 5 i x) G := rfl
theorem tma6 {cA : Nat → ClassId} {o : Nat} {h : Nat → Nat} {F : xF} {G : xG} : (tmW cA o h F G)[7]? = some (h 6, .inl (cA 6, 31, .inl (F 6))) := rfl
theorem tmt6 {cA : Nat → ClassId} : (tmTy cA)[6]? = some (cA 6, .boolean) := rfl
theorem tms6 {cA : Nat → ClassId} {o : Nat} {h : Nat → Nat} {F : xF} {G : xG} {i : Nat} {x : Int32} : (tmW cA o h F G).set 7 (h 6, .inl (cA 6, 31, .inl (upd (F 6) i x))) = tmW cA o h (fS F 6 i x) G := rfl
theorem tma7 {cA : Nat → ClassId} {o : Nat} {h : Nat → Nat} {F : xF} {G : xG} : (tmW cA o h F G)[8]? = some (h 7, .inl (cA 7, 31, .inl (F 7))) := rfl
theorem tmt7 {cA : Nat → ClassId} : (tmTy cA)[7]? = some (cA 7, .int) := rfl
theorem tms7 {cA : Nat → ClassId} {o : Nat} {h : Nat → Nat} {F : xF} {G : xG} {i : Nat} {x : Int32} : (tmW cA o h F G).set 8 (h 7, .inl (cA 7, 31, .inl (upd (F 7) i x))) = tmW cA o h (fS F 7 i x) G := rfl
end
section
/-! what the methods compute (walk level): functions of the arrays F and the int fields G -/
theorem tx_inc1 (j : Nat) : nI j + Int32.ofInt 1 = nI (j + 1) := nI_1 j
theorem tx_inc2 (j : Nat) : nI j + Int32.ofInt 2 = nI (j + 2) := nI_add j 2
theorem tx_dec1 (j : Nat) : nI (j + 1) + Int32.ofInt (-1) = nI j := pk_m1 j
theorem tx_in30 {n : Int32} (h0 : ¬ n < 0) (h1 : n ≤ 30) : vp_in n 31 := by
  obtain ⟨j, hj, rfl⟩ := nI_of2 (n := 30) (M := 30) (by decide) h0 h1
  exact vp_in_nI (by omega) (by decide)
/-- kindOf -/
def p_kindOf (F : xF) (n : Int32) : Int32 := if n < 0 then 0 else if n ≤ 30 then F 0 (ix n) else 0
theorem p_kindOf_in {F : xF} {n : Int32} (h : ¬ p_kindOf F n = 0) : vp_in n 31 ∧ p_kindOf F n = F 0 (ix n) := by
  unfold p_kindOf at h ⊢
  by_cases h0 : n < 0
  · simp [h0] at h
  · by_cases h1 : n ≤ 30
    · simp only [h0, h1, if_true, if_false]
      exact ⟨tx_in30 h0 h1, trivial⟩
    · simp [h0, h1] at h
/-- freeNode: the least free place from k on, t places to look at; 30 if there is none -/
def p_free (f : Nat → Int32) : Nat → Nat → Nat
  | 0, _ => 30
  | t + 1, k => if f k = 0 then k else p_free f t (k + 1)
theorem p_free_le (f : Nat → Int32) : ∀ t k, k + t ≤ 31 → p_free f t k ≤ 30
  | 0, _, _ => Nat.le_refl _
  | t + 1, k, h => by
    unfold p_free
    split
    · omega
    · exact p_free_le f t (k + 1) (by omega)
/-- makeLeaf -/
def p_mk (F : xF) (n : Nat) (v : Int32) : xF := fS (fS (fS (fS F 0 n 1) 2 n v) 3 n (-1)) 4 n (-1)
/-- calculate -/
def p_calc (s a b : Int32) : Int32 := if s = 0 then a + b else if s = 1 then a * b else if s = 2 then a - b else b - a
/-- step e's places are in range -/
def okE (F : xF) (e : Nat) : Prop := e < 15 ∧ vp_in (F 21 e) 31 ∧ vp_in (F 22 e) 31 ∧ vp_in (F 25 e) 46 ∧ vp_in (F 26 e) 46 ∧ vp_in (F 27 e) 46
/-- leafValue -/
def p_lv (F : xF) (e : Nat) : Int32 := F 14 (ix (F 25 e)) * F 2 (ix (F 21 e)) + F 15 (ix (F 25 e))
/-- fixLeaf: the sort of step e's joint; is it turned; the four numbers -/
def p_sj (F : xF) (e : Nat) : Int32 := F 1 (ix (F 22 e))
def p_neg (s b : Int32) : Int32 := if s = 2 ∧ ¬ b = 0 then 1 else if s = 3 ∧ b = 0 then 1 else 0
def p_ng (F : xF) (e : Nat) : Int32 := p_neg (p_sj F e) (F 24 e)
def p_of (s n leaf : Int32) : Int32 := if s = 1 then leaf else if n = 0 then 1 else -1
def p_os (s n leaf : Int32) : Int32 := if s = 1 then 0 else if s = 0 then leaf else if n = 0 then -leaf else leaf
def p_oc (s ch : Int32) : Int32 := if s = 1 then ch else 0
def p_fxG (F : xF) (G : xG) (e : Nat) (leaf ch : Int32) : xG := gS (gS (gS (gS G 29 (p_of (p_sj F e) (p_ng F e) leaf)) 30 (p_os (p_sj F e) (p_ng F e) leaf)) 31 (p_oc (p_sj F e) ch)) 32 (p_os (p_sj F e) (p_ng F e) ch)
/-- workOut -/
def p_woF (F : xF) (e : Nat) : xF := fS (fS F 14 (31 + e) (F 14 (ix (F 26 e)) * p_of (p_sj F e) (p_ng F e) (p_lv F e) * F 14 (ix (F 27 e)))) 15 (31 + e) (F 14 (ix (F 26 e)) * (p_of (p_sj F e) (p_ng F e) (p_lv F e) * F 15 (ix (F 27 e)) + p_os (p_sj F e) (p_ng F e) (p_lv F e)) + F 15 (ix (F 26 e)))
def p_woG (F : xF) (G : xG) (e : Nat) : xG := p_fxG F G e (p_lv F e) 0
/-- changeStep: how the leaf's value changes; then the step's function -/
def p_own (F : xF) (e : Nat) (node : Int32) : Int32 := if F 21 e = node then F 14 (ix (F 25 e)) else 0
def p_dl (F : xF) (e : Nat) (node : Int32) : Int32 := F 16 (ix (F 25 e)) * F 2 (ix (F 21 e)) + p_own F e node + F 17 (ix (F 25 e))
def p_csG (F : xF) (G : xG) (e : Nat) (node : Int32) : xG := p_fxG F G e (p_lv F e) (p_dl F e node)
def p_csA (F : xF) (e : Nat) (node : Int32) : Int32 := F 16 (ix (F 26 e)) * p_of (p_sj F e) (p_ng F e) (p_lv F e) * F 14 (ix (F 27 e)) + F 14 (ix (F 26 e)) * p_oc (p_sj F e) (p_dl F e node) * F 14 (ix (F 27 e)) + F 14 (ix (F 26 e)) * p_of (p_sj F e) (p_ng F e) (p_lv F e) * F 16 (ix (F 27 e))
def p_csB (F : xF) (e : Nat) (node : Int32) : Int32 := F 16 (ix (F 26 e)) * (p_of (p_sj F e) (p_ng F e) (p_lv F e) * F 15 (ix (F 27 e)) + p_os (p_sj F e) (p_ng F e) (p_lv F e)) + F 14 (ix (F 26 e)) * (p_oc (p_sj F e) (p_dl F e node) * F 15 (ix (F 27 e)) + p_of (p_sj F e) (p_ng F e) (p_lv F e) * F 17 (ix (F 27 e)) + p_os (p_sj F e) (p_ng F e) (p_dl F e node)) + F 17 (ix (F 26 e))
def p_csF (F : xF) (e : Nat) (node : Int32) : xF := fS (fS F 16 (31 + e) (p_csA F e node)) 17 (31 + e) (p_csB F e node)
end
section
set_option maxRecDepth 100000
set_option maxHeartbeats 4000000
theorem met_kindOf (l : Launch) (D : va_G) (cA : Nat → ClassId) (o : Nat) (h : Nat → Nat) (F : xF) (G : xG) (n : Int32) : tkMi l yX0_kindOf cX0_kindOf 2 (some .int) (rmL 0) D cA o h [.ref o, .int n] F G (p_kindOf F n) F G := by
  refine tk_ofi (by decide) rfl (Nat.le_of_ble_eq_true rfl) ?_
  intro p e s m below meth c A ls C T hr hlk hl
  have hx := C.1
  have hb := C.2.1
  have hl : lv_has ls 2 [(0, .ref o), (1, .int n)] := hl
  refine lv_iload_n hx hb dX0_kindOf_0 rfl (lv_at hl 1 rfl) ?_
  refine lv_if_lt (tgt := 10) hx hb dX0_kindOf_1 (by decide) (fun c1 => ?_) (fun c1 => ?_)
  · refine lv_iconst (v := 0) hx hb dX0_kindOf_10 (by decide) ?_
    refine lv_goto (tgt := 20) hx hb dX0_kindOf_11 (by decide) ?_
    exact tk_iret C T hr hlk (by simp [p_kindOf, c1]) rfl dX0_kindOf_20
  · refine lv_iload_n hx hb dX0_kindOf_4 rfl (lv_at hl 1 rfl) ?_
    refine lv_bipush (v := 30) hx hb dX0_kindOf_5 (by decide) ?_
    refine lv_icmp_le (tgt := 14) hx hb dX0_kindOf_7 (by decide) (fun c7 => ?_) (fun c7 => ?_)
    · refine lv_aload_n hx hb dX0_kindOf_14 rfl (lv_at hl 0 rfl) ?_
      refine tk_get C T 0 (by decide) tkl0 rfl (v := .ref (h 0)) rfl dX0_kindOf_15 ?_
      refine lv_iload_n hx hb dX0_kindOf_18 rfl (lv_at hl 1 rfl) ?_
      refine tk_iald C T 0 _ _ _ tka0 tkt0 (tx_in30 c1 c7) (v := F 0 (ix n)) rfl dX0_kindOf_19 ?_
      exact tk_iret C T hr hlk (by simp [p_kindOf, c1, c7]) rfl dX0_kindOf_20
    · refine lv_iconst (v := 0) hx hb dX0_kindOf_10 (by decide) ?_
      refine lv_goto (tgt := 20) hx hb dX0_kindOf_11 (by decide) ?_
      exact tk_iret C T hr hlk (by simp [p_kindOf, c1, c7]) rfl dX0_kindOf_20
theorem met_freeNode (l : Launch) (D : va_G) (cA : Nat → ClassId) (o : Nat) (h : Nat → Nat) (F : xF) (G : xG) (k : Nat) (hk : k ≤ 31) : tkMi l yX0_freeNode cX0_freeNode 3 (some .int) (rmL 0) D cA o h [.ref o, .int (nI k)] F G (nI (p_free (F 0) (31 - k) k)) F G := by
  refine tk_ofi (by decide) rfl (Nat.le_of_ble_eq_true rfl) ?_
  intro p e s m below meth c A ls C T hr hlk hl
  have hx := C.1
  have hb := C.2.1
  have hl : lv_has ls 3 [(0, .ref o), (1, .int (nI k))] := hl
  refine lv_iload_n hx hb dX0_freeNode_0 rfl (lv_at hl 1 rfl) ?_
  refine lv_istore_n (lv' := [(2, .int (nI k)), (0, .ref o), (1, .int (nI k))]) hx hb dX0_freeNode_1 rfl hl (by decide) rfl (fun ls hl => ?_)
  refine lx_loop (pc := 2) (fun n ls H locs => ∃ (j : Nat), (j + n = 32) ∧ (j ≤ 31) ∧ (p_free (F 0) (31 - k) k = p_free (F 0) (31 - j) j) ∧ tkT D cA o h A s.heap F G H locs ∧ lv_has ls 3 [(2, .int (nI j)), (1, .int (nI k)), (0, .ref o)]) ?_ ?_ (32 - k) ?_
  · rintro ls H locs ⟨j, h1, h2, h3, T, hl⟩
    omega
  · rintro n ih2 ls H locs ⟨j, h1, h2, h3, T, hl⟩
    refine lv_iload_n hx hb dX0_freeNode_2 rfl (lv_at hl 0 rfl) ?_
    refine lv_bipush (v := 31) hx hb dX0_freeNode_3 (by decide) ?_
    refine lv_icmp_ge (tgt := 25) hx hb dX0_freeNode_5 (by decide) (fun c5 => ?_) (fun c5 => ?_)
    · have c5 := (nI_leI (a := 31) (b := j) (by omega) (by omega)).mp c5
      refine lv_bipush (v := 30) hx hb dX0_freeNode_25 (by decide) ?_
      exact tk_iret C T hr hlk (by rw [h3, show 31 - j = 0 by omega]; rfl) rfl dX0_freeNode_27
    · have c5 : ¬ 31 ≤ j := fun q => c5 ((nI_leI (a := 31) (b := j) (by omega) (by omega)).mpr q)
      refine lv_aload_n hx hb dX0_freeNode_8 rfl (lv_at hl 2 rfl) ?_
      refine tk_get C T 0 (by decide) tkl0 rfl (v := .ref (h 0)) rfl dX0_freeNode_9 ?_
      refine lv_iload_n hx hb dX0_freeNode_12 rfl (lv_at hl 0 rfl) ?_
      refine tk_ialdN C T 0 _ _ _ tka0 tkt0 (by decide) (by omega) (v := F 0 j) rfl dX0_freeNode_13 ?_
      refine lv_if_ne (tgt := 19) hx hb dX0_freeNode_14 (by decide) (fun c14 => ?_) (fun c14 => ?_)
      · refine lv_iinc (v := nI (j + 1)) (lv' := [(2, .int (nI (j + 1))), (1, .int (nI k)), (0, .ref o)]) hx hb dX0_freeNode_19 hl (k := 0) rfl (tx_inc1 j) (by decide) rfl (fun ls hl => ?_)
        refine lv_goto (tgt := 2) hx hb dX0_freeNode_22 (by decide) ?_
        refine ih2 _ _ _ ⟨j + 1, by omega, by omega, ?_, T, lv_sub hl [0, 1, 2] rfl⟩
        rw [h3, show 31 - j = 31 - (j + 1) + 1 by omega]
        simp [p_free, c14]
      · refine lv_iload_n hx hb dX0_freeNode_17 rfl (lv_at hl 0 rfl) ?_
        exact tk_iret C T hr hlk (by rw [h3, show 31 - j = 31 - (j + 1) + 1 by omega]; simp [p_free, c14]) rfl dX0_freeNode_18
  · exact ⟨k, by omega, hk, rfl, T, lv_sub hl [0, 2, 1] rfl⟩
theorem met_makeLeaf (l : Launch) (D : va_G) (cA : Nat → ClassId) (o : Nat) (h : Nat → Nat) (F : xF) (G : xG) (n : Nat) (v : Int32) (hn : n < 31) : tkMv l yX0_makeLeaf cX0_makeLeaf 3 (rmL 0) D cA o h [.ref o, .int (nI n), .int v] F G (p_mk F n v) G := by
  refine tk_ofv (by decide) rfl (Nat.le_of_ble_eq_true rfl) ?_
  intro p e s m below meth c A ls C T hr hlk hl
  have hx := C.1
  have hb := C.2.1
  have hl : lv_has ls 3 [(0, .ref o), (1, .int (nI n)), (2, .int v)] := hl
  refine lv_aload_n hx hb dX0_makeLeaf_0 rfl (lv_at hl 0 rfl) ?_
  refine tk_get C T 0 (by decide) tkl0 rfl (v := .ref (h 0)) rfl dX0_makeLeaf_1 ?_
  refine lv_iload_n hx hb dX0_makeLeaf_4 rfl (lv_at hl 1 rfl) ?_
  refine lv_iconst (v := 1) hx hb dX0_makeLeaf_5 (by decide) ?_
  refine tk_iastN C T 0 _ _ _ tka0 tkt0 (by decide) (by omega) tks0 dX0_makeLeaf_6 (fun H locs T => ?_)
  refine lv_aload_n hx hb dX0_makeLeaf_7 rfl (lv_at hl 0 rfl) ?_
  refine tk_get C T 2 (by decide) tkl2 rfl (v := .ref (h 2)) rfl dX0_makeLeaf_8 ?_
  refine lv_iload_n hx hb dX0_makeLeaf_11 rfl (lv_at hl 1 rfl) ?_
  refine lv_iload_n hx hb dX0_makeLeaf_12 rfl (lv_at hl 2 rfl) ?_
  refine tk_iastN C T 2 _ _ _ tka2 tkt2 (by decide) (by omega) tks2 dX0_makeLeaf_13 (fun H locs T => ?_)
  refine lv_aload_n hx hb dX0_makeLeaf_14 rfl (lv_at hl 0 rfl) ?_
  refine tk_get C T 3 (by decide) tkl3 rfl (v := .ref (h 3)) rfl dX0_makeLeaf_15 ?_
  refine lv_iload_n hx hb dX0_makeLeaf_18 rfl (lv_at hl 1 rfl) ?_
  refine lv_iconst (v := -1) hx hb dX0_makeLeaf_19 (by decide) ?_
  refine tk_iastN C T 3 _ _ _ tka3 tkt3 (by decide) (by omega) tks3 dX0_makeLeaf_20 (fun H locs T => ?_)
  refine lv_aload_n hx hb dX0_makeLeaf_21 rfl (lv_at hl 0 rfl) ?_
  refine tk_get C T 4 (by decide) tkl4 rfl (v := .ref (h 4)) rfl dX0_makeLeaf_22 ?_
  refine lv_iload_n hx hb dX0_makeLeaf_25 rfl (lv_at hl 1 rfl) ?_
  refine lv_iconst (v := -1) hx hb dX0_makeLeaf_26 (by decide) ?_
  refine tk_iastN C T 4 _ _ _ tka4 tkt4 (by decide) (by omega) tks4 dX0_makeLeaf_27 (fun H locs T => ?_)
  exact tk_vret C T hr hlk rfl dX0_makeLeaf_28
theorem met_makeLeafI (l : Launch) (D : va_G) (cA : Nat → ClassId) (o : Nat) (h : Nat → Nat) (F : xF) (G : xG) (n v : Int32) (hn : vp_in n 31) : tkMv l yX0_makeLeaf cX0_makeLeaf 3 (rmL 0) D cA o h [.ref o, .int n, .int v] F G (p_mk F (ix n) v) G := by
  refine tk_ofv (by decide) rfl (Nat.le_of_ble_eq_true rfl) ?_
  intro p e s m below meth c A ls C T hr hlk hl
  have hx := C.1
  have hb := C.2.1
  have hl : lv_has ls 3 [(0, .ref o), (1, .int n), (2, .int v)] := hl
  refine lv_aload_n hx hb dX0_makeLeaf_0 rfl (lv_at hl 0 rfl) ?_
  refine tk_get C T 0 (by decide) tkl0 rfl (v := .ref (h 0)) rfl dX0_makeLeaf_1 ?_
  refine lv_iload_n hx hb dX0_makeLeaf_4 rfl (lv_at hl 1 rfl) ?_
  refine lv_iconst (v := 1) hx hb dX0_makeLeaf_5 (by decide) ?_
  refine tk_iast C T 0 _ _ _ tka0 tkt0 (by assumption) tks0 dX0_makeLeaf_6 (fun H locs T => ?_)
  refine lv_aload_n hx hb dX0_makeLeaf_7 rfl (lv_at hl 0 rfl) ?_
  refine tk_get C T 2 (by decide) tkl2 rfl (v := .ref (h 2)) rfl dX0_makeLeaf_8 ?_
  refine lv_iload_n hx hb dX0_makeLeaf_11 rfl (lv_at hl 1 rfl) ?_
  refine lv_iload_n hx hb dX0_makeLeaf_12 rfl (lv_at hl 2 rfl) ?_
  refine tk_iast C T 2 _ _ _ tka2 tkt2 (by assumption) tks2 dX0_makeLeaf_13 (fun H locs T => ?_)
  refine lv_aload_n hx hb dX0_makeLeaf_14 rfl (lv_at hl 0 rfl) ?_
  refine tk_get C T 3 (by decide) tkl3 rfl (v := .ref (h 3)) rfl dX0_makeLeaf_15 ?_
  refine lv_iload_n hx hb dX0_makeLeaf_18 rfl (lv_at hl 1 rfl) ?_
  refine lv_iconst (v := -1) hx hb dX0_makeLeaf_19 (by decide) ?_
  refine tk_iast C T 3 _ _ _ tka3 tkt3 (by assumption) tks3 dX0_makeLeaf_20 (fun H locs T => ?_)
  refine lv_aload_n hx hb dX0_makeLeaf_21 rfl (lv_at hl 0 rfl) ?_
  refine tk_get C T 4 (by decide) tkl4 rfl (v := .ref (h 4)) rfl dX0_makeLeaf_22 ?_
  refine lv_iload_n hx hb dX0_makeLeaf_25 rfl (lv_at hl 1 rfl) ?_
  refine lv_iconst (v := -1) hx hb dX0_makeLeaf_26 (by decide) ?_
  refine tk_iast C T 4 _ _ _ tka4 tkt4 (by assumption) tks4 dX0_makeLeaf_27 (fun H locs T => ?_)
  exact tk_vret C T hr hlk rfl dX0_makeLeaf_28
theorem met_calculate (l : Launch) (D : va_G) (cA : Nat → ClassId) (o : Nat) (h : Nat → Nat) (F : xF) (G : xG) (q a b : Int32) : tkMi l yX0_calculate cX0_calculate 3 (some .int) (rmL 0) D cA o h [.int q, .int a, .int b] F G (p_calc q a b) F G := by
  refine tk_ofi (by decide) rfl (Nat.le_of_ble_eq_true rfl) ?_
  intro p e s m below meth c A ls C T hr hlk hl
  have hx := C.1
  have hb := C.2.1
  have hl : lv_has ls 3 [(0, .int q), (1, .int a), (2, .int b)] := hl
  refine lv_iload_n hx hb dX0_calculate_0 rfl (lv_at hl 0 rfl) ?_
  refine lv_if_ne (tgt := 8) hx hb dX0_calculate_1 (by decide) (fun c1 => ?_) (fun c1 => ?_)
  · refine lv_iload_n hx hb dX0_calculate_8 rfl (lv_at hl 0 rfl) ?_
    refine lv_iconst (v := 1) hx hb dX0_calculate_9 (by decide) ?_
    refine lv_icmp_ne (tgt := 17) hx hb dX0_calculate_10 (by decide) (fun c10 => ?_) (fun c10 => ?_)
    · refine lv_iload_n hx hb dX0_calculate_17 rfl (lv_at hl 0 rfl) ?_
      refine lv_iconst (v := 2) hx hb dX0_calculate_18 (by decide) ?_
      refine lv_icmp_ne (tgt := 28) hx hb dX0_calculate_19 (by decide) (fun c19 => ?_) (fun c19 => ?_)
      · refine lv_iload_n hx hb dX0_calculate_28 rfl (lv_at hl 2 rfl) ?_
        refine lv_iload_n hx hb dX0_calculate_29 rfl (lv_at hl 1 rfl) ?_
        refine lv_isub hx hb dX0_calculate_30 ?_
        exact tk_iret C T hr hlk (by simp [p_calc, c1, c10, c19]) rfl dX0_calculate_31
      · refine lv_iload_n hx hb dX0_calculate_22 rfl (lv_at hl 1 rfl) ?_
        refine lv_iload_n hx hb dX0_calculate_23 rfl (lv_at hl 2 rfl) ?_
        refine lv_isub hx hb dX0_calculate_24 ?_
        refine lv_goto (tgt := 31) hx hb dX0_calculate_25 (by decide) ?_
        exact tk_iret C T hr hlk (by simp [p_calc, c1, c10, c19]) rfl dX0_calculate_31
    · refine lv_iload_n hx hb dX0_calculate_13 rfl (lv_at hl 1 rfl) ?_
      refine lv_iload_n hx hb dX0_calculate_14 rfl (lv_at hl 2 rfl) ?_
      refine lv_imul hx hb dX0_calculate_15 ?_
      exact tk_iret C T hr hlk (by simp [p_calc, c1, c10]) rfl dX0_calculate_16
  · refine lv_iload_n hx hb dX0_calculate_4 rfl (lv_at hl 1 rfl) ?_
    refine lv_iload_n hx hb dX0_calculate_5 rfl (lv_at hl 2 rfl) ?_
    refine lv_iadd hx hb dX0_calculate_6 ?_
    exact tk_iret C T hr hlk (by simp [p_calc, c1]) rfl dX0_calculate_7
theorem met_leafValue (l : Launch) (D : va_G) (cA : Nat → ClassId) (o : Nat) (h : Nat → Nat) (F : xF) (G : xG) (e0 : Nat) (he : okE F e0) : tkMi l yX0_leafValue cX0_leafValue 3 (some .int) (rmL 0) D cA o h [.ref o, .int (nI e0)] F G (p_lv F e0) F G := by
  refine tk_ofi (by decide) rfl (Nat.le_of_ble_eq_true rfl) ?_
  intro p e s m below meth c A ls C T hr hlk hl
  have hx := C.1
  have hb := C.2.1
  have hl : lv_has ls 3 [(0, .ref o), (1, .int (nI e0))] := hl
  obtain ⟨he1, he2, he3, he4, he5, he6⟩ := id he
  refine lv_aload_n hx hb dX0_leafValue_0 rfl (lv_at hl 0 rfl) ?_
  refine tk_get C T 25 (by decide) tkl25 rfl (v := .ref (h 25)) rfl dX0_leafValue_1 ?_
  refine lv_iload_n hx hb dX0_leafValue_4 rfl (lv_at hl 1 rfl) ?_
  refine tk_ialdN C T 25 _ _ _ tka25 tkt25 (by decide) (by omega) (v := F 25 e0) rfl dX0_leafValue_5 ?_
  refine lv_istore_n (lv' := [(2, .int (F 25 e0)), (0, .ref o), (1, .int (nI e0))]) hx hb dX0_leafValue_6 rfl hl (by decide) rfl (fun ls hl => ?_)
  refine lv_aload_n hx hb dX0_leafValue_7 rfl (lv_at hl 1 rfl) ?_
  refine tk_get C T 14 (by decide) tkl14 rfl (v := .ref (h 14)) rfl dX0_leafValue_8 ?_
  refine lv_iload_n hx hb dX0_leafValue_11 rfl (lv_at hl 0 rfl) ?_
  refine tk_iald C T 14 _ _ _ tka14 tkt14 (by assumption) (v := F 14 (ix (F 25 e0))) rfl dX0_leafValue_12 ?_
  refine lv_aload_n hx hb dX0_leafValue_13 rfl (lv_at hl 1 rfl) ?_
  refine tk_get C T 2 (by decide) tkl2 rfl (v := .ref (h 2)) rfl dX0_leafValue_14 ?_
  refine lv_aload_n hx hb dX0_leafValue_17 rfl (lv_at hl 1 rfl) ?_
  refine tk_get C T 21 (by decide) tkl21 rfl (v := .ref (h 21)) rfl dX0_leafValue_18 ?_
  refine lv_iload_n hx hb dX0_leafValue_21 rfl (lv_at hl 2 rfl) ?_
  refine tk_ialdN C T 21 _ _ _ tka21 tkt21 (by decide) (by omega) (v := F 21 e0) rfl dX0_leafValue_22 ?_
  refine tk_iald C T 2 _ _ _ tka2 tkt2 (by assumption) (v := F 2 (ix (F 21 e0))) rfl dX0_leafValue_23 ?_
  refine lv_imul hx hb dX0_leafValue_24 ?_
  refine lv_aload_n hx hb dX0_leafValue_25 rfl (lv_at hl 1 rfl) ?_
  refine tk_get C T 15 (by decide) tkl15 rfl (v := .ref (h 15)) rfl dX0_leafValue_26 ?_
  refine lv_iload_n hx hb dX0_leafValue_29 rfl (lv_at hl 0 rfl) ?_
  refine tk_iald C T 15 _ _ _ tka15 tkt15 (by assumption) (v := F 15 (ix (F 25 e0))) rfl dX0_leafValue_30 ?_
  refine lv_iadd hx hb dX0_leafValue_31 ?_
  exact tk_iret C T hr hlk rfl rfl dX0_leafValue_32
theorem met_fixLeaf (l : Launch) (D : va_G) (cA : Nat → ClassId) (o : Nat) (h : Nat → Nat) (F : xF) (G : xG) (e0 : Nat) (leaf ch : Int32) (he : okE F e0) : tkMv l yX0_fixLeaf cX0_fixLeaf 6 (rmL 0) D cA o h [.ref o, .int (nI e0), .int leaf, .int ch] F G F (p_fxG F G e0 leaf ch) := by
  refine tk_ofv (by decide) rfl (Nat.le_of_ble_eq_true rfl) ?_
  intro p e s m below meth c A ls C T hr hlk hl
  have hx := C.1
  have hb := C.2.1
  have hl : lv_has ls 6 [(0, .ref o), (1, .int (nI e0)), (2, .int leaf), (3, .int ch)] := hl
  obtain ⟨he1, he2, he3, he4, he5, he6⟩ := id he
  refine lv_aload_n hx hb dX0_fixLeaf_0 rfl (lv_at hl 0 rfl) ?_
  refine tk_get C T 1 (by decide) tkl1 rfl (v := .ref (h 1)) rfl dX0_fixLeaf_1 ?_
  refine lv_aload_n hx hb dX0_fixLeaf_4 rfl (lv_at hl 0 rfl) ?_
  refine tk_get C T 22 (by decide) tkl22 rfl (v := .ref (h 22)) rfl dX0_fixLeaf_5 ?_
  refine lv_iload_n hx hb dX0_fixLeaf_8 rfl (lv_at hl 1 rfl) ?_
  refine tk_ialdN C T 22 _ _ _ tka22 tkt22 (by decide) (by omega) (v := F 22 e0) rfl dX0_fixLeaf_9 ?_
  refine tk_iald C T 1 _ _ _ tka1 tkt1 (by assumption) (v := F 1 (ix (F 22 e0))) rfl dX0_fixLeaf_10 ?_
  refine lv_topi (fun sj esj => ?_)
  refine lv_istore (lv' := [(4, .int sj), (0, .ref o), (1, .int (nI e0)), (2, .int leaf), (3, .int ch)]) hx hb dX0_fixLeaf_11 hl (by decide) rfl (fun ls hl => ?_)
  refine lx_join (J := 48) (rest := []) (p_neg sj (F 24 e0)) (fun ng hng => ?_) (fun K13_48 => ?_)
  · refine lv_istore (lv' := [(5, .int ng), (4, .int sj), (0, .ref o), (1, .int (nI e0)), (2, .int leaf), (3, .int ch)]) hx hb dX0_fixLeaf_48 hl (by decide) rfl (fun ls hl => ?_)
    refine lv_aload_n hx hb dX0_fixLeaf_50 rfl (lv_at hl 2 rfl) ?_
    refine lx_join (J := 71) (rest := [.ref o]) (p_of sj ng leaf) (fun v1 hv1 => ?_) (fun K51_71 => ?_)
    · refine tk_put C T 29 (by decide) tkl29 rfl rfl (ty := .int) (by decide +kernel) rfl rfl tkp29 dX0_fixLeaf_71 (fun H locs T => ?_)
      refine lv_aload_n hx hb dX0_fixLeaf_74 rfl (lv_at hl 2 rfl) ?_
      refine lx_join (J := 101) (rest := [.ref o]) (p_os sj ng leaf) (fun v2 hv2 => ?_) (fun K75_101 => ?_)
      · refine tk_put C T 30 (by decide) tkl30 rfl rfl (ty := .int) (by decide +kernel) rfl rfl tkp30 dX0_fixLeaf_101 (fun H locs T => ?_)
        refine lv_aload_n hx hb dX0_fixLeaf_104 rfl (lv_at hl 2 rfl) ?_
        refine lx_join (J := 116) (rest := [.ref o]) (p_oc sj ch) (fun v3 hv3 => ?_) (fun K105_116 => ?_)
        · refine tk_put C T 31 (by decide) tkl31 rfl rfl (ty := .int) (by decide +kernel) rfl rfl tkp31 dX0_fixLeaf_116 (fun H locs T => ?_)
          refine lv_aload_n hx hb dX0_fixLeaf_119 rfl (lv_at hl 2 rfl) ?_
          refine lx_join (J := 146) (rest := [.ref o]) (p_os sj ng ch) (fun v4 hv4 => ?_) (fun K120_146 => ?_)
          · refine tk_put C T 32 (by decide) tkl32 rfl rfl (ty := .int) (by decide +kernel) rfl rfl tkp32 dX0_fixLeaf_146 (fun H locs T => ?_)
            exact tk_vret C T hr hlk (by subst hv4 hv3 hv2 hv1 hng esj; rfl) dX0_fixLeaf_149
          · refine lv_iload hx hb dX0_fixLeaf_120 (lv_at hl 1 rfl) ?_
            refine lv_iconst (v := 1) hx hb dX0_fixLeaf_122 (by decide) ?_
            refine lv_icmp_ne (tgt := 130) hx hb dX0_fixLeaf_123 (by decide) (fun c123 => ?_) (fun c123 => ?_)
            · refine lv_iload hx hb dX0_fixLeaf_130 (lv_at hl 1 rfl) ?_
              refine lv_if_eq (tgt := 140) hx hb dX0_fixLeaf_132 (by decide) (fun c132 => ?_) (fun c132 => ?_)
              · refine lv_iload_n hx hb dX0_fixLeaf_140 rfl (lv_at hl 5 rfl) ?_
                refine lv_goto (tgt := 146) hx hb dX0_fixLeaf_141 (by decide) ?_
                exact K120_146 _ (by simp [p_os, c123, c132])
              · refine lv_iload hx hb dX0_fixLeaf_135 (lv_at hl 0 rfl) ?_
                refine lv_if_eq (tgt := 144) hx hb dX0_fixLeaf_137 (by decide) (fun c137 => ?_) (fun c137 => ?_)
                · refine lv_iload_n hx hb dX0_fixLeaf_144 rfl (lv_at hl 5 rfl) ?_
                  refine lv_ineg hx hb dX0_fixLeaf_145 ?_
                  exact K120_146 _ (by simp [p_os, c123, c132, c137])
                · refine lv_iload_n hx hb dX0_fixLeaf_140 rfl (lv_at hl 5 rfl) ?_
                  refine lv_goto (tgt := 146) hx hb dX0_fixLeaf_141 (by decide) ?_
                  exact K120_146 _ (by simp [p_os, c123, c132, c137])
            · refine lv_iconst (v := 0) hx hb dX0_fixLeaf_126 (by decide) ?_
              refine lv_goto (tgt := 146) hx hb dX0_fixLeaf_127 (by decide) ?_
              exact K120_146 _ (by simp [p_os, c123])
        · refine lv_iload hx hb dX0_fixLeaf_105 (lv_at hl 1 rfl) ?_
          refine lv_iconst (v := 1) hx hb dX0_fixLeaf_107 (by decide) ?_
          refine lv_icmp_ne (tgt := 115) hx hb dX0_fixLeaf_108 (by decide) (fun c108 => ?_) (fun c108 => ?_)
          · refine lv_iconst (v := 0) hx hb dX0_fixLeaf_115 (by decide) ?_
            exact K105_116 _ (by simp [p_oc, c108])
          · refine lv_iload_n hx hb dX0_fixLeaf_111 rfl (lv_at hl 5 rfl) ?_
            refine lv_goto (tgt := 116) hx hb dX0_fixLeaf_112 (by decide) ?_
            exact K105_116 _ (by simp [p_oc, c108])
      · refine lv_iload hx hb dX0_fixLeaf_75 (lv_at hl 1 rfl) ?_
        refine lv_iconst (v := 1) hx hb dX0_fixLeaf_77 (by decide) ?_
        refine lv_icmp_ne (tgt := 85) hx hb dX0_fixLeaf_78 (by decide) (fun c78 => ?_) (fun c78 => ?_)
        · refine lv_iload hx hb dX0_fixLeaf_85 (lv_at hl 1 rfl) ?_
          refine lv_if_eq (tgt := 95) hx hb dX0_fixLeaf_87 (by decide) (fun c87 => ?_) (fun c87 => ?_)
          · refine lv_iload_n hx hb dX0_fixLeaf_95 rfl (lv_at hl 4 rfl) ?_
            refine lv_goto (tgt := 101) hx hb dX0_fixLeaf_96 (by decide) ?_
            exact K75_101 _ (by simp [p_os, c78, c87])
          · refine lv_iload hx hb dX0_fixLeaf_90 (lv_at hl 0 rfl) ?_
            refine lv_if_eq (tgt := 99) hx hb dX0_fixLeaf_92 (by decide) (fun c92 => ?_) (fun c92 => ?_)
            · refine lv_iload_n hx hb dX0_fixLeaf_99 rfl (lv_at hl 4 rfl) ?_
              refine lv_ineg hx hb dX0_fixLeaf_100 ?_
              exact K75_101 _ (by simp [p_os, c78, c87, c92])
            · refine lv_iload_n hx hb dX0_fixLeaf_95 rfl (lv_at hl 4 rfl) ?_
              refine lv_goto (tgt := 101) hx hb dX0_fixLeaf_96 (by decide) ?_
              exact K75_101 _ (by simp [p_os, c78, c87, c92])
        · refine lv_iconst (v := 0) hx hb dX0_fixLeaf_81 (by decide) ?_
          refine lv_goto (tgt := 101) hx hb dX0_fixLeaf_82 (by decide) ?_
          exact K75_101 _ (by simp [p_os, c78])
    · refine lv_iload hx hb dX0_fixLeaf_51 (lv_at hl 1 rfl) ?_
      refine lv_iconst (v := 1) hx hb dX0_fixLeaf_53 (by decide) ?_
      refine lv_icmp_ne (tgt := 61) hx hb dX0_fixLeaf_54 (by decide) (fun c54 => ?_) (fun c54 => ?_)
      · refine lv_iload hx hb dX0_fixLeaf_61 (lv_at hl 0 rfl) ?_
        refine lv_if_eq (tgt := 70) hx hb dX0_fixLeaf_63 (by decide) (fun c63 => ?_) (fun c63 => ?_)
        · refine lv_iconst (v := 1) hx hb dX0_fixLeaf_70 (by decide) ?_
          exact K51_71 _ (by simp [p_of, c54, c63])
        · refine lv_iconst (v := -1) hx hb dX0_fixLeaf_66 (by decide) ?_
          refine lv_goto (tgt := 71) hx hb dX0_fixLeaf_67 (by decide) ?_
          exact K51_71 _ (by simp [p_of, c54, c63])
      · refine lv_iload_n hx hb dX0_fixLeaf_57 rfl (lv_at hl 4 rfl) ?_
        refine lv_goto (tgt := 71) hx hb dX0_fixLeaf_58 (by decide) ?_
        exact K51_71 _ (by simp [p_of, c54])
  · refine lv_iload hx hb dX0_fixLeaf_13 (lv_at hl 0 rfl) ?_
    refine lv_iconst (v := 2) hx hb dX0_fixLeaf_15 (by decide) ?_
    refine lv_icmp_ne (tgt := 28) hx hb dX0_fixLeaf_16 (by decide) (fun c16 => ?_) (fun c16 => ?_)
    · refine lv_iload hx hb dX0_fixLeaf_28 (lv_at hl 0 rfl) ?_
      refine lv_iconst (v := 3) hx hb dX0_fixLeaf_30 (by decide) ?_
      refine lv_icmp_ne (tgt := 47) hx hb dX0_fixLeaf_31 (by decide) (fun c31 => ?_) (fun c31 => ?_)
      · refine lv_iconst (v := 0) hx hb dX0_fixLeaf_47 (by decide) ?_
        exact K13_48 _ (by first | (simp [p_neg, c16, c31]; done) | (exfalso; rw [c16] at c31; exact absurd c31 (by decide)))
      · refine lv_aload_n hx hb dX0_fixLeaf_34 rfl (lv_at hl 1 rfl) ?_
        refine tk_get C T 24 (by decide) tkl24 rfl (v := .ref (h 24)) rfl dX0_fixLeaf_35 ?_
        refine lv_iload_n hx hb dX0_fixLeaf_38 rfl (lv_at hl 2 rfl) ?_
        refine tk_zaldN C T 24 _ _ _ tka24 tkt24 (by decide) (by omega) (v := F 24 e0) rfl dX0_fixLeaf_39 ?_
        refine lv_if_ne (tgt := 47) hx hb dX0_fixLeaf_40 (by decide) (fun c40 => ?_) (fun c40 => ?_)
        · refine lv_iconst (v := 0) hx hb dX0_fixLeaf_47 (by decide) ?_
          exact K13_48 _ (by first | (simp [p_neg, c16, c31, c40]; done) | (exfalso; rw [c16] at c31; exact absurd c31 (by decide)))
        · refine lv_iconst (v := 1) hx hb dX0_fixLeaf_43 (by decide) ?_
          refine lv_goto (tgt := 48) hx hb dX0_fixLeaf_44 (by decide) ?_
          exact K13_48 _ (by first | (simp [p_neg, c16, c31, c40]; done) | (exfalso; rw [c16] at c31; exact absurd c31 (by decide)))
    · refine lv_aload_n hx hb dX0_fixLeaf_19 rfl (lv_at hl 1 rfl) ?_
      refine tk_get C T 24 (by decide) tkl24 rfl (v := .ref (h 24)) rfl dX0_fixLeaf_20 ?_
      refine lv_iload_n hx hb dX0_fixLeaf_23 rfl (lv_at hl 2 rfl) ?_
      refine tk_zaldN C T 24 _ _ _ tka24 tkt24 (by decide) (by omega) (v := F 24 e0) rfl dX0_fixLeaf_24 ?_
      refine lv_if_ne (tgt := 43) hx hb dX0_fixLeaf_25 (by decide) (fun c25 => ?_) (fun c25 => ?_)
      · refine lv_iconst (v := 1) hx hb dX0_fixLeaf_43 (by decide) ?_
        refine lv_goto (tgt := 48) hx hb dX0_fixLeaf_44 (by decide) ?_
        exact K13_48 _ (by first | (simp [p_neg, c16, c25]; done) | (exfalso; rw [c16] at c31; exact absurd c31 (by decide)))
      · refine lv_iload hx hb dX0_fixLeaf_28 (lv_at hl 0 rfl) ?_
        refine lv_iconst (v := 3) hx hb dX0_fixLeaf_30 (by decide) ?_
        refine lv_icmp_ne (tgt := 47) hx hb dX0_fixLeaf_31 (by decide) (fun c31 => ?_) (fun c31 => ?_)
        · refine lv_iconst (v := 0) hx hb dX0_fixLeaf_47 (by decide) ?_
          exact K13_48 _ (by first | (simp [p_neg, c16, c25, c31]; done) | (exfalso; rw [c16] at c31; exact absurd c31 (by decide)))
        · refine lv_aload_n hx hb dX0_fixLeaf_34 rfl (lv_at hl 1 rfl) ?_
          refine tk_get C T 24 (by decide) tkl24 rfl (v := .ref (h 24)) rfl dX0_fixLeaf_35 ?_
          refine lv_iload_n hx hb dX0_fixLeaf_38 rfl (lv_at hl 2 rfl) ?_
          refine tk_zaldN C T 24 _ _ _ tka24 tkt24 (by decide) (by omega) (v := F 24 e0) rfl dX0_fixLeaf_39 ?_
          refine lv_if_ne (tgt := 47) hx hb dX0_fixLeaf_40 (by decide) (fun c40 => ?_) (fun c40 => ?_)
          · refine lv_iconst (v := 0) hx hb dX0_fixLeaf_47 (by decide) ?_
            exact K13_48 _ (by first | (simp [p_neg, c16, c25, c31, c40]; done) | (exfalso; rw [c16] at c31; exact absurd c31 (by decide)))
          · refine lv_iconst (v := 1) hx hb dX0_fixLeaf_43 (by decide) ?_
            refine lv_goto (tgt := 48) hx hb dX0_fixLeaf_44 (by decide) ?_
            exact K13_48 _ (by first | (simp [p_neg, c16, c25, c31, c40]; done) | (exfalso; rw [c16] at c31; exact absurd c31 (by decide)))
end
section
set_option maxRecDepth 100000
set_option maxHeartbeats 4000000
theorem met_workOut (l : Launch) (D : va_G) (cA : Nat → ClassId) (o : Nat) (h : Nat → Nat) (F : xF) (G : xG) (e0 : Nat) (he : okE F e0) : tkMv l yX0_workOut cX0_workOut 6 (rmL 1) D cA o h [.ref o, .int (nI e0)] F G (p_woF F e0) (p_woG F G e0) := by
  refine tk_ofv (by decide) rfl (Nat.le_of_ble_eq_true rfl) ?_
  intro p e s m below meth c A ls C T hr hlk hl
  have hx := C.1
  have hb := C.2.1
  have hl : lv_has ls 6 [(0, .ref o), (1, .int (nI e0))] := hl
  obtain ⟨he1, he2, he3, he4, he5, he6⟩ := id he
  refine lv_aload_n hx hb dX0_workOut_0 rfl (lv_at hl 0 rfl) ?_
  refine lv_iload_n hx hb dX0_workOut_1 rfl (lv_at hl 1 rfl) ?_
  refine tk_calli C T (n := 1) (As := [.int (nI e0)]) (rest := []) (met_leafValue l D cA o h F G e0 he) q166 q168 qs5 q169 rfl rfl (by decide +kernel) (by decide) rfl hl.1 (by decide) (by decide) rfl dX0_workOut_2 (fun H locs T => ?_)
  refine lv_istore_n (lv' := [(2, .int (p_lv F e0)), (0, .ref o), (1, .int (nI e0))]) hx hb dX0_workOut_5 rfl hl (by decide) rfl (fun ls hl => ?_)
  refine lv_aload_n hx hb dX0_workOut_6 rfl (lv_at hl 1 rfl) ?_
  refine lv_iload_n hx hb dX0_workOut_7 rfl (lv_at hl 2 rfl) ?_
  refine lv_iload_n hx hb dX0_workOut_8 rfl (lv_at hl 0 rfl) ?_
  refine lv_iconst (v := 0) hx hb dX0_workOut_9 (by decide) ?_
  refine tk_callv C T (n := 3) (As := [.int (nI e0), .int (p_lv F e0), .int (0 : Int32)]) (rest := []) (met_fixLeaf l D cA o h F G e0 (p_lv F e0) (0 : Int32) he) q170 q172 qs6 q173 rfl rfl (by decide +kernel) (by decide) rfl hl.1 (by decide) (by decide) rfl dX0_workOut_10 (fun H locs T => ?_)
  refine lv_aload_n hx hb dX0_workOut_13 rfl (lv_at hl 1 rfl) ?_
  refine tk_get C T 14 (by decide) tkl14 rfl (v := .ref (h 14)) rfl dX0_workOut_14 ?_
  refine lv_aload_n hx hb dX0_workOut_17 rfl (lv_at hl 1 rfl) ?_
  refine tk_get C T 27 (by decide) tkl27 rfl (v := .ref (h 27)) rfl dX0_workOut_18 ?_
  refine lv_iload_n hx hb dX0_workOut_21 rfl (lv_at hl 2 rfl) ?_
  refine tk_ialdN C T 27 _ _ _ tka27 tkt27 (by decide) (by omega) (v := F 27 e0) rfl dX0_workOut_22 ?_
  refine tk_iald C T 14 _ _ _ tka14 tkt14 (by assumption) (v := F 14 (ix (F 27 e0))) rfl dX0_workOut_23 ?_
  refine lv_istore_n (lv' := [(3, .int (F 14 (ix (F 27 e0)))), (2, .int (p_lv F e0)), (0, .ref o), (1, .int (nI e0))]) hx hb dX0_workOut_24 rfl hl (by decide) rfl (fun ls hl => ?_)
  refine lv_aload_n hx hb dX0_workOut_25 rfl (lv_at hl 2 rfl) ?_
  refine tk_get C T 15 (by decide) tkl15 rfl (v := .ref (h 15)) rfl dX0_workOut_26 ?_
  refine lv_aload_n hx hb dX0_workOut_29 rfl (lv_at hl 2 rfl) ?_
  refine tk_get C T 27 (by decide) tkl27 rfl (v := .ref (h 27)) rfl dX0_workOut_30 ?_
  refine lv_iload_n hx hb dX0_workOut_33 rfl (lv_at hl 3 rfl) ?_
  refine tk_ialdN C T 27 _ _ _ tka27 tkt27 (by decide) (by omega) (v := F 27 e0) rfl dX0_workOut_34 ?_
  refine tk_iald C T 15 _ _ _ tka15 tkt15 (by assumption) (v := F 15 (ix (F 27 e0))) rfl dX0_workOut_35 ?_
  refine lv_istore (lv' := [(4, .int (F 15 (ix (F 27 e0)))), (3, .int (F 14 (ix (F 27 e0)))), (2, .int (p_lv F e0)), (0, .ref o), (1, .int (nI e0))]) hx hb dX0_workOut_36 hl (by decide) rfl (fun ls hl => ?_)
  refine lv_aload_n hx hb dX0_workOut_38 rfl (lv_at hl 3 rfl) ?_
  refine tk_get C T 14 (by decide) tkl14 rfl (v := .ref (h 14)) rfl dX0_workOut_39 ?_
  refine lv_aload_n hx hb dX0_workOut_42 rfl (lv_at hl 3 rfl) ?_
  refine tk_get C T 26 (by decide) tkl26 rfl (v := .ref (h 26)) rfl dX0_workOut_43 ?_
  refine lv_iload_n hx hb dX0_workOut_46 rfl (lv_at hl 4 rfl) ?_
  refine tk_ialdN C T 26 _ _ _ tka26 tkt26 (by decide) (by omega) (v := F 26 e0) rfl dX0_workOut_47 ?_
  refine tk_iald C T 14 _ _ _ tka14 tkt14 (by assumption) (v := F 14 (ix (F 26 e0))) rfl dX0_workOut_48 ?_
  refine lv_istore (lv' := [(5, .int (F 14 (ix (F 26 e0)))), (4, .int (F 15 (ix (F 27 e0)))), (3, .int (F 14 (ix (F 27 e0)))), (2, .int (p_lv F e0)), (0, .ref o), (1, .int (nI e0))]) hx hb dX0_workOut_49 hl (by decide) rfl (fun ls hl => ?_)
  refine lv_aload_n hx hb dX0_workOut_51 rfl (lv_at hl 4 rfl) ?_
  refine tk_get C T 14 (by decide) tkl14 rfl (v := .ref (h 14)) rfl dX0_workOut_52 ?_
  refine lv_bipush (v := 31) hx hb dX0_workOut_55 (by decide) ?_
  refine lv_iload_n hx hb dX0_workOut_57 rfl (lv_at hl 5 rfl) ?_
  refine lv_iadd hx hb dX0_workOut_58 ?_
  refine lx_top (w := nI (31 + e0)) (nI_add 31 e0) ?_
  refine lv_iload hx hb dX0_workOut_59 (lv_at hl 0 rfl) ?_
  refine lv_aload_n hx hb dX0_workOut_61 rfl (lv_at hl 4 rfl) ?_
  refine tk_get C T 29 (by decide) tkl29 rfl (v := .int (p_of (p_sj F e0) (p_ng F e0) (p_lv F e0))) rfl dX0_workOut_62 ?_
  refine lv_imul hx hb dX0_workOut_65 ?_
  refine lv_iload_n hx hb dX0_workOut_66 rfl (lv_at hl 2 rfl) ?_
  refine lv_imul hx hb dX0_workOut_67 ?_
  refine tk_iastN C T 14 _ _ _ tka14 tkt14 (by decide) (by omega) tks14 dX0_workOut_68 (fun H locs T => ?_)
  refine lv_aload_n hx hb dX0_workOut_69 rfl (lv_at hl 4 rfl) ?_
  refine tk_get C T 15 (by decide) tkl15 rfl (v := .ref (h 15)) rfl dX0_workOut_70 ?_
  refine lv_bipush (v := 31) hx hb dX0_workOut_73 (by decide) ?_
  refine lv_iload_n hx hb dX0_workOut_75 rfl (lv_at hl 5 rfl) ?_
  refine lv_iadd hx hb dX0_workOut_76 ?_
  refine lx_top (w := nI (31 + e0)) (nI_add 31 e0) ?_
  refine lv_iload hx hb dX0_workOut_77 (lv_at hl 0 rfl) ?_
  refine lv_aload_n hx hb dX0_workOut_79 rfl (lv_at hl 4 rfl) ?_
  refine tk_get C T 29 (by decide) tkl29 rfl (v := .int (p_of (p_sj F e0) (p_ng F e0) (p_lv F e0))) rfl dX0_workOut_80 ?_
  refine lv_iload hx hb dX0_workOut_83 (lv_at hl 1 rfl) ?_
  refine lv_imul hx hb dX0_workOut_85 ?_
  refine lv_aload_n hx hb dX0_workOut_86 rfl (lv_at hl 4 rfl) ?_
  refine tk_get C T 30 (by decide) tkl30 rfl (v := .int (p_os (p_sj F e0) (p_ng F e0) (p_lv F e0))) rfl dX0_workOut_87 ?_
  refine lv_iadd hx hb dX0_workOut_90 ?_
  refine lv_imul hx hb dX0_workOut_91 ?_
  refine lv_aload_n hx hb dX0_workOut_92 rfl (lv_at hl 4 rfl) ?_
  refine tk_get C T 15 (by decide) tkl15 rfl (v := .ref (h 15)) rfl dX0_workOut_93 ?_
  refine lv_aload_n hx hb dX0_workOut_96 rfl (lv_at hl 4 rfl) ?_
  refine tk_get C T 26 (by decide) tkl26 rfl (v := .ref (h 26)) rfl dX0_workOut_97 ?_
  refine lv_iload_n hx hb dX0_workOut_100 rfl (lv_at hl 5 rfl) ?_
  refine tk_ialdN C T 26 _ _ _ tka26 tkt26 (by decide) (by omega) (v := F 26 e0) rfl dX0_workOut_101 ?_
  refine tk_iald C T 15 _ _ _ tka15 tkt15 (by assumption) (v := F 15 (ix (F 26 e0))) rfl dX0_workOut_102 ?_
  refine lv_iadd hx hb dX0_workOut_103 ?_
  refine tk_iastN C T 15 _ _ _ tka15 tkt15 (by decide) (by omega) tks15 dX0_workOut_104 (fun H locs T => ?_)
  exact tk_vret C T hr hlk rfl dX0_workOut_105
theorem met_changeStep (l : Launch) (D : va_G) (cA : Nat → ClassId) (o : Nat) (h : Nat → Nat) (F : xF) (G : xG) (e0 : Nat) (node : Int32) (he : okE F e0) : tkMv l yX0_changeStep cX0_changeStep 14 (rmL 1) D cA o h [.ref o, .int (nI e0), .int node] F G (p_csF F e0 node) (p_csG F G e0 node) := by
  refine tk_ofv (by decide) rfl (Nat.le_of_ble_eq_true rfl) ?_
  intro p e s m below meth c A ls C T hr hlk hl
  have hx := C.1
  have hb := C.2.1
  have hl : lv_has ls 14 [(0, .ref o), (1, .int (nI e0)), (2, .int node)] := hl
  obtain ⟨he1, he2, he3, he4, he5, he6⟩ := id he
  refine lv_aload_n hx hb dX0_changeStep_0 rfl (lv_at hl 0 rfl) ?_
  refine tk_get C T 25 (by decide) tkl25 rfl (v := .ref (h 25)) rfl dX0_changeStep_1 ?_
  refine lv_iload_n hx hb dX0_changeStep_4 rfl (lv_at hl 1 rfl) ?_
  refine tk_ialdN C T 25 _ _ _ tka25 tkt25 (by decide) (by omega) (v := F 25 e0) rfl dX0_changeStep_5 ?_
  refine lv_istore_n (lv' := [(3, .int (F 25 e0)), (0, .ref o), (1, .int (nI e0)), (2, .int node)]) hx hb dX0_changeStep_6 rfl hl (by decide) rfl (fun ls hl => ?_)
  refine lx_join (J := 27) (rest := []) (p_own F e0 node) (fun own hown => ?_) (fun K7_27 => ?_)
  · refine lv_istore (lv' := [(4, .int own), (3, .int (F 25 e0)), (0, .ref o), (1, .int (nI e0)), (2, .int node)]) hx hb dX0_changeStep_27 hl (by decide) rfl (fun ls hl => ?_)
    refine lv_aload_n hx hb dX0_changeStep_29 rfl (lv_at hl 2 rfl) ?_
    refine lv_iload_n hx hb dX0_changeStep_30 rfl (lv_at hl 3 rfl) ?_
    refine tk_calli C T (n := 1) (As := [.int (nI e0)]) (rest := []) (met_leafValue l D cA o h F G e0 he) q166 q168 qs5 q169 rfl rfl (by decide +kernel) (by decide) rfl hl.1 (by decide) (by decide) rfl dX0_changeStep_31 (fun H locs T => ?_)
    refine lv_istore (lv' := [(5, .int (p_lv F e0)), (4, .int own), (3, .int (F 25 e0)), (0, .ref o), (1, .int (nI e0)), (2, .int node)]) hx hb dX0_changeStep_34 hl (by decide) rfl (fun ls hl => ?_)
    refine lv_aload_n hx hb dX0_changeStep_36 rfl (lv_at hl 3 rfl) ?_
    refine lv_iload_n hx hb dX0_changeStep_37 rfl (lv_at hl 4 rfl) ?_
    refine lv_iload hx hb dX0_changeStep_38 (lv_at hl 0 rfl) ?_
    refine lv_aload_n hx hb dX0_changeStep_40 rfl (lv_at hl 3 rfl) ?_
    refine tk_get C T 16 (by decide) tkl16 rfl (v := .ref (h 16)) rfl dX0_changeStep_41 ?_
    refine lv_iload_n hx hb dX0_changeStep_44 rfl (lv_at hl 2 rfl) ?_
    refine tk_iald C T 16 _ _ _ tka16 tkt16 (by assumption) (v := F 16 (ix (F 25 e0))) rfl dX0_changeStep_45 ?_
    refine lv_aload_n hx hb dX0_changeStep_46 rfl (lv_at hl 3 rfl) ?_
    refine tk_get C T 2 (by decide) tkl2 rfl (v := .ref (h 2)) rfl dX0_changeStep_47 ?_
    refine lv_aload_n hx hb dX0_changeStep_50 rfl (lv_at hl 3 rfl) ?_
    refine tk_get C T 21 (by decide) tkl21 rfl (v := .ref (h 21)) rfl dX0_changeStep_51 ?_
    refine lv_iload_n hx hb dX0_changeStep_54 rfl (lv_at hl 4 rfl) ?_
    refine tk_ialdN C T 21 _ _ _ tka21 tkt21 (by decide) (by omega) (v := F 21 e0) rfl dX0_changeStep_55 ?_
    refine tk_iald C T 2 _ _ _ tka2 tkt2 (by assumption) (v := F 2 (ix (F 21 e0))) rfl dX0_changeStep_56 ?_
    refine lv_imul hx hb dX0_changeStep_57 ?_
    refine lv_iload hx hb dX0_changeStep_58 (lv_at hl 1 rfl) ?_
    refine lv_iadd hx hb dX0_changeStep_60 ?_
    refine lv_aload_n hx hb dX0_changeStep_61 rfl (lv_at hl 3 rfl) ?_
    refine tk_get C T 17 (by decide) tkl17 rfl (v := .ref (h 17)) rfl dX0_changeStep_62 ?_
    refine lv_iload_n hx hb dX0_changeStep_65 rfl (lv_at hl 2 rfl) ?_
    refine tk_iald C T 17 _ _ _ tka17 tkt17 (by assumption) (v := F 17 (ix (F 25 e0))) rfl dX0_changeStep_66 ?_
    refine lv_iadd hx hb dX0_changeStep_67 ?_
    refine tk_callv C T (n := 3) (As := [.int (nI e0), .int (p_lv F e0), .int ((((F 16 (ix (F 25 e0))) * (F 2 (ix (F 21 e0)))) + own) + (F 17 (ix (F 25 e0))))]) (rest := []) (met_fixLeaf l D cA o h F G e0 (p_lv F e0) ((((F 16 (ix (F 25 e0))) * (F 2 (ix (F 21 e0)))) + own) + (F 17 (ix (F 25 e0)))) he) q170 q172 qs6 q173 rfl rfl (by decide +kernel) (by decide) rfl hl.1 (by decide) (by decide) rfl dX0_changeStep_68 (fun H locs T => ?_)
    refine lv_aload_n hx hb dX0_changeStep_71 rfl (lv_at hl 3 rfl) ?_
    refine tk_get C T 14 (by decide) tkl14 rfl (v := .ref (h 14)) rfl dX0_changeStep_72 ?_
    refine lv_aload_n hx hb dX0_changeStep_75 rfl (lv_at hl 3 rfl) ?_
    refine tk_get C T 27 (by decide) tkl27 rfl (v := .ref (h 27)) rfl dX0_changeStep_76 ?_
    refine lv_iload_n hx hb dX0_changeStep_79 rfl (lv_at hl 4 rfl) ?_
    refine tk_ialdN C T 27 _ _ _ tka27 tkt27 (by decide) (by omega) (v := F 27 e0) rfl dX0_changeStep_80 ?_
    refine tk_iald C T 14 _ _ _ tka14 tkt14 (by assumption) (v := F 14 (ix (F 27 e0))) rfl dX0_changeStep_81 ?_
    refine lv_istore (lv' := [(6, .int (F 14 (ix (F 27 e0)))), (5, .int (p_lv F e0)), (4, .int own), (3, .int (F 25 e0)), (0, .ref o), (1, .int (nI e0)), (2, .int node)]) hx hb dX0_changeStep_82 hl (by decide) rfl (fun ls hl => ?_)
    refine lv_aload_n hx hb dX0_changeStep_84 rfl (lv_at hl 4 rfl) ?_
    refine tk_get C T 15 (by decide) tkl15 rfl (v := .ref (h 15)) rfl dX0_changeStep_85 ?_
    refine lv_aload_n hx hb dX0_changeStep_88 rfl (lv_at hl 4 rfl) ?_
    refine tk_get C T 27 (by decide) tkl27 rfl (v := .ref (h 27)) rfl dX0_changeStep_89 ?_
    refine lv_iload_n hx hb dX0_changeStep_92 rfl (lv_at hl 5 rfl) ?_
    refine tk_ialdN C T 27 _ _ _ tka27 tkt27 (by decide) (by omega) (v := F 27 e0) rfl dX0_changeStep_93 ?_
    refine tk_iald C T 15 _ _ _ tka15 tkt15 (by assumption) (v := F 15 (ix (F 27 e0))) rfl dX0_changeStep_94 ?_
    refine lv_istore (lv' := [(7, .int (F 15 (ix (F 27 e0)))), (6, .int (F 14 (ix (F 27 e0)))), (5, .int (p_lv F e0)), (4, .int own), (3, .int (F 25 e0)), (0, .ref o), (1, .int (nI e0)), (2, .int node)]) hx hb dX0_changeStep_95 hl (by decide) rfl (fun ls hl => ?_)
    refine lv_aload_n hx hb dX0_changeStep_97 rfl (lv_at hl 5 rfl) ?_
    refine tk_get C T 16 (by decide) tkl16 rfl (v := .ref (h 16)) rfl dX0_changeStep_98 ?_
    refine lv_aload_n hx hb dX0_changeStep_101 rfl (lv_at hl 5 rfl) ?_
    refine tk_get C T 27 (by decide) tkl27 rfl (v := .ref (h 27)) rfl dX0_changeStep_102 ?_
    refine lv_iload_n hx hb dX0_changeStep_105 rfl (lv_at hl 6 rfl) ?_
    refine tk_ialdN C T 27 _ _ _ tka27 tkt27 (by decide) (by omega) (v := F 27 e0) rfl dX0_changeStep_106 ?_
    refine tk_iald C T 16 _ _ _ tka16 tkt16 (by assumption) (v := F 16 (ix (F 27 e0))) rfl dX0_changeStep_107 ?_
    refine lv_istore (lv' := [(8, .int (F 16 (ix (F 27 e0)))), (7, .int (F 15 (ix (F 27 e0)))), (6, .int (F 14 (ix (F 27 e0)))), (5, .int (p_lv F e0)), (4, .int own), (3, .int (F 25 e0)), (0, .ref o), (1, .int (nI e0)), (2, .int node)]) hx hb dX0_changeStep_108 hl (by decide) rfl (fun ls hl => ?_)
    refine lv_aload_n hx hb dX0_changeStep_110 rfl (lv_at hl 6 rfl) ?_
    refine tk_get C T 17 (by decide) tkl17 rfl (v := .ref (h 17)) rfl dX0_changeStep_111 ?_
    refine lv_aload_n hx hb dX0_changeStep_114 rfl (lv_at hl 6 rfl) ?_
    refine tk_get C T 27 (by decide) tkl27 rfl (v := .ref (h 27)) rfl dX0_changeStep_115 ?_
    refine lv_iload_n hx hb dX0_changeStep_118 rfl (lv_at hl 7 rfl) ?_
    refine tk_ialdN C T 27 _ _ _ tka27 tkt27 (by decide) (by omega) (v := F 27 e0) rfl dX0_changeStep_119 ?_
    refine tk_iald C T 17 _ _ _ tka17 tkt17 (by assumption) (v := F 17 (ix (F 27 e0))) rfl dX0_changeStep_120 ?_
    refine lv_istore (lv' := [(9, .int (F 17 (ix (F 27 e0)))), (8, .int (F 16 (ix (F 27 e0)))), (7, .int (F 15 (ix (F 27 e0)))), (6, .int (F 14 (ix (F 27 e0)))), (5, .int (p_lv F e0)), (4, .int own), (3, .int (F 25 e0)), (0, .ref o), (1, .int (nI e0)), (2, .int node)]) hx hb dX0_changeStep_121 hl (by decide) rfl (fun ls hl => ?_)
    refine lv_aload_n hx hb dX0_changeStep_123 rfl (lv_at hl 7 rfl) ?_
    refine tk_get C T 14 (by decide) tkl14 rfl (v := .ref (h 14)) rfl dX0_changeStep_124 ?_
    refine lv_aload_n hx hb dX0_changeStep_127 rfl (lv_at hl 7 rfl) ?_
    refine tk_get C T 26 (by decide) tkl26 rfl (v := .ref (h 26)) rfl dX0_changeStep_128 ?_
    refine lv_iload_n hx hb dX0_changeStep_131 rfl (lv_at hl 8 rfl) ?_
    refine tk_ialdN C T 26 _ _ _ tka26 tkt26 (by decide) (by omega) (v := F 26 e0) rfl dX0_changeStep_132 ?_
    refine tk_iald C T 14 _ _ _ tka14 tkt14 (by assumption) (v := F 14 (ix (F 26 e0))) rfl dX0_changeStep_133 ?_
    refine lv_istore (lv' := [(10, .int (F 14 (ix (F 26 e0)))), (9, .int (F 17 (ix (F 27 e0)))), (8, .int (F 16 (ix (F 27 e0)))), (7, .int (F 15 (ix (F 27 e0)))), (6, .int (F 14 (ix (F 27 e0)))), (5, .int (p_lv F e0)), (4, .int own), (3, .int (F 25 e0)), (0, .ref o), (1, .int (nI e0)), (2, .int node)]) hx hb dX0_changeStep_134 hl (by decide) rfl (fun ls hl => ?_)
    refine lv_aload_n hx hb dX0_changeStep_136 rfl (lv_at hl 8 rfl) ?_
    refine tk_get C T 16 (by decide) tkl16 rfl (v := .ref (h 16)) rfl dX0_changeStep_137 ?_
    refine lv_aload_n hx hb dX0_changeStep_140 rfl (lv_at hl 8 rfl) ?_
    refine tk_get C T 26 (by decide) tkl26 rfl (v := .ref (h 26)) rfl dX0_changeStep_141 ?_
    refine lv_iload_n hx hb dX0_changeStep_144 rfl (lv_at hl 9 rfl) ?_
    refine tk_ialdN C T 26 _ _ _ tka26 tkt26 (by decide) (by omega) (v := F 26 e0) rfl dX0_changeStep_145 ?_
    refine tk_iald C T 16 _ _ _ tka16 tkt16 (by assumption) (v := F 16 (ix (F 26 e0))) rfl dX0_changeStep_146 ?_
    refine lv_istore (lv' := [(11, .int (F 16 (ix (F 26 e0)))), (10, .int (F 14 (ix (F 26 e0)))), (9, .int (F 17 (ix (F 27 e0)))), (8, .int (F 16 (ix (F 27 e0)))), (7, .int (F 15 (ix (F 27 e0)))), (6, .int (F 14 (ix (F 27 e0)))), (5, .int (p_lv F e0)), (4, .int own), (3, .int (F 25 e0)), (0, .ref o), (1, .int (nI e0)), (2, .int node)]) hx hb dX0_changeStep_147 hl (by decide) rfl (fun ls hl => ?_)
    refine lv_aload_n hx hb dX0_changeStep_149 rfl (lv_at hl 9 rfl) ?_
    refine tk_get C T 29 (by decide) tkl29 rfl (v := .int (p_of (p_sj F e0) (p_ng F e0) (p_lv F e0))) rfl dX0_changeStep_150 ?_
    refine lv_iload hx hb dX0_changeStep_153 (lv_at hl 4 rfl) ?_
    refine lv_imul hx hb dX0_changeStep_155 ?_
    refine lv_aload_n hx hb dX0_changeStep_156 rfl (lv_at hl 9 rfl) ?_
    refine tk_get C T 30 (by decide) tkl30 rfl (v := .int (p_os (p_sj F e0) (p_ng F e0) (p_lv F e0))) rfl dX0_changeStep_157 ?_
    refine lv_iadd hx hb dX0_changeStep_160 ?_
    refine lv_istore (lv' := [(12, .int (((p_of (p_sj F e0) (p_ng F e0) (p_lv F e0)) * (F 15 (ix (F 27 e0)))) + (p_os (p_sj F e0) (p_ng F e0) (p_lv F e0)))), (11, .int (F 16 (ix (F 26 e0)))), (10, .int (F 14 (ix (F 26 e0)))), (9, .int (F 17 (ix (F 27 e0)))), (8, .int (F 16 (ix (F 27 e0)))), (7, .int (F 15 (ix (F 27 e0)))), (6, .int (F 14 (ix (F 27 e0)))), (5, .int (p_lv F e0)), (4, .int own), (3, .int (F 25 e0)), (0, .ref o), (1, .int (nI e0)), (2, .int node)]) hx hb dX0_changeStep_161 hl (by decide) rfl (fun ls hl => ?_)
    refine lv_aload_n hx hb dX0_changeStep_163 rfl (lv_at hl 10 rfl) ?_
    refine tk_get C T 31 (by decide) tkl31 rfl (v := .int (p_oc (p_sj F e0) ((((F 16 (ix (F 25 e0))) * (F 2 (ix (F 21 e0)))) + own) + (F 17 (ix (F 25 e0)))))) rfl dX0_changeStep_164 ?_
    refine lv_iload hx hb dX0_changeStep_167 (lv_at hl 5 rfl) ?_
    refine lv_imul hx hb dX0_changeStep_169 ?_
    refine lv_aload_n hx hb dX0_changeStep_170 rfl (lv_at hl 10 rfl) ?_
    refine tk_get C T 29 (by decide) tkl29 rfl (v := .int (p_of (p_sj F e0) (p_ng F e0) (p_lv F e0))) rfl dX0_changeStep_171 ?_
    refine lv_iload hx hb dX0_changeStep_174 (lv_at hl 3 rfl) ?_
    refine lv_imul hx hb dX0_changeStep_176 ?_
    refine lv_iadd hx hb dX0_changeStep_177 ?_
    refine lv_aload_n hx hb dX0_changeStep_178 rfl (lv_at hl 10 rfl) ?_
    refine tk_get C T 32 (by decide) tkl32 rfl (v := .int (p_os (p_sj F e0) (p_ng F e0) ((((F 16 (ix (F 25 e0))) * (F 2 (ix (F 21 e0)))) + own) + (F 17 (ix (F 25 e0)))))) rfl dX0_changeStep_179 ?_
    refine lv_iadd hx hb dX0_changeStep_182 ?_
    refine lv_istore (lv' := [(13, .int ((((p_oc (p_sj F e0) ((((F 16 (ix (F 25 e0))) * (F 2 (ix (F 21 e0)))) + own) + (F 17 (ix (F 25 e0))))) * (F 15 (ix (F 27 e0)))) + ((p_of (p_sj F e0) (p_ng F e0) (p_lv F e0)) * (F 17 (ix (F 27 e0))))) + (p_os (p_sj F e0) (p_ng F e0) ((((F 16 (ix (F 25 e0))) * (F 2 (ix (F 21 e0)))) + own) + (F 17 (ix (F 25 e0))))))), (12, .int (((p_of (p_sj F e0) (p_ng F e0) (p_lv F e0)) * (F 15 (ix (F 27 e0)))) + (p_os (p_sj F e0) (p_ng F e0) (p_lv F e0)))), (11, .int (F 16 (ix (F 26 e0)))), (10, .int (F 14 (ix (F 26 e0)))), (9, .int (F 17 (ix (F 27 e0)))), (8, .int (F 16 (ix (F 27 e0)))), (7, .int (F 15 (ix (F 27 e0)))), (6, .int (F 14 (ix (F 27 e0)))), (5, .int (p_lv F e0)), (4, .int own), (3, .int (F 25 e0)), (0, .ref o), (1, .int (nI e0)), (2, .int node)]) hx hb dX0_changeStep_183 hl (by decide) rfl (fun ls hl => ?_)
    refine lv_aload_n hx hb dX0_changeStep_185 rfl (lv_at hl 11 rfl) ?_
    refine tk_get C T 16 (by decide) tkl16 rfl (v := .ref (h 16)) rfl dX0_changeStep_186 ?_
    refine lv_bipush (v := 31) hx hb dX0_changeStep_189 (by decide) ?_
    refine lv_iload_n hx hb dX0_changeStep_191 rfl (lv_at hl 12 rfl) ?_
    refine lv_iadd hx hb dX0_changeStep_192 ?_
    refine lx_top (w := nI (31 + e0)) (nI_add 31 e0) ?_
    refine lv_iload hx hb dX0_changeStep_193 (lv_at hl 2 rfl) ?_
    refine lv_aload_n hx hb dX0_changeStep_195 rfl (lv_at hl 11 rfl) ?_
    refine tk_get C T 29 (by decide) tkl29 rfl (v := .int (p_of (p_sj F e0) (p_ng F e0) (p_lv F e0))) rfl dX0_changeStep_196 ?_
    refine lv_imul hx hb dX0_changeStep_199 ?_
    refine lv_iload hx hb dX0_changeStep_200 (lv_at hl 7 rfl) ?_
    refine lv_imul hx hb dX0_changeStep_202 ?_
    refine lv_iload hx hb dX0_changeStep_203 (lv_at hl 3 rfl) ?_
    refine lv_aload_n hx hb dX0_changeStep_205 rfl (lv_at hl 11 rfl) ?_
    refine tk_get C T 31 (by decide) tkl31 rfl (v := .int (p_oc (p_sj F e0) ((((F 16 (ix (F 25 e0))) * (F 2 (ix (F 21 e0)))) + own) + (F 17 (ix (F 25 e0)))))) rfl dX0_changeStep_206 ?_
    refine lv_imul hx hb dX0_changeStep_209 ?_
    refine lv_iload hx hb dX0_changeStep_210 (lv_at hl 7 rfl) ?_
    refine lv_imul hx hb dX0_changeStep_212 ?_
    refine lv_iadd hx hb dX0_changeStep_213 ?_
    refine lv_iload hx hb dX0_changeStep_214 (lv_at hl 3 rfl) ?_
    refine lv_aload_n hx hb dX0_changeStep_216 rfl (lv_at hl 11 rfl) ?_
    refine tk_get C T 29 (by decide) tkl29 rfl (v := .int (p_of (p_sj F e0) (p_ng F e0) (p_lv F e0))) rfl dX0_changeStep_217 ?_
    refine lv_imul hx hb dX0_changeStep_220 ?_
    refine lv_iload hx hb dX0_changeStep_221 (lv_at hl 5 rfl) ?_
    refine lv_imul hx hb dX0_changeStep_223 ?_
    refine lv_iadd hx hb dX0_changeStep_224 ?_
    refine tk_iastN C T 16 _ _ _ tka16 tkt16 (by decide) (by omega) tks16 dX0_changeStep_225 (fun H locs T => ?_)
    refine lv_aload_n hx hb dX0_changeStep_226 rfl (lv_at hl 11 rfl) ?_
    refine tk_get C T 17 (by decide) tkl17 rfl (v := .ref (h 17)) rfl dX0_changeStep_227 ?_
    refine lv_bipush (v := 31) hx hb dX0_changeStep_230 (by decide) ?_
    refine lv_iload_n hx hb dX0_changeStep_232 rfl (lv_at hl 12 rfl) ?_
    refine lv_iadd hx hb dX0_changeStep_233 ?_
    refine lx_top (w := nI (31 + e0)) (nI_add 31 e0) ?_
    refine lv_iload hx hb dX0_changeStep_234 (lv_at hl 2 rfl) ?_
    refine lv_iload hx hb dX0_changeStep_236 (lv_at hl 1 rfl) ?_
    refine lv_imul hx hb dX0_changeStep_238 ?_
    refine lv_iload hx hb dX0_changeStep_239 (lv_at hl 3 rfl) ?_
    refine lv_iload hx hb dX0_changeStep_241 (lv_at hl 0 rfl) ?_
    refine lv_imul hx hb dX0_changeStep_243 ?_
    refine lv_iadd hx hb dX0_changeStep_244 ?_
    refine lv_aload_n hx hb dX0_changeStep_245 rfl (lv_at hl 11 rfl) ?_
    refine tk_get C T 17 (by decide) tkl17 rfl (v := .ref (h 17)) rfl dX0_changeStep_246 ?_
    refine lv_aload_n hx hb dX0_changeStep_249 rfl (lv_at hl 11 rfl) ?_
    refine tk_get C T 26 (by decide) tkl26 rfl (v := .ref (h 26)) rfl dX0_changeStep_250 ?_
    refine lv_iload_n hx hb dX0_changeStep_253 rfl (lv_at hl 12 rfl) ?_
    refine tk_ialdN C T 26 _ _ _ tka26 tkt26 (by decide) (by omega) (v := F 26 e0) rfl dX0_changeStep_254 ?_
    refine tk_iald C T 17 _ _ _ tka17 tkt17 (by assumption) (v := F 17 (ix (F 26 e0))) rfl dX0_changeStep_255 ?_
    refine lv_iadd hx hb dX0_changeStep_256 ?_
    refine tk_iastN C T 17 _ _ _ tka17 tkt17 (by decide) (by omega) tks17 dX0_changeStep_257 (fun H locs T => ?_)
    exact tk_vret C T hr hlk (by subst hown; rfl) dX0_changeStep_258
  · refine lv_aload_n hx hb dX0_changeStep_7 rfl (lv_at hl 1 rfl) ?_
    refine tk_get C T 21 (by decide) tkl21 rfl (v := .ref (h 21)) rfl dX0_changeStep_8 ?_
    refine lv_iload_n hx hb dX0_changeStep_11 rfl (lv_at hl 2 rfl) ?_
    refine tk_ialdN C T 21 _ _ _ tka21 tkt21 (by decide) (by omega) (v := F 21 e0) rfl dX0_changeStep_12 ?_
    refine lv_iload_n hx hb dX0_changeStep_13 rfl (lv_at hl 3 rfl) ?_
    refine lv_icmp_ne (tgt := 26) hx hb dX0_changeStep_14 (by decide) (fun c14 => ?_) (fun c14 => ?_)
    · refine lv_iconst (v := 0) hx hb dX0_changeStep_26 (by decide) ?_
      exact K7_27 _ (by simp [p_own, c14])
    · refine lv_aload_n hx hb dX0_changeStep_17 rfl (lv_at hl 1 rfl) ?_
      refine tk_get C T 14 (by decide) tkl14 rfl (v := .ref (h 14)) rfl dX0_changeStep_18 ?_
      refine lv_iload_n hx hb dX0_changeStep_21 rfl (lv_at hl 0 rfl) ?_
      refine tk_iald C T 14 _ _ _ tka14 tkt14 (by assumption) (v := F 14 (ix (F 25 e0))) rfl dX0_changeStep_22 ?_
      refine lv_goto (tgt := 27) hx hb dX0_changeStep_23 (by decide) ?_
      exact K7_27 _ (by simp [p_own, c14])
end
section
/-! what the larger methods compute -/
theorem tx_nI {v : Int32} {n : Nat} (h : vp_in v n) (hn : n < 2 ^ 31) : v = nI (ix v) ∧ ix v < n := by
  obtain ⟨j, hj, rfl⟩ := vp_in_of h hn
  rw [show ix (nI j) = j from nI_clamp (by omega)]
  exact ⟨rfl, hj⟩
theorem tx_m1 (v : Int32) : v + Int32.ofInt (-1) = v - 1 := by
  rw [Int32.sub_eq_add_neg]; rfl
theorem tx_lt0 {d : Nat} (hd : d < 2 ^ 30) : nI d - 1 < 0 ↔ d = 0 := by
  rw [Int32.lt_iff_toInt_lt, show (1 : Int32) = nI 1 from rfl, pk_sub_toInt hd (by decide)]
  show (d : Int) - 1 < 0 ↔ _
  omega
/-- k turns of a loop's body -/
def lpN {σ : Type} (b : Nat → σ → σ) : Nat → σ → σ
  | 0, s => s
  | k + 1, s => b k (lpN b k s)
abbrev xS : Type := xF × xG
/-- linkParents -/
def p_lkB (k : Nat) (F : xF) : xF := if F 0 k = 2 then fS (fS F 8 (ix (F 3 k)) (nI k)) 8 (ix (F 4 k)) (nI k) else F
def p_lk (F : xF) : xF := lpN p_lkB 31 (fS F 8 0 (-1))
theorem p_lk_keep (F : xF) (j a : Nat) (h : a ≠ 8) : lpN p_lkB j F a = F a := by
  induction j with
  | zero => rfl
  | succ j ih =>
    show p_lkB j (lpN p_lkB j F) a = _
    unfold p_lkB
    split
    · simp only [fS, if_neg h]; exact ih
    · exact ih
def okLk (F : xF) : Prop := ∀ n, n < 31 → F 0 n = 2 → vp_in (F 3 n) 31 ∧ vp_in (F 4 n) 31
/-- listLeaves: t turns left, d on the stack -/
def p_llL : Nat → xF → xG → Nat → xS
  | 0, F, G, _ => (F, G)
  | _ + 1, F, G, 0 => (F, G)
  | t + 1, F, G, d + 1 => if F 0 (ix (F 13 d)) = 1 then p_llL t (fS F 12 (ix (G 11)) (F 13 d)) (gS G 11 (G 11 + 1)) d else p_llL t (fS (fS F 13 d (F 7 (ix (F 13 d)))) 13 (d + 1) (F 6 (ix (F 13 d)))) G (d + 2)
def okLL : Nat → xF → xG → Nat → Prop
  | 0, _, _, _ => True
  | _ + 1, _, _, 0 => True
  | t + 1, F, G, d + 1 => d < 31 ∧ vp_in (F 13 d) 31 ∧ (F 0 (ix (F 13 d)) = 1 → vp_in (G 11) 16 ∧ okLL t (fS F 12 (ix (G 11)) (F 13 d)) (gS G 11 (G 11 + 1)) d) ∧ (¬ F 0 (ix (F 13 d)) = 1 → okLL t (fS (fS F 13 d (F 7 (ix (F 13 d)))) 13 (d + 1) (F 6 (ix (F 13 d)))) G (d + 2))
def p_ll (S : xS) : xS := p_llL 32 (fS S.1 13 0 (S.2 10)) (gS S.2 11 0) 1
def ok_ll (S : xS) : Prop := okLL 32 (fS S.1 13 0 (S.2 10)) (gS S.2 11 0) 1
/-- takeLeaf -/
def p_oth (F : xF) (p b : Int32) : Int32 := if b = 0 then F 6 (ix p) else F 7 (ix p)
def p_tl1 (F : xF) (l p b : Int32) (e : Nat) : xF := fS (fS (fS (fS (fS (fS (fS (fS (fS F 21 e l) 22 e p) 23 e (p_oth F p b)) 24 e b) 25 e (F 9 (ix l))) 26 e (F 9 (ix p))) 27 e (F 9 (ix (p_oth F p b)))) 28 (ix p) (nI e)) 8 (ix (p_oth F p b)) (F 8 (ix p))
def p_tl2 (F : xF) (l p b : Int32) (e : Nat) : xF := if 0 ≤ F 8 (ix p) then (if F 6 (ix (F 8 (ix p))) = p then fS (p_tl1 F l p b e) 6 (ix (F 8 (ix p))) (p_oth F p b) else fS (p_tl1 F l p b e) 7 (ix (F 8 (ix p))) (p_oth F p b)) else p_tl1 F l p b e
def p_tl3 (F : xF) (l p b : Int32) (e : Nat) : xF := fS (fS (p_tl2 F l p b e) 8 (ix l) (-1)) 9 (ix (p_oth F p b)) (nI (31 + e))
def p_tlG2 (F : xF) (G : xG) (p b : Int32) : xG := if 0 ≤ F 8 (ix p) then gS G 20 (G 20 + 1) else gS (gS G 20 (G 20 + 1)) 10 (p_oth F p b)
def p_tl (S : xS) (l p b : Int32) : xS := (p_woF (p_tl3 S.1 l p b (ix (S.2 20))) (ix (S.2 20)), p_woG (p_tl3 S.1 l p b (ix (S.2 20))) (p_tlG2 S.1 S.2 p b) (ix (S.2 20)))
def okTl (S : xS) (l p b : Int32) : Prop := vp_in l 31 ∧ vp_in p 31 ∧ (b = 0 ∨ b = 1) ∧ vp_in (S.2 20) 15 ∧ vp_in (p_oth S.1 p b) 31 ∧ (0 ≤ S.1 8 (ix p) → vp_in (S.1 8 (ix p)) 31) ∧ okE (p_tl3 S.1 l p b (ix (S.2 20))) (ix (S.2 20))
/-- takeLeaves -/
def p_isL (F : xF) (l p : Int32) : Int32 := if p < 0 then 0 else if F 6 (ix p) = l then 1 else 0
def p_tsB (b : Int32) (i : Nat) (S : xS) : xS := if S.1 8 (ix (S.1 12 (2 * i))) < 0 then S else if p_isL S.1 (S.1 12 (2 * i)) (S.1 8 (ix (S.1 12 (2 * i)))) = b then p_tl S (S.1 12 (2 * i)) (S.1 8 (ix (S.1 12 (2 * i)))) b else S
def okTsB (b : Int32) (i : Nat) (S : xS) : Prop := vp_in (S.1 12 (2 * i)) 31 ∧ (¬ S.1 8 (ix (S.1 12 (2 * i))) < 0 → vp_in (S.1 8 (ix (S.1 12 (2 * i)))) 31) ∧ (¬ S.1 8 (ix (S.1 12 (2 * i))) < 0 → p_isL S.1 (S.1 12 (2 * i)) (S.1 8 (ix (S.1 12 (2 * i)))) = b → okTl S (S.1 12 (2 * i)) (S.1 8 (ix (S.1 12 (2 * i)))) b)
theorem p_tlG_11 (S : xS) (l p b : Int32) : (p_tl S l p b).2 11 = S.2 11 := by
  show p_tlG2 S.1 S.2 p b 11 = _
  unfold p_tlG2
  split <;> rfl
theorem p_ts_11 (b : Int32) (i : Nat) (S : xS) : (lpN (p_tsB b) i S).2 11 = S.2 11 := by
  induction i with
  | zero => rfl
  | succ i ih =>
    show (p_tsB b i (lpN (p_tsB b) i S)).2 11 = _
    unfold p_tsB
    split
    · exact ih
    · split
      · rw [p_tlG_11]; exact ih
      · exact ih
/-- how many turns: the leaves 0, 2, 4 .. -/
def p_half (x : Int32) : Nat := (ix x + 1) / 2
def p_ts (b : Int32) (S : xS) : xS := lpN (p_tsB b) (p_half (S.2 11)) S
def ok_ts (b : Int32) (S : xS) : Prop := vp_in (S.2 11) 17 ∧ ∀ i, i < p_half (S.2 11) → okTsB b i (lpN (p_tsB b) i S)
/-- contract -/
def p_ciB (k : Nat) (F : xF) : xF := fS (fS (fS (fS (fS F 6 k (F 3 k)) 7 k (F 4 k)) 9 k (nI k)) 14 k 1) 15 k 0
def p_ci (F : xF) : xF := lpN p_ciB 31 F
theorem p_ci_keep (F : xF) (j a : Nat) (h : a ≠ 6 ∧ a ≠ 7 ∧ a ≠ 9 ∧ a ≠ 14 ∧ a ≠ 15) : lpN p_ciB j F a = F a := by
  induction j with
  | zero => rfl
  | succ j ih =>
    show p_ciB j (lpN p_ciB j F) a = _
    simp only [p_ciB, fS, if_neg h.1, if_neg h.2.1, if_neg h.2.2.1, if_neg h.2.2.2.1, if_neg h.2.2.2.2]
    exact ih
def p_rd (S : xS) : xS := p_ts 0 (p_ts 1 (p_ll S))
def p_rdL : Nat → xS → xS
  | 0, S => S
  | t + 1, S => if S.1 0 (ix (S.2 10)) = 2 then p_rdL t (p_rd S) else S
def okRd : Nat → xS → Prop
  | 0, _ => True
  | t + 1, S => vp_in (S.2 10) 31 ∧ (S.1 0 (ix (S.2 10)) = 2 → ok_ll S ∧ ok_ts 1 (p_ll S) ∧ ok_ts 0 (p_ts 1 (p_ll S)) ∧ okRd t (p_rd S))
def p_ct0 (S : xS) : xS := (p_lk (p_ci S.1), gS (gS (gS S.2 19 1) 20 0) 10 0)
def p_ct (S : xS) : xS := if S.2 19 = 0 then p_rdL 16 (p_ct0 S) else S
def ok_ct (S : xS) : Prop := S.2 19 = 0 → okLk S.1 ∧ okRd 16 (p_ct0 S)
/-- renew -/
def p_rz (F : xF) : xF := lpN (fun k F => fS F 18 k 0) 46 F
def p_use (F : xF) (e : Nat) : Int32 := if F 18 (ix (F 25 e)) = 0 then (if F 18 (ix (F 26 e)) = 0 then (if F 18 (ix (F 27 e)) = 0 then 0 else 1) else 1) else 1
def p_rnB (node : Int32) (e : Nat) (S : xS) : xS := if p_use S.1 e = 0 then (if S.1 21 e = node then (fS (p_woF S.1 e) 18 (31 + e) 1, p_woG S.1 S.2 e) else if S.1 22 e = node then (fS (p_woF S.1 e) 18 (31 + e) 1, p_woG S.1 S.2 e) else S) else (fS (p_woF S.1 e) 18 (31 + e) 1, p_woG S.1 S.2 e)
def p_rn (node : Int32) (S : xS) : xS := lpN (p_rnB node) (ix (S.2 20)) (p_rz S.1, S.2)
def okSt (S : xS) : Prop := vp_in (S.2 20) 16 ∧ ∀ e, e < ix (S.2 20) → okE S.1 e
theorem p_rz_keep (F : xF) (j a : Nat) (h : a ≠ 18) : lpN (fun k F => fS F 18 k 0) j F a = F a := by
  induction j with
  | zero => rfl
  | succ j ih =>
    show fS (lpN (fun k F => fS F 18 k 0) j F) 18 j 0 a = _
    simp only [fS, if_neg h]
    exact ih
theorem p_wo_keep (F : xF) (e a : Nat) (h : a ≠ 14 ∧ a ≠ 15) : p_woF F e a = F a := by
  simp only [p_woF, fS, if_neg h.1, if_neg h.2]
theorem p_rn_keep (node : Int32) (S : xS) (j a : Nat) (h : a ≠ 14 ∧ a ≠ 15 ∧ a ≠ 18) : (lpN (p_rnB node) j S).1 a = S.1 a := by
  induction j with
  | zero => rfl
  | succ j ih =>
    show (p_rnB node j (lpN (p_rnB node) j S)).1 a = _
    have h2 : fS (p_woF (lpN (p_rnB node) j S).1 j) 18 (31 + j) 1 a = S.1 a := by
      simp only [fS, if_neg h.2.2]
      rw [p_wo_keep _ _ _ ⟨h.1, h.2.1⟩]
      exact ih
    unfold p_rnB
    split
    · split
      · exact h2
      · split
        · exact h2
        · exact ih
    · exact h2
theorem p_rn_G (node : Int32) (S : xS) (j a : Nat) (h : a < 29) : (lpN (p_rnB node) j S).2 a = S.2 a := by
  have h29 : a ≠ 29 := by omega
  have h30 : a ≠ 30 := by omega
  have h31 : a ≠ 31 := by omega
  have h32 : a ≠ 32 := by omega
  induction j with
  | zero => rfl
  | succ j ih =>
    show (p_rnB node j (lpN (p_rnB node) j S)).2 a = _
    have h2 : p_woG (lpN (p_rnB node) j S).1 (lpN (p_rnB node) j S).2 j a = S.2 a := by
      simp only [p_woG, p_fxG, gS, if_neg h29, if_neg h30, if_neg h31, if_neg h32]
      exact ih
    unfold p_rnB
    split
    · split
      · exact h2
      · split
        · exact h2
        · exact ih
    · exact h2
theorem okE_of {F F' : xF} {e : Nat} (h : okE F e) (h21 : F' 21 = F 21) (h22 : F' 22 = F 22) (h25 : F' 25 = F 25) (h26 : F' 26 = F 26) (h27 : F' 27 = F 27) : okE F' e := by
  unfold okE
  rw [h21, h22, h25, h26, h27]
  exact h
/-- value: down the steps, then up -/
def p_vdL : Nat → xF → Int32 → Nat → xF × Int32 × Nat
  | 0, F, a, d => (F, a, d)
  | t + 1, F, a, d => if F 0 (ix a) = 2 then p_vdL t (fS F 13 d (F 28 (ix a))) (F 23 (ix (F 28 (ix a)))) (d + 1) else (F, a, d)
def okVd : Nat → xF → Int32 → Nat → Prop
  | 0, _, a, d => d ≤ 16 ∧ vp_in a 31
  | t + 1, F, a, d => d ≤ 16 ∧ vp_in a 31 ∧ (F 0 (ix a) = 2 → vp_in (F 28 (ix a)) 15 ∧ okVd t (fS F 13 d (F 28 (ix a))) (F 23 (ix (F 28 (ix a)))) (d + 1))
def p_vs (F : xF) (e : Nat) (v : Int32) : Int32 := if F 24 e = 0 then p_calc (p_sj F e) (F 14 (ix (F 27 e)) * v + F 15 (ix (F 27 e))) (p_lv F e) else p_calc (p_sj F e) (p_lv F e) (F 14 (ix (F 27 e)) * v + F 15 (ix (F 27 e)))
def p_vuL (F : xF) : Nat → Int32 → Int32
  | 0, v => v
  | d + 1, v => p_vuL F d (p_vs F (ix (F 13 d)) v)
def p_vd (S : xS) (node : Int32) : xF × Int32 × Nat := p_vdL 16 S.1 node 0
def okV (S : xS) (node : Int32) : Prop := okVd 16 S.1 node 0 ∧ (p_vd S node).2.2 ≤ 16 ∧ vp_in (p_vd S node).2.1 31 ∧ ∀ i, i < (p_vd S node).2.2 → vp_in ((p_vd S node).1 13 i) 15 ∧ okE (p_vd S node).1 (ix ((p_vd S node).1 13 i))
def p_vv (S : xS) (node : Int32) : Int32 := p_vuL (p_vd S node).1 (p_vd S node).2.2 ((p_vd S node).1 2 (ix (p_vd S node).2.1))
def p_valR (S : xS) (node : Int32) : Int32 := if p_kindOf S.1 node = 0 then 0 else p_vv (p_ct S) node
def p_valS (S : xS) (node : Int32) : xS := if p_kindOf S.1 node = 0 then S else ((p_vd (p_ct S) node).1, (p_ct S).2)
def ok_val (S : xS) (node : Int32) : Prop := ¬ p_kindOf S.1 node = 0 → ok_ct S ∧ okV (p_ct S) node
/-- slope -/
def p_szB (k : Nat) (F : xF) : xF := fS (fS F 16 k 0) 17 k 0
def p_scB (node : Int32) (e : Nat) (S : xS) : xS := (p_csF S.1 e node, p_csG S.1 S.2 e node)
def p_sc (node : Int32) (S : xS) : xS := lpN (p_scB node) (ix (S.2 20)) (lpN p_szB 46 S.1, S.2)
theorem p_sz_keep (F : xF) (j a : Nat) (h : a ≠ 16 ∧ a ≠ 17) : lpN p_szB j F a = F a := by
  induction j with
  | zero => rfl
  | succ j ih =>
    show p_szB j (lpN p_szB j F) a = _
    simp only [p_szB, fS, if_neg h.1, if_neg h.2]
    exact ih
theorem p_sc_keep (node : Int32) (S : xS) (j a : Nat) (h : a ≠ 16 ∧ a ≠ 17) : (lpN (p_scB node) j S).1 a = S.1 a := by
  induction j with
  | zero => rfl
  | succ j ih =>
    show p_csF (lpN (p_scB node) j S).1 j node a = _
    simp only [p_csF, fS, if_neg h.1, if_neg h.2]
    exact ih
theorem p_sc_G (node : Int32) (S : xS) (j a : Nat) (h : a < 29) : (lpN (p_scB node) j S).2 a = S.2 a := by
  have h29 : a ≠ 29 := by omega
  have h30 : a ≠ 30 := by omega
  have h31 : a ≠ 31 := by omega
  have h32 : a ≠ 32 := by omega
  induction j with
  | zero => rfl
  | succ j ih =>
    show p_csG (lpN (p_scB node) j S).1 (lpN (p_scB node) j S).2 j node a = _
    simp only [p_csG, p_fxG, gS, if_neg h29, if_neg h30, if_neg h31, if_neg h32]
    exact ih
def p_sv (S : xS) (node : Int32) : Int32 := S.1 16 (ix (S.1 9 (ix (S.2 10)))) * S.1 2 (ix (S.2 10)) + (if S.2 10 = node then S.1 14 (ix (S.1 9 (ix (S.2 10)))) else 0) + S.1 17 (ix (S.1 9 (ix (S.2 10))))
def p_sloR (S : xS) (node : Int32) : Int32 := if p_kindOf S.1 node = 1 then p_sv (p_sc node (p_ct S)) node else 0
def p_sloS (S : xS) (node : Int32) : xS := if p_kindOf S.1 node = 1 then p_sc node (p_ct S) else S
def ok_slo (S : xS) (node : Int32) : Prop := p_kindOf S.1 node = 1 → ok_ct S ∧ okSt (p_ct S) ∧ vp_in ((p_ct S).2 10) 31 ∧ vp_in ((p_ct S).1 9 (ix ((p_ct S).2 10))) 46
/-- grow -/
def p_gl (F : xF) : Nat := p_free (F 0) 31 0
def p_gr (F : xF) : Nat := p_free (F 0) (31 - (p_gl F + 1)) (p_gl F + 1)
def p_grF (F : xF) (node sort a b : Int32) : xF := fS (fS (fS (fS (p_mk (p_mk F (p_gl F) a) (p_gr F) b) 0 (ix node) 2) 1 (ix node) (sort &&& 3)) 3 (ix node) (nI (p_gl F))) 4 (ix node) (nI (p_gr F))
def p_grR (S : xS) (node : Int32) : Int32 := if p_kindOf S.1 node = 1 then (if S.2 5 < 15 then nI (p_gl S.1) else -1) else -1
def p_grS (S : xS) (node sort a b : Int32) : xS := if p_kindOf S.1 node = 1 then (if S.2 5 < 15 then (p_grF S.1 node sort a b, gS (gS S.2 5 (S.2 5 + 1)) 19 0) else S) else S
/-- shrink -/
def p_shF (F : xF) (node : Int32) : xF := p_mk (fS (fS F 0 (ix (F 3 (ix node))) 0) 0 (ix (F 4 (ix node))) 0) (ix node) (p_calc (F 1 (ix node)) (F 2 (ix (F 3 (ix node)))) (F 2 (ix (F 4 (ix node)))))
def p_shC (F : xF) (node : Int32) : Int32 := if p_kindOf F node = 2 then (if F 0 (ix (F 3 (ix node))) = 1 then (if F 0 (ix (F 4 (ix node))) = 1 then 1 else 0) else 0) else 0
def p_shR (S : xS) (node : Int32) : Int32 := if p_shC S.1 node = 1 then 0 else -1
def p_shS (S : xS) (node : Int32) : xS := if p_shC S.1 node = 1 then (p_shF S.1 node, gS (gS S.2 5 (S.2 5 - 1)) 19 0) else S
def ok_ch (S : xS) (node : Int32) : Prop := p_kindOf S.1 node = 2 → vp_in (S.1 3 (ix node)) 31 ∧ vp_in (S.1 4 (ix node)) 31
/-- set, setSort, turn -/
def p_seR (S : xS) (node : Int32) : Int32 := if p_kindOf S.1 node = 1 then 0 else -1
def p_seS (S : xS) (node v : Int32) : xS := if p_kindOf S.1 node = 1 then (if S.2 19 = 0 then (fS S.1 2 (ix node) v, S.2) else p_rn node (fS S.1 2 (ix node) v, S.2)) else S
def p_soR (S : xS) (node : Int32) : Int32 := if p_kindOf S.1 node = 2 then 0 else -1
def p_soS (S : xS) (node sort : Int32) : xS := if p_kindOf S.1 node = 2 then (if S.2 19 = 0 then (fS S.1 1 (ix node) (sort &&& 3), S.2) else p_rn node (fS S.1 1 (ix node) (sort &&& 3), S.2)) else S
def p_tuS (S : xS) (node : Int32) : xS := if p_kindOf S.1 node = 2 then (fS (fS S.1 3 (ix node) (S.1 4 (ix node))) 4 (ix node) (S.1 3 (ix node)), gS S.2 19 0) else S
def p_leR (F : xF) (node : Int32) : Int32 := if p_kindOf F node = 2 then F 3 (ix node) else -1
def p_riR (F : xF) (node : Int32) : Int32 := if p_kindOf F node = 2 then F 4 (ix node) else -1
end
section
set_option maxRecDepth 100000
set_option maxHeartbeats 400000
theorem p_ct_pos {S : xS} (h : S.2 19 = 0) : p_rdL 16 (p_ct0 S) = p_ct S := by
  unfold p_ct
  rw [if_pos h]
theorem p_ct_neg {S : xS} (h : ¬ S.2 19 = 0) : p_ct S = S := by
  unfold p_ct
  rw [if_neg h]
theorem p_ct0_1 {S : xS} : (p_ct0 S).1 = p_lk (p_ci S.1) := by simp only [p_ct0]
theorem p_ct0_2 {S : xS} : (p_ct0 S).2 = gS (gS (gS S.2 19 1) 20 0) 10 0 := by simp only [p_ct0]
theorem okLk_ci {F : xF} (h : okLk F) : okLk (p_ci F) := by
  unfold p_ci
  intro n hn h2
  rw [p_ci_keep F 31 0 (by decide)] at h2
  rw [p_ci_keep F 31 3 (by decide), p_ci_keep F 31 4 (by decide)]
  exact h n hn h2
theorem okE_rn (node : Int32) {F : xF} (G : xG) (j : Nat) {i : Nat} (h : okE F i) : okE (lpN (p_rnB node) j (p_rz F, G)).1 i := by
  have k : ∀ a : Nat, a ≠ 14 ∧ a ≠ 15 ∧ a ≠ 18 → (lpN (p_rnB node) j (p_rz F, G)).1 a = F a := fun a ha => (p_rn_keep node (p_rz F, G) j a ha).trans (p_rz_keep F 46 a ha.2.2)
  exact okE_of h (k 21 (by decide)) (k 22 (by decide)) (k 25 (by decide)) (k 26 (by decide)) (k 27 (by decide))
theorem met_linkParents (l : Launch) (D : va_G) (cA : Nat → ClassId) (o : Nat) (h : Nat → Nat) (F : xF) (G : xG) (hok : okLk F) : tkMv l yX0_linkParents cX0_linkParents 2 (rmL 0) D cA o h [.ref o] F G (p_lk F) G := by
  refine tk_ofv (by decide) rfl (Nat.le_of_ble_eq_true rfl) ?_
  intro p e s m below meth c A ls C T hr hlk hl
  have hx := C.1
  have hb := C.2.1
  have hl : lv_has ls 2 [(0, .ref o)] := hl
  refine lv_aload_n hx hb dX0_linkParents_0 rfl (lv_at hl 0 rfl) ?_
  refine tk_get C T 8 (by decide) tkl8 rfl (v := .ref (h 8)) rfl dX0_linkParents_1 ?_
  refine lv_iconst (v := 0) hx hb dX0_linkParents_4 (by decide) ?_
  refine lx_top (w := nI 0) rfl ?_
  refine lv_iconst (v := -1) hx hb dX0_linkParents_5 (by decide) ?_
  refine tk_iastN C T 8 _ _ _ tka8 tkt8 (by decide) (by omega) tks8 dX0_linkParents_6 (fun H locs T => ?_)
  refine lv_iconst (v := 0) hx hb dX0_linkParents_7 (by decide) ?_
  refine lv_istore_n (lv' := [(1, .int (0 : Int32)), (0, .ref o)]) hx hb dX0_linkParents_8 rfl hl (by decide) rfl (fun ls hl => ?_)
  refine lx_loop (pc := 9) (fun n ls H locs => ∃ (j : Nat), (j + n = 32) ∧ (j ≤ 31) ∧ tkT D cA o h A s.heap (lpN p_lkB j (fS F 8 0 (-1))) G H locs ∧ lv_has ls 2 [(1, .int (nI j)), (0, .ref o)]) ?_ ?_ (32) ?_
  · rintro ls H locs ⟨j, h9_0, h9_1, T, hl⟩
    omega
  · rintro n ih9 ls H locs ⟨j, h9_0, h9_1, T, hl⟩
    refine lv_iload_n hx hb dX0_linkParents_9 rfl (lv_at hl 0 rfl) ?_
    refine lv_bipush (v := 31) hx hb dX0_linkParents_10 (by decide) ?_
    refine lv_icmp_ge (tgt := 55) hx hb dX0_linkParents_12 (by decide) (fun c12 => ?_) (fun c12 => ?_)
    · have c12 := (nI_leI (a := 31) (b := j) (by omega) (by omega)).mp c12
      obtain rfl : j = 31 := by omega
      exact tk_vret C T hr hlk rfl dX0_linkParents_55
    · have c12 : ¬ 31 ≤ j := fun hq_ => c12 ((nI_leI (a := 31) (b := j) (by omega) (by omega)).mpr hq_)
      refine lv_aload_n hx hb dX0_linkParents_15 rfl (lv_at hl 1 rfl) ?_
      refine tk_get C T 0 (by decide) tkl0 rfl (v := .ref (h 0)) rfl dX0_linkParents_16 ?_
      refine lv_iload_n hx hb dX0_linkParents_19 rfl (lv_at hl 0 rfl) ?_
      refine tk_ialdN C T 0 _ _ _ tka0 tkt0 (by decide) (by omega) (v := lpN p_lkB j (fS F 8 0 (-1)) 0 j) rfl dX0_linkParents_20 ?_
      refine lv_iconst (v := 2) hx hb dX0_linkParents_21 (by decide) ?_
      refine lv_icmp_ne (tgt := 49) hx hb dX0_linkParents_22 (by decide) (fun c22 => ?_) (fun c22 => ?_)
      · refine lv_iinc (v := nI (j + 1)) (lv' := [(1, .int (nI (j + 1))), (0, .ref o)]) hx hb dX0_linkParents_49 hl (k := 0) rfl (tx_inc1 j) (by decide) rfl (fun ls hl => ?_)
        refine lv_goto (tgt := 9) hx hb dX0_linkParents_52 (by decide) ?_
        exact ih9 _ _ _ ⟨j + 1, by omega, by omega, by first | (rw [show lpN p_lkB (j + 1) (fS F 8 0 (-1)) = _ from if_pos c22]; exact T) | (rw [show lpN p_lkB (j + 1) (fS F 8 0 (-1)) = _ from if_neg c22]; exact T), lv_sub hl [0, 1] rfl⟩
      · refine lv_aload_n hx hb dX0_linkParents_25 rfl (lv_at hl 1 rfl) ?_
        refine tk_get C T 8 (by decide) tkl8 rfl (v := .ref (h 8)) rfl dX0_linkParents_26 ?_
        refine lv_aload_n hx hb dX0_linkParents_29 rfl (lv_at hl 1 rfl) ?_
        refine tk_get C T 3 (by decide) tkl3 rfl (v := .ref (h 3)) rfl dX0_linkParents_30 ?_
        refine lv_iload_n hx hb dX0_linkParents_33 rfl (lv_at hl 0 rfl) ?_
        refine tk_ialdN C T 3 _ _ _ tka3 tkt3 (by decide) (by omega) (v := lpN p_lkB j (fS F 8 0 (-1)) 3 j) rfl dX0_linkParents_34 ?_
        refine lv_iload_n hx hb dX0_linkParents_35 rfl (lv_at hl 0 rfl) ?_
        refine tk_iast C T 8 _ _ _ tka8 tkt8 (by rw [p_lk_keep _ _ 3 (by decide)]; exact (hok j (by omega) (by rw [p_lk_keep _ _ 0 (by decide)] at c22; exact c22)).1) tks8 dX0_linkParents_36 (fun H locs T => ?_)
        refine lv_aload_n hx hb dX0_linkParents_37 rfl (lv_at hl 1 rfl) ?_
        refine tk_get C T 8 (by decide) tkl8 rfl (v := .ref (h 8)) rfl dX0_linkParents_38 ?_
        refine lv_aload_n hx hb dX0_linkParents_41 rfl (lv_at hl 1 rfl) ?_
        refine tk_get C T 4 (by decide) tkl4 rfl (v := .ref (h 4)) rfl dX0_linkParents_42 ?_
        refine lv_iload_n hx hb dX0_linkParents_45 rfl (lv_at hl 0 rfl) ?_
        refine tk_ialdN C T 4 _ _ _ tka4 tkt4 (by decide) (by omega) (v := lpN p_lkB j (fS F 8 0 (-1)) 4 j) rfl dX0_linkParents_46 ?_
        refine lv_iload_n hx hb dX0_linkParents_47 rfl (lv_at hl 0 rfl) ?_
        refine tk_iast C T 8 _ _ _ tka8 tkt8 (by rw [p_lk_keep _ _ 4 (by decide)]; exact (hok j (by omega) (by rw [p_lk_keep _ _ 0 (by decide)] at c22; exact c22)).2) tks8 dX0_linkParents_48 (fun H locs T => ?_)
        refine lv_iinc (v := nI (j + 1)) (lv' := [(1, .int (nI (j + 1))), (0, .ref o)]) hx hb dX0_linkParents_49 hl (k := 0) rfl (tx_inc1 j) (by decide) rfl (fun ls hl => ?_)
        refine lv_goto (tgt := 9) hx hb dX0_linkParents_52 (by decide) ?_
        exact ih9 _ _ _ ⟨j + 1, by omega, by omega, by first | (rw [show lpN p_lkB (j + 1) (fS F 8 0 (-1)) = _ from if_pos c22]; exact T) | (rw [show lpN p_lkB (j + 1) (fS F 8 0 (-1)) = _ from if_neg c22]; exact T), lv_sub hl [0, 1] rfl⟩
  · exact ⟨0, rfl, by decide, T, lv_sub hl [0, 1] rfl⟩
theorem met_listLeaves (l : Launch) (D : va_G) (cA : Nat → ClassId) (o : Nat) (h : Nat → Nat) (F : xF) (G : xG) (hok : ok_ll (F, G)) : tkMv l yX0_listLeaves cX0_listLeaves 4 (rmL 0) D cA o h [.ref o] F G ((p_ll (F, G)).1) ((p_ll (F, G)).2) := by
  refine tk_ofv (by decide) rfl (Nat.le_of_ble_eq_true rfl) ?_
  intro p e s m below meth c A ls C T hr hlk hl
  have hx := C.1
  have hb := C.2.1
  have hl : lv_has ls 4 [(0, .ref o)] := hl
  refine lv_aload_n hx hb dX0_listLeaves_0 rfl (lv_at hl 0 rfl) ?_
  refine lv_iconst (v := 0) hx hb dX0_listLeaves_1 (by decide) ?_
  refine tk_put C T 11 (by decide) tkl11 rfl rfl (ty := .int) (by decide +kernel) rfl rfl tkp11 dX0_listLeaves_2 (fun H locs T => ?_)
  refine lv_aload_n hx hb dX0_listLeaves_5 rfl (lv_at hl 0 rfl) ?_
  refine tk_get C T 13 (by decide) tkl13 rfl (v := .ref (h 13)) rfl dX0_listLeaves_6 ?_
  refine lv_iconst (v := 0) hx hb dX0_listLeaves_9 (by decide) ?_
  refine lx_top (w := nI 0) rfl ?_
  refine lv_aload_n hx hb dX0_listLeaves_10 rfl (lv_at hl 0 rfl) ?_
  refine tk_get C T 10 (by decide) tkl10 rfl (v := .int (G 10)) rfl dX0_listLeaves_11 ?_
  refine tk_iastN C T 13 _ _ _ tka13 tkt13 (by decide) (by omega) tks13 dX0_listLeaves_14 (fun H locs T => ?_)
  refine lv_iconst (v := 1) hx hb dX0_listLeaves_15 (by decide) ?_
  refine lv_istore_n (lv' := [(1, .int (1 : Int32)), (0, .ref o)]) hx hb dX0_listLeaves_16 rfl hl (by decide) rfl (fun ls hl => ?_)
  refine lv_iconst (v := 0) hx hb dX0_listLeaves_17 (by decide) ?_
  refine lv_istore_n (lv' := [(2, .int (0 : Int32)), (1, .int (1 : Int32)), (0, .ref o)]) hx hb dX0_listLeaves_18 rfl hl (by decide) rfl (fun ls hl => ?_)
  refine lx_loop (pc := 19) (fun n ls H locs => ∃ (t d q : Nat) (F1 : xF) (G1 : xG), (t + 1 = n) ∧ (q + t = 32) ∧ (d ≤ q + 1) ∧ (okLL t F1 G1 d) ∧ (p_llL t F1 G1 d = p_ll (F, G)) ∧ tkT D cA o h A s.heap F1 G1 H locs ∧ lv_has ls 4 [(2, .int (nI q)), (1, .int (nI d)), (0, .ref o)]) ?_ ?_ (33) ?_
  · rintro ls H locs ⟨t, d, q, F1, G1, h1, h2, h3, h4, h5, T, hl⟩
    omega
  · rintro n ih19 ls H locs ⟨t, d, q, F1, G1, h1, h2, h3, h4, h5, T, hl⟩
    refine lv_iload_n hx hb dX0_listLeaves_19 rfl (lv_at hl 0 rfl) ?_
    refine lv_bipush (v := 32) hx hb dX0_listLeaves_20 (by decide) ?_
    refine lv_icmp_ge (tgt := 107) hx hb dX0_listLeaves_22 (by decide) (fun c22 => ?_) (fun c22 => ?_)
    · have c22 := (nI_leI (a := 32) (b := q) (by omega) (by omega)).mp c22
      exact tk_vret C T hr hlk (by first | (obtain rfl : t = 0 := (by omega); rw [← h5]; rfl) | (obtain rfl : d = 0 := (by omega); rw [← h5]; rfl)) dX0_listLeaves_107
    · have c22 : ¬ 32 ≤ q := fun hq_ => c22 ((nI_leI (a := 32) (b := q) (by omega) (by omega)).mpr hq_)
      obtain ⟨t, rfl⟩ : ∃ t1, t = t1 + 1 := ⟨t - 1, by omega⟩
      refine lv_iload_n hx hb dX0_listLeaves_25 rfl (lv_at hl 1 rfl) ?_
      refine lv_if_le (tgt := 107) hx hb dX0_listLeaves_26 (by decide) (fun c26 => ?_) (fun c26 => ?_)
      · have c26 : d = 0 := by have c := (nI_leI (a := d) (b := 0) (by omega) (by omega)).mp c26; omega
        exact tk_vret C T hr hlk (by first | (obtain rfl : t = 0 := (by omega); rw [← h5]; rfl) | (obtain rfl : d = 0 := (by omega); rw [← h5]; rfl)) dX0_listLeaves_107
      · have c26 : ¬ d ≤ 0 := fun hq_ => c26 ((nI_leI (a := d) (b := 0) (by omega) (by omega)).mpr hq_)
        obtain ⟨d, rfl⟩ : ∃ d1, d = d1 + 1 := ⟨d - 1, by omega⟩
        obtain ⟨ho1, ho2, ho3, ho4⟩ := h4
        refine lv_iinc (v := nI d) (lv' := [(1, .int (nI d)), (2, .int (nI q)), (0, .ref o)]) hx hb dX0_listLeaves_29 hl (k := 1) rfl (tx_dec1 d) (by decide) rfl (fun ls hl => ?_)
        refine lv_aload_n hx hb dX0_listLeaves_32 rfl (lv_at hl 2 rfl) ?_
        refine tk_get C T 13 (by decide) tkl13 rfl (v := .ref (h 13)) rfl dX0_listLeaves_33 ?_
        refine lv_iload_n hx hb dX0_listLeaves_36 rfl (lv_at hl 0 rfl) ?_
        refine tk_ialdN C T 13 _ _ _ tka13 tkt13 (by decide) (by omega) (v := F1 13 d) rfl dX0_listLeaves_37 ?_
        refine lv_istore_n (lv' := [(3, .int (F1 13 d)), (1, .int (nI d)), (2, .int (nI q)), (0, .ref o)]) hx hb dX0_listLeaves_38 rfl hl (by decide) rfl (fun ls hl => ?_)
        refine lv_aload_n hx hb dX0_listLeaves_39 rfl (lv_at hl 3 rfl) ?_
        refine tk_get C T 0 (by decide) tkl0 rfl (v := .ref (h 0)) rfl dX0_listLeaves_40 ?_
        refine lv_iload_n hx hb dX0_listLeaves_43 rfl (lv_at hl 0 rfl) ?_
        refine tk_iald C T 0 _ _ _ tka0 tkt0 (by assumption) (v := F1 0 (ix (F1 13 d))) rfl dX0_listLeaves_44 ?_
        refine lv_iconst (v := 1) hx hb dX0_listLeaves_45 (by decide) ?_
        refine lv_icmp_ne (tgt := 72) hx hb dX0_listLeaves_46 (by decide) (fun c46 => ?_) (fun c46 => ?_)
        · have ho6 := ho4 c46
          refine lv_aload_n hx hb dX0_listLeaves_72 rfl (lv_at hl 3 rfl) ?_
          refine tk_get C T 13 (by decide) tkl13 rfl (v := .ref (h 13)) rfl dX0_listLeaves_73 ?_
          refine lv_iload_n hx hb dX0_listLeaves_76 rfl (lv_at hl 1 rfl) ?_
          refine lv_aload_n hx hb dX0_listLeaves_77 rfl (lv_at hl 3 rfl) ?_
          refine tk_get C T 7 (by decide) tkl7 rfl (v := .ref (h 7)) rfl dX0_listLeaves_78 ?_
          refine lv_iload_n hx hb dX0_listLeaves_81 rfl (lv_at hl 0 rfl) ?_
          refine tk_iald C T 7 _ _ _ tka7 tkt7 (by assumption) (v := F1 7 (ix (F1 13 d))) rfl dX0_listLeaves_82 ?_
          refine tk_iastN C T 13 _ _ _ tka13 tkt13 (by decide) (by omega) tks13 dX0_listLeaves_83 (fun H locs T => ?_)
          refine lv_aload_n hx hb dX0_listLeaves_84 rfl (lv_at hl 3 rfl) ?_
          refine tk_get C T 13 (by decide) tkl13 rfl (v := .ref (h 13)) rfl dX0_listLeaves_85 ?_
          refine lv_iload_n hx hb dX0_listLeaves_88 rfl (lv_at hl 1 rfl) ?_
          refine lv_iconst (v := 1) hx hb dX0_listLeaves_89 (by decide) ?_
          refine lv_iadd hx hb dX0_listLeaves_90 ?_
          refine lx_top (w := nI (d + 1)) (nI_1 d) ?_
          refine lv_aload_n hx hb dX0_listLeaves_91 rfl (lv_at hl 3 rfl) ?_
          refine tk_get C T 6 (by decide) tkl6 rfl (v := .ref (h 6)) rfl dX0_listLeaves_92 ?_
          refine lv_iload_n hx hb dX0_listLeaves_95 rfl (lv_at hl 0 rfl) ?_
          refine tk_iald C T 6 _ _ _ tka6 tkt6 (by assumption) (v := F1 6 (ix (F1 13 d))) rfl dX0_listLeaves_96 ?_
          refine tk_iastN C T 13 _ _ _ tka13 tkt13 (by decide) (by omega) tks13 dX0_listLeaves_97 (fun H locs T => ?_)
          refine lv_iinc (v := nI (d + 2)) (lv' := [(1, .int (nI (d + 2))), (3, .int (F1 13 d)), (2, .int (nI q)), (0, .ref o)]) hx hb dX0_listLeaves_98 hl (k := 1) rfl (tx_inc2 d) (by decide) rfl (fun ls hl => ?_)
          refine lv_iinc (v := nI (q + 1)) (lv' := [(2, .int (nI (q + 1))), (1, .int (nI (d + 2))), (3, .int (F1 13 d)), (0, .ref o)]) hx hb dX0_listLeaves_101 hl (k := 2) rfl (tx_inc1 q) (by decide) rfl (fun ls hl => ?_)
          refine lv_goto (tgt := 19) hx hb dX0_listLeaves_104 (by decide) ?_
          exact ih19 _ _ _ ⟨t, d + 2, q + 1, _, _, by omega, by omega, by omega, ho6, by rw [← h5]; exact (if_neg c46).symm, T, lv_sub hl [0, 1, 3] rfl⟩
        · obtain ⟨ho5, ho6⟩ := ho3 c46
          refine lv_aload_n hx hb dX0_listLeaves_49 rfl (lv_at hl 3 rfl) ?_
          refine tk_get C T 12 (by decide) tkl12 rfl (v := .ref (h 12)) rfl dX0_listLeaves_50 ?_
          refine lv_aload_n hx hb dX0_listLeaves_53 rfl (lv_at hl 3 rfl) ?_
          refine tk_get C T 11 (by decide) tkl11 rfl (v := .int (G1 11)) rfl dX0_listLeaves_54 ?_
          refine lv_iload_n hx hb dX0_listLeaves_57 rfl (lv_at hl 0 rfl) ?_
          refine tk_iast C T 12 _ _ _ tka12 tkt12 (by assumption) tks12 dX0_listLeaves_58 (fun H locs T => ?_)
          refine lv_aload_n hx hb dX0_listLeaves_59 rfl (lv_at hl 3 rfl) ?_
          refine lv_dup hx hb dX0_listLeaves_60 rfl ?_
          refine tk_get C T 11 (by decide) tkl11 rfl (v := .int (G1 11)) rfl dX0_listLeaves_61 ?_
          refine lv_iconst (v := 1) hx hb dX0_listLeaves_64 (by decide) ?_
          refine lv_iadd hx hb dX0_listLeaves_65 ?_
          refine tk_put C T 11 (by decide) tkl11 rfl rfl (ty := .int) (by decide +kernel) rfl rfl tkp11 dX0_listLeaves_66 (fun H locs T => ?_)
          refine lv_goto (tgt := 101) hx hb dX0_listLeaves_69 (by decide) ?_
          refine lv_iinc (v := nI (q + 1)) (lv' := [(2, .int (nI (q + 1))), (3, .int (F1 13 d)), (1, .int (nI d)), (0, .ref o)]) hx hb dX0_listLeaves_101 hl (k := 2) rfl (tx_inc1 q) (by decide) rfl (fun ls hl => ?_)
          refine lv_goto (tgt := 19) hx hb dX0_listLeaves_104 (by decide) ?_
          exact ih19 _ _ _ ⟨t, d, q + 1, _, _, by omega, by omega, by omega, ho6, by rw [← h5]; exact (if_pos c46).symm, T, lv_sub hl [0, 2, 3] rfl⟩
  · exact ⟨32, 1, 0, (fS F 13 0 (G 10)), (gS G 11 (0 : Int32)), rfl, rfl, by decide, hok, rfl, T, lv_sub hl [0, 1, 2] rfl⟩
theorem met_takeLeaf (l : Launch) (D : va_G) (cA : Nat → ClassId) (o : Nat) (h : Nat → Nat) (F : xF) (G : xG) (l0 p0 b0 : Int32) (hok : okTl (F, G) l0 p0 b0) : tkMv l yX0_takeLeaf cX0_takeLeaf 7 (rmL 2) D cA o h [.ref o, .int l0, .int p0, .int b0] F G ((p_tl (F, G) l0 p0 b0).1) ((p_tl (F, G) l0 p0 b0).2) := by
  refine tk_ofv (by decide) rfl (Nat.le_of_ble_eq_true rfl) ?_
  intro p e s m below meth c A ls C T hr hlk hl
  have hx := C.1
  have hb := C.2.1
  have hl : lv_has ls 7 [(0, .ref o), (1, .int l0), (2, .int p0), (3, .int b0)] := hl
  obtain ⟨hl0, hp0, hb0, hG, hot, hq, hE⟩ := hok
  have hot : vp_in (p_oth F p0 b0) 31 := hot
  have hq : 0 ≤ F 8 (ix p0) → vp_in (F 8 (ix p0)) 31 := hq
  obtain ⟨hGe, he1⟩ := tx_nI (show vp_in (G 20) 15 from hG) (by decide)
  have hE : okE (p_tl3 F l0 p0 b0 (ix (G 20))) (ix (G 20)) := hE
  have hz : vp_nar .boolean b0 = b0 := by rcases hb0 with rfl | rfl <;> rfl
  generalize hee : ix (G 20) = e0 at hGe he1 hE
  refine lx_join (J := 19) (rest := []) (p_oth F p0 b0) (fun oo hoo => ?_) (fun K0_19 => ?_)
  · subst hoo
    refine lv_istore (lv' := [(4, .int (p_oth F p0 b0)), (0, .ref o), (1, .int l0), (2, .int p0), (3, .int b0)]) hx hb dX0_takeLeaf_19 hl (by decide) rfl (fun ls hl => ?_)
    refine lv_aload_n hx hb dX0_takeLeaf_21 rfl (lv_at hl 1 rfl) ?_
    refine tk_get C T 20 (by decide) tkl20 rfl (v := .int (G 20)) rfl dX0_takeLeaf_22 ?_
    refine lx_top (w := nI e0) hGe ?_
    refine lv_istore (lv' := [(5, .int (nI e0)), (4, .int (p_oth F p0 b0)), (0, .ref o), (1, .int l0), (2, .int p0), (3, .int b0)]) hx hb dX0_takeLeaf_25 hl (by decide) rfl (fun ls hl => ?_)
    refine lv_aload_n hx hb dX0_takeLeaf_27 rfl (lv_at hl 2 rfl) ?_
    refine tk_get C T 21 (by decide) tkl21 rfl (v := .ref (h 21)) rfl dX0_takeLeaf_28 ?_
    refine lv_iload hx hb dX0_takeLeaf_31 (lv_at hl 0 rfl) ?_
    refine lv_iload_n hx hb dX0_takeLeaf_33 rfl (lv_at hl 3 rfl) ?_
    refine tk_iastN C T 21 _ _ _ tka21 tkt21 (by decide) (by omega) tks21 dX0_takeLeaf_34 (fun H locs T => ?_)
    refine lv_aload_n hx hb dX0_takeLeaf_35 rfl (lv_at hl 2 rfl) ?_
    refine tk_get C T 22 (by decide) tkl22 rfl (v := .ref (h 22)) rfl dX0_takeLeaf_36 ?_
    refine lv_iload hx hb dX0_takeLeaf_39 (lv_at hl 0 rfl) ?_
    refine lv_iload_n hx hb dX0_takeLeaf_41 rfl (lv_at hl 4 rfl) ?_
    refine tk_iastN C T 22 _ _ _ tka22 tkt22 (by decide) (by omega) tks22 dX0_takeLeaf_42 (fun H locs T => ?_)
    refine lv_aload_n hx hb dX0_takeLeaf_43 rfl (lv_at hl 2 rfl) ?_
    refine tk_get C T 23 (by decide) tkl23 rfl (v := .ref (h 23)) rfl dX0_takeLeaf_44 ?_
    refine lv_iload hx hb dX0_takeLeaf_47 (lv_at hl 0 rfl) ?_
    refine lv_iload hx hb dX0_takeLeaf_49 (lv_at hl 1 rfl) ?_
    refine tk_iastN C T 23 _ _ _ tka23 tkt23 (by decide) (by omega) tks23 dX0_takeLeaf_51 (fun H locs T => ?_)
    refine lv_aload_n hx hb dX0_takeLeaf_52 rfl (lv_at hl 2 rfl) ?_
    refine tk_get C T 24 (by decide) tkl24 rfl (v := .ref (h 24)) rfl dX0_takeLeaf_53 ?_
    refine lv_iload hx hb dX0_takeLeaf_56 (lv_at hl 0 rfl) ?_
    refine lv_iload_n hx hb dX0_takeLeaf_58 rfl (lv_at hl 5 rfl) ?_
    refine tk_zastN C T 24 _ _ _ tka24 tkt24 (by decide) hz (by omega) tks24 dX0_takeLeaf_59 (fun H locs T => ?_)
    refine lv_aload_n hx hb dX0_takeLeaf_60 rfl (lv_at hl 2 rfl) ?_
    refine tk_get C T 25 (by decide) tkl25 rfl (v := .ref (h 25)) rfl dX0_takeLeaf_61 ?_
    refine lv_iload hx hb dX0_takeLeaf_64 (lv_at hl 0 rfl) ?_
    refine lv_aload_n hx hb dX0_takeLeaf_66 rfl (lv_at hl 2 rfl) ?_
    refine tk_get C T 9 (by decide) tkl9 rfl (v := .ref (h 9)) rfl dX0_takeLeaf_67 ?_
    refine lv_iload_n hx hb dX0_takeLeaf_70 rfl (lv_at hl 3 rfl) ?_
    refine tk_iald C T 9 _ _ _ tka9 tkt9 (by assumption) (v := F 9 (ix l0)) rfl dX0_takeLeaf_71 ?_
    refine tk_iastN C T 25 _ _ _ tka25 tkt25 (by decide) (by omega) tks25 dX0_takeLeaf_72 (fun H locs T => ?_)
    refine lv_aload_n hx hb dX0_takeLeaf_73 rfl (lv_at hl 2 rfl) ?_
    refine tk_get C T 26 (by decide) tkl26 rfl (v := .ref (h 26)) rfl dX0_takeLeaf_74 ?_
    refine lv_iload hx hb dX0_takeLeaf_77 (lv_at hl 0 rfl) ?_
    refine lv_aload_n hx hb dX0_takeLeaf_79 rfl (lv_at hl 2 rfl) ?_
    refine tk_get C T 9 (by decide) tkl9 rfl (v := .ref (h 9)) rfl dX0_takeLeaf_80 ?_
    refine lv_iload_n hx hb dX0_takeLeaf_83 rfl (lv_at hl 4 rfl) ?_
    refine tk_iald C T 9 _ _ _ tka9 tkt9 (by assumption) (v := F 9 (ix p0)) rfl dX0_takeLeaf_84 ?_
    refine tk_iastN C T 26 _ _ _ tka26 tkt26 (by decide) (by omega) tks26 dX0_takeLeaf_85 (fun H locs T => ?_)
    refine lv_aload_n hx hb dX0_takeLeaf_86 rfl (lv_at hl 2 rfl) ?_
    refine tk_get C T 27 (by decide) tkl27 rfl (v := .ref (h 27)) rfl dX0_takeLeaf_87 ?_
    refine lv_iload hx hb dX0_takeLeaf_90 (lv_at hl 0 rfl) ?_
    refine lv_aload_n hx hb dX0_takeLeaf_92 rfl (lv_at hl 2 rfl) ?_
    refine tk_get C T 9 (by decide) tkl9 rfl (v := .ref (h 9)) rfl dX0_takeLeaf_93 ?_
    refine lv_iload hx hb dX0_takeLeaf_96 (lv_at hl 1 rfl) ?_
    refine tk_iald C T 9 _ _ _ tka9 tkt9 (by assumption) (v := F 9 (ix (p_oth F p0 b0))) rfl dX0_takeLeaf_98 ?_
    refine tk_iastN C T 27 _ _ _ tka27 tkt27 (by decide) (by omega) tks27 dX0_takeLeaf_99 (fun H locs T => ?_)
    refine lv_aload_n hx hb dX0_takeLeaf_100 rfl (lv_at hl 2 rfl) ?_
    refine tk_get C T 28 (by decide) tkl28 rfl (v := .ref (h 28)) rfl dX0_takeLeaf_101 ?_
    refine lv_iload_n hx hb dX0_takeLeaf_104 rfl (lv_at hl 4 rfl) ?_
    refine lv_iload hx hb dX0_takeLeaf_105 (lv_at hl 0 rfl) ?_
    refine tk_iast C T 28 _ _ _ tka28 tkt28 (by assumption) tks28 dX0_takeLeaf_107 (fun H locs T => ?_)
    refine lv_aload_n hx hb dX0_takeLeaf_108 rfl (lv_at hl 2 rfl) ?_
    refine lv_dup hx hb dX0_takeLeaf_109 rfl ?_
    refine tk_get C T 20 (by decide) tkl20 rfl (v := .int (G 20)) rfl dX0_takeLeaf_110 ?_
    refine lv_iconst (v := 1) hx hb dX0_takeLeaf_113 (by decide) ?_
    refine lv_iadd hx hb dX0_takeLeaf_114 ?_
    refine tk_put C T 20 (by decide) tkl20 rfl rfl (ty := .int) (by decide +kernel) rfl rfl tkp20 dX0_takeLeaf_115 (fun H locs T => ?_)
    refine lv_aload_n hx hb dX0_takeLeaf_118 rfl (lv_at hl 2 rfl) ?_
    refine tk_get C T 8 (by decide) tkl8 rfl (v := .ref (h 8)) rfl dX0_takeLeaf_119 ?_
    refine lv_iload_n hx hb dX0_takeLeaf_122 rfl (lv_at hl 4 rfl) ?_
    refine tk_iald C T 8 _ _ _ tka8 tkt8 (by assumption) (v := F 8 (ix p0)) rfl dX0_takeLeaf_123 ?_
    refine lv_istore (lv' := [(6, .int (F 8 (ix p0))), (5, .int (nI e0)), (4, .int (p_oth F p0 b0)), (0, .ref o), (1, .int l0), (2, .int p0), (3, .int b0)]) hx hb dX0_takeLeaf_124 hl (by decide) rfl (fun ls hl => ?_)
    refine lv_aload_n hx hb dX0_takeLeaf_126 rfl (lv_at hl 3 rfl) ?_
    refine tk_get C T 8 (by decide) tkl8 rfl (v := .ref (h 8)) rfl dX0_takeLeaf_127 ?_
    refine lv_iload hx hb dX0_takeLeaf_130 (lv_at hl 2 rfl) ?_
    refine lv_iload hx hb dX0_takeLeaf_132 (lv_at hl 0 rfl) ?_
    refine tk_iast C T 8 _ _ _ tka8 tkt8 (by assumption) tks8 dX0_takeLeaf_134 (fun H locs T => ?_)
    refine lx_meet (J := 181) (rest := []) (I := fun ls H locs => tkT D cA o h A s.heap (p_tl2 F l0 p0 b0 e0) (p_tlG2 F G p0 b0) H locs ∧ lv_has ls 7 [(6, .int (F 8 (ix p0))), (5, .int (nI e0)), (4, .int (p_oth F p0 b0)), (0, .ref o), (1, .int l0), (2, .int p0), (3, .int b0)]) ?_ (fun M135_181 => ?_)
    · rintro ls H locs ⟨T, hl⟩
      refine lv_aload_n hx hb dX0_takeLeaf_181 rfl (lv_at hl 3 rfl) ?_
      refine tk_get C T 8 (by decide) tkl8 rfl (v := .ref (h 8)) rfl dX0_takeLeaf_182 ?_
      refine lv_iload_n hx hb dX0_takeLeaf_185 rfl (lv_at hl 4 rfl) ?_
      refine lv_iconst (v := -1) hx hb dX0_takeLeaf_186 (by decide) ?_
      refine tk_iast C T 8 _ _ _ tka8 tkt8 (by assumption) tks8 dX0_takeLeaf_187 (fun H locs T => ?_)
      refine lv_aload_n hx hb dX0_takeLeaf_188 rfl (lv_at hl 3 rfl) ?_
      refine tk_get C T 9 (by decide) tkl9 rfl (v := .ref (h 9)) rfl dX0_takeLeaf_189 ?_
      refine lv_iload hx hb dX0_takeLeaf_192 (lv_at hl 2 rfl) ?_
      refine lv_bipush (v := 31) hx hb dX0_takeLeaf_194 (by decide) ?_
      refine lv_iload hx hb dX0_takeLeaf_196 (lv_at hl 1 rfl) ?_
      refine lv_iadd hx hb dX0_takeLeaf_198 ?_
      refine lx_top (w := nI (31 + e0)) (nI_add 31 e0) ?_
      refine tk_iast C T 9 _ _ _ tka9 tkt9 (by assumption) tks9 dX0_takeLeaf_199 (fun H locs T => ?_)
      refine lv_aload_n hx hb dX0_takeLeaf_200 rfl (lv_at hl 3 rfl) ?_
      refine lv_iload hx hb dX0_takeLeaf_201 (lv_at hl 1 rfl) ?_
      refine tk_callv C T (n := 1) (As := [.int (nI e0)]) (rest := []) (met_workOut l D cA o h (p_tl3 F l0 p0 b0 e0) (p_tlG2 F G p0 b0) e0 hE) q162 q164 qs4 q165 rfl rfl (by decide +kernel) (by decide) rfl hl.1 (by decide) (by decide) rfl dX0_takeLeaf_203 (fun H locs T => ?_)
      exact tk_vret C T hr hlk (by subst hee; rfl) dX0_takeLeaf_206
    · refine lv_iload hx hb dX0_takeLeaf_135 (lv_at hl 0 rfl) ?_
      refine lv_if_ge (tgt := 149) hx hb dX0_takeLeaf_137 (by decide) (fun c137 => ?_) (fun c137 => ?_)
      · refine lv_aload_n hx hb dX0_takeLeaf_149 rfl (lv_at hl 3 rfl) ?_
        refine tk_get C T 6 (by decide) tkl6 rfl (v := .ref (h 6)) rfl dX0_takeLeaf_150 ?_
        refine lv_iload hx hb dX0_takeLeaf_153 (lv_at hl 0 rfl) ?_
        refine tk_iald C T 6 _ _ _ tka6 tkt6 (hq c137) (v := F 6 (ix (F 8 (ix p0)))) rfl dX0_takeLeaf_155 ?_
        refine lv_iload_n hx hb dX0_takeLeaf_156 rfl (lv_at hl 5 rfl) ?_
        refine lv_icmp_ne (tgt := 172) hx hb dX0_takeLeaf_157 (by decide) (fun c157 => ?_) (fun c157 => ?_)
        · refine lv_aload_n hx hb dX0_takeLeaf_172 rfl (lv_at hl 3 rfl) ?_
          refine tk_get C T 7 (by decide) tkl7 rfl (v := .ref (h 7)) rfl dX0_takeLeaf_173 ?_
          refine lv_iload hx hb dX0_takeLeaf_176 (lv_at hl 0 rfl) ?_
          refine lv_iload hx hb dX0_takeLeaf_178 (lv_at hl 2 rfl) ?_
          refine tk_iast C T 7 _ _ _ tka7 tkt7 (hq c137) tks7 dX0_takeLeaf_180 (fun H locs T => ?_)
          exact M135_181 _ _ _ ⟨(by first | (rw [show p_tl2 F l0 p0 b0 e0 = _ from (if_pos c137).trans (if_neg c157), show p_tlG2 F G p0 b0 = _ from if_pos c137]; exact T) | (rw [show p_tl2 F l0 p0 b0 e0 = _ from (if_pos c137).trans (if_pos c157), show p_tlG2 F G p0 b0 = _ from if_pos c137]; exact T) | (rw [show p_tl2 F l0 p0 b0 e0 = _ from if_neg c137, show p_tlG2 F G p0 b0 = _ from if_neg c137]; exact T)), lv_sub hl [0, 1, 2, 3, 4, 5, 6] rfl⟩
        · refine lv_aload_n hx hb dX0_takeLeaf_160 rfl (lv_at hl 3 rfl) ?_
          refine tk_get C T 6 (by decide) tkl6 rfl (v := .ref (h 6)) rfl dX0_takeLeaf_161 ?_
          refine lv_iload hx hb dX0_takeLeaf_164 (lv_at hl 0 rfl) ?_
          refine lv_iload hx hb dX0_takeLeaf_166 (lv_at hl 2 rfl) ?_
          refine tk_iast C T 6 _ _ _ tka6 tkt6 (hq c137) tks6 dX0_takeLeaf_168 (fun H locs T => ?_)
          refine lv_goto (tgt := 181) hx hb dX0_takeLeaf_169 (by decide) ?_
          exact M135_181 _ _ _ ⟨(by first | (rw [show p_tl2 F l0 p0 b0 e0 = _ from (if_pos c137).trans (if_neg c157), show p_tlG2 F G p0 b0 = _ from if_pos c137]; exact T) | (rw [show p_tl2 F l0 p0 b0 e0 = _ from (if_pos c137).trans (if_pos c157), show p_tlG2 F G p0 b0 = _ from if_pos c137]; exact T) | (rw [show p_tl2 F l0 p0 b0 e0 = _ from if_neg c137, show p_tlG2 F G p0 b0 = _ from if_neg c137]; exact T)), lv_sub hl [0, 1, 2, 3, 4, 5, 6] rfl⟩
      · refine lv_aload_n hx hb dX0_takeLeaf_140 rfl (lv_at hl 3 rfl) ?_
        refine lv_iload hx hb dX0_takeLeaf_141 (lv_at hl 2 rfl) ?_
        refine tk_put C T 10 (by decide) tkl10 rfl rfl (ty := .int) (by decide +kernel) rfl rfl tkp10 dX0_takeLeaf_143 (fun H locs T => ?_)
        refine lv_goto (tgt := 181) hx hb dX0_takeLeaf_146 (by decide) ?_
        exact M135_181 _ _ _ ⟨(by first | (rw [show p_tl2 F l0 p0 b0 e0 = _ from (if_pos c137).trans (if_neg c157), show p_tlG2 F G p0 b0 = _ from if_pos c137]; exact T) | (rw [show p_tl2 F l0 p0 b0 e0 = _ from (if_pos c137).trans (if_pos c157), show p_tlG2 F G p0 b0 = _ from if_pos c137]; exact T) | (rw [show p_tl2 F l0 p0 b0 e0 = _ from if_neg c137, show p_tlG2 F G p0 b0 = _ from if_neg c137]; exact T)), lv_sub hl [0, 1, 2, 3, 4, 5, 6] rfl⟩
  · refine lv_iload_n hx hb dX0_takeLeaf_0 rfl (lv_at hl 3 rfl) ?_
    refine lv_if_eq (tgt := 13) hx hb dX0_takeLeaf_1 (by decide) (fun c1 => ?_) (fun c1 => ?_)
    · refine lv_aload_n hx hb dX0_takeLeaf_13 rfl (lv_at hl 0 rfl) ?_
      refine tk_get C T 6 (by decide) tkl6 rfl (v := .ref (h 6)) rfl dX0_takeLeaf_14 ?_
      refine lv_iload_n hx hb dX0_takeLeaf_17 rfl (lv_at hl 2 rfl) ?_
      refine tk_iald C T 6 _ _ _ tka6 tkt6 (by assumption) (v := F 6 (ix p0)) rfl dX0_takeLeaf_18 ?_
      exact K0_19 _ (by simp [p_oth, c1])
    · refine lv_aload_n hx hb dX0_takeLeaf_4 rfl (lv_at hl 0 rfl) ?_
      refine tk_get C T 7 (by decide) tkl7 rfl (v := .ref (h 7)) rfl dX0_takeLeaf_5 ?_
      refine lv_iload_n hx hb dX0_takeLeaf_8 rfl (lv_at hl 2 rfl) ?_
      refine tk_iald C T 7 _ _ _ tka7 tkt7 (by assumption) (v := F 7 (ix p0)) rfl dX0_takeLeaf_9 ?_
      refine lv_goto (tgt := 19) hx hb dX0_takeLeaf_10 (by decide) ?_
      exact K0_19 _ (by simp [p_oth, c1])
end
section
set_option maxRecDepth 100000
set_option maxHeartbeats 400000
theorem met_takeLeaves (l : Launch) (D : va_G) (cA : Nat → ClassId) (o : Nat) (h : Nat → Nat) (F : xF) (G : xG) (b0 : Int32) (hok : ok_ts b0 (F, G)) : tkMv l yX0_takeLeaves cX0_takeLeaves 6 (rmL 3) D cA o h [.ref o, .int b0] F G ((p_ts b0 (F, G)).1) ((p_ts b0 (F, G)).2) := by
  refine tk_ofv (by decide) rfl (Nat.le_of_ble_eq_true rfl) ?_
  intro p e s m below meth c A ls C T hr hlk hl
  have hx := C.1
  have hb := C.2.1
  have hl : lv_has ls 6 [(0, .ref o), (1, .int b0)] := hl
  obtain ⟨hL, hL2⟩ := tx_nI (show vp_in (G 11) 17 from hok.1) (by decide)
  have hh : p_half (G 11) = (ix (G 11) + 1) / 2 := rfl
  refine lv_iconst (v := 0) hx hb dX0_takeLeaves_0 (by decide) ?_
  refine lv_istore_n (lv' := [(2, .int (0 : Int32)), (0, .ref o), (1, .int b0)]) hx hb dX0_takeLeaves_1 rfl hl (by decide) rfl (fun ls hl => ?_)
  refine lx_loop (pc := 2) (fun n ls H locs => ∃ (i : Nat) (S : xS), (i + n = p_half (G 11) + 1) ∧ (S = lpN (p_tsB b0) i (F, G)) ∧ (i ≤ p_half (G 11)) ∧ tkT D cA o h A s.heap S.1 S.2 H locs ∧ lv_has ls 6 [(2, .int (nI (2 * i))), (1, .int b0), (0, .ref o)]) ?_ ?_ (p_half (G 11) + 1) ?_
  · rintro ls H locs ⟨i, S, h1, h2, h3, T, hl⟩
    omega
  · rintro n ih2 ls H locs ⟨i, S, h1, h2, h3, T, hl⟩
    have hS11 : S.2 11 = nI (ix (G 11)) := by rw [h2, p_ts_11]; exact hL
    refine lv_iload_n hx hb dX0_takeLeaves_2 rfl (lv_at hl 0 rfl) ?_
    refine lv_aload_n hx hb dX0_takeLeaves_3 rfl (lv_at hl 2 rfl) ?_
    refine tk_get C T 11 (by decide) tkl11 rfl (v := .int (S.2 11)) rfl dX0_takeLeaves_4 ?_
    refine lx_top (w := nI (ix (G 11))) hS11 ?_
    refine lv_icmp_ge (tgt := 74) hx hb dX0_takeLeaves_7 (by decide) (fun c7 => ?_) (fun c7 => ?_)
    · have c7 := (nI_leI (a := ix (G 11)) (b := 2 * i) (by omega) (by omega)).mp c7
      exact tk_vret C T hr hlk (by rw [h2, show i = p_half (G 11) by omega]; rfl) dX0_takeLeaves_74
    · have c7 : ¬ ix (G 11) ≤ 2 * i := fun hq_ => c7 ((nI_leI (a := ix (G 11)) (b := 2 * i) (by omega) (by omega)).mpr hq_)
      have hB : okTsB b0 i S := by rw [h2]; exact hok.2 i (by show i < p_half (G 11); omega)
      obtain ⟨ho1, ho2, ho3⟩ := hB
      refine lv_aload_n hx hb dX0_takeLeaves_10 rfl (lv_at hl 2 rfl) ?_
      refine tk_get C T 12 (by decide) tkl12 rfl (v := .ref (h 12)) rfl dX0_takeLeaves_11 ?_
      refine lv_iload_n hx hb dX0_takeLeaves_14 rfl (lv_at hl 0 rfl) ?_
      refine tk_ialdN C T 12 _ _ _ tka12 tkt12 (by decide) (by omega) (v := S.1 12 (2 * i)) rfl dX0_takeLeaves_15 ?_
      refine lv_topi (fun l0 el0 => ?_)
      refine lv_istore_n (lv' := [(3, .int l0), (2, .int (nI (2 * i))), (1, .int b0), (0, .ref o)]) hx hb dX0_takeLeaves_16 rfl hl (by decide) rfl (fun ls hl => ?_)
      refine lv_aload_n hx hb dX0_takeLeaves_17 rfl (lv_at hl 3 rfl) ?_
      refine tk_get C T 8 (by decide) tkl8 rfl (v := .ref (h 8)) rfl dX0_takeLeaves_18 ?_
      refine lv_iload_n hx hb dX0_takeLeaves_21 rfl (lv_at hl 0 rfl) ?_
      refine tk_iald C T 8 _ _ _ tka8 tkt8 (by rw [el0]; exact ho1) (v := S.1 8 (ix l0)) rfl dX0_takeLeaves_22 ?_
      refine lv_topi (fun p0 ep0 => ?_)
      refine lv_istore (lv' := [(4, .int p0), (3, .int l0), (2, .int (nI (2 * i))), (1, .int b0), (0, .ref o)]) hx hb dX0_takeLeaves_23 hl (by decide) rfl (fun ls hl => ?_)
      have ho2 : ¬ p0 < 0 → vp_in p0 31 := by rw [ep0, el0]; exact ho2
      have ho3 : ¬ p0 < 0 → p_isL S.1 l0 p0 = b0 → okTl S l0 p0 b0 := by rw [ep0, el0]; exact ho3
      refine lx_join (J := 46) (rest := []) (p_isL S.1 l0 p0) (fun isl hisl => ?_) (fun K25_46 => ?_)
      · refine lv_istore (lv' := [(5, .int isl), (4, .int p0), (3, .int l0), (2, .int (nI (2 * i))), (1, .int b0), (0, .ref o)]) hx hb dX0_takeLeaves_46 hl (by decide) rfl (fun ls hl => ?_)
        refine lv_iload hx hb dX0_takeLeaves_48 (lv_at hl 1 rfl) ?_
        refine lv_if_lt (tgt := 68) hx hb dX0_takeLeaves_50 (by decide) (fun c50 => ?_) (fun c50 => ?_)
        · refine lv_iinc (v := nI (2 * (i + 1))) (lv' := [(2, .int (nI (2 * (i + 1)))), (5, .int isl), (4, .int p0), (3, .int l0), (1, .int b0), (0, .ref o)]) hx hb dX0_takeLeaves_68 hl (k := 3) rfl (tx_inc2 (2 * i)) (by decide) rfl (fun ls hl => ?_)
          refine lv_goto (tgt := 2) hx hb dX0_takeLeaves_71 (by decide) ?_
          have e1 : p_tsB b0 i S = S := by unfold p_tsB; rw [← el0, ← ep0]; first | exact if_pos c50 | (rw [if_neg c50]; exact if_neg (by rw [← hisl]; exact c56))
          exact ih2 _ _ _ ⟨i + 1, p_tsB b0 i S, by omega, by rw [h2]; rfl, by omega, by rw [e1]; exact T, lv_sub hl [0, 4, 5] rfl⟩
        · refine lv_iload hx hb dX0_takeLeaves_53 (lv_at hl 0 rfl) ?_
          refine lv_iload_n hx hb dX0_takeLeaves_55 rfl (lv_at hl 4 rfl) ?_
          refine lv_icmp_ne (tgt := 68) hx hb dX0_takeLeaves_56 (by decide) (fun c56 => ?_) (fun c56 => ?_)
          · refine lv_iinc (v := nI (2 * (i + 1))) (lv' := [(2, .int (nI (2 * (i + 1)))), (5, .int isl), (4, .int p0), (3, .int l0), (1, .int b0), (0, .ref o)]) hx hb dX0_takeLeaves_68 hl (k := 3) rfl (tx_inc2 (2 * i)) (by decide) rfl (fun ls hl => ?_)
            refine lv_goto (tgt := 2) hx hb dX0_takeLeaves_71 (by decide) ?_
            have e1 : p_tsB b0 i S = S := by unfold p_tsB; rw [← el0, ← ep0]; first | exact if_pos c50 | (rw [if_neg c50]; exact if_neg (by rw [← hisl]; exact c56))
            exact ih2 _ _ _ ⟨i + 1, p_tsB b0 i S, by omega, by rw [h2]; rfl, by omega, by rw [e1]; exact T, lv_sub hl [0, 4, 5] rfl⟩
          · refine lv_aload_n hx hb dX0_takeLeaves_59 rfl (lv_at hl 5 rfl) ?_
            refine lv_iload_n hx hb dX0_takeLeaves_60 rfl (lv_at hl 2 rfl) ?_
            refine lv_iload hx hb dX0_takeLeaves_61 (lv_at hl 1 rfl) ?_
            refine lv_iload hx hb dX0_takeLeaves_63 (lv_at hl 0 rfl) ?_
            refine tk_callv C T (n := 3) (As := [.int l0, .int p0, .int isl]) (rest := []) (met_takeLeaf l D cA o h S.1 S.2 l0 p0 isl (by rw [c56]; exact ho3 c50 (by rw [← hisl]; exact c56))) q202 q204 qs11 q205 rfl rfl (by decide +kernel) (by decide) rfl hl.1 (by decide) (by decide) rfl dX0_takeLeaves_65 (fun H locs T => ?_)
            refine lv_iinc (v := nI (2 * (i + 1))) (lv' := [(2, .int (nI (2 * (i + 1)))), (5, .int isl), (4, .int p0), (3, .int l0), (1, .int b0), (0, .ref o)]) hx hb dX0_takeLeaves_68 hl (k := 3) rfl (tx_inc2 (2 * i)) (by decide) rfl (fun ls hl => ?_)
            refine lv_goto (tgt := 2) hx hb dX0_takeLeaves_71 (by decide) ?_
            have e1 : p_tsB b0 i S = p_tl S l0 p0 isl := by unfold p_tsB; rw [← el0, ← ep0, if_neg c50, if_pos (by rw [← hisl]; exact c56), c56]
            exact ih2 _ _ _ ⟨i + 1, p_tsB b0 i S, by omega, by rw [h2]; rfl, by omega, by rw [e1]; exact T, lv_sub hl [0, 4, 5] rfl⟩
      · refine lv_iload hx hb dX0_takeLeaves_25 (lv_at hl 0 rfl) ?_
        refine lv_if_lt (tgt := 45) hx hb dX0_takeLeaves_27 (by decide) (fun c27 => ?_) (fun c27 => ?_)
        · refine lv_iconst (v := 0) hx hb dX0_takeLeaves_45 (by decide) ?_
          exact K25_46 _ (by simp [p_isL, c7, c27])
        · refine lv_aload_n hx hb dX0_takeLeaves_30 rfl (lv_at hl 4 rfl) ?_
          refine tk_get C T 6 (by decide) tkl6 rfl (v := .ref (h 6)) rfl dX0_takeLeaves_31 ?_
          refine lv_iload hx hb dX0_takeLeaves_34 (lv_at hl 0 rfl) ?_
          refine tk_iald C T 6 _ _ _ tka6 tkt6 (ho2 c27) (v := S.1 6 (ix p0)) rfl dX0_takeLeaves_36 ?_
          refine lv_iload_n hx hb dX0_takeLeaves_37 rfl (lv_at hl 1 rfl) ?_
          refine lv_icmp_ne (tgt := 45) hx hb dX0_takeLeaves_38 (by decide) (fun c38 => ?_) (fun c38 => ?_)
          · refine lv_iconst (v := 0) hx hb dX0_takeLeaves_45 (by decide) ?_
            exact K25_46 _ (by simp [p_isL, c7, c27, c38])
          · refine lv_iconst (v := 1) hx hb dX0_takeLeaves_41 (by decide) ?_
            refine lv_goto (tgt := 46) hx hb dX0_takeLeaves_42 (by decide) ?_
            exact K25_46 _ (by simp [p_isL, c7, c27, c38])
  · exact ⟨0, (F, G), by omega, rfl, by omega, T, lv_sub hl [0, 2, 1] rfl⟩
theorem met_renew (l : Launch) (D : va_G) (cA : Nat → ClassId) (o : Nat) (h : Nat → Nat) (F : xF) (G : xG) (node : Int32) (hok : okSt (F, G)) : tkMv l yX0_renew cX0_renew 4 (rmL 2) D cA o h [.ref o, .int node] F G ((p_rn node (F, G)).1) ((p_rn node (F, G)).2) := by
  refine tk_ofv (by decide) rfl (Nat.le_of_ble_eq_true rfl) ?_
  intro p e s m below meth c A ls C T hr hlk hl
  have hx := C.1
  have hb := C.2.1
  have hl : lv_has ls 4 [(0, .ref o), (1, .int node)] := hl
  obtain ⟨hG, hG2⟩ := tx_nI (show vp_in (G 20) 16 from hok.1) (by decide)
  refine lv_iconst (v := 0) hx hb dX0_renew_0 (by decide) ?_
  refine lv_istore_n (lv' := [(2, .int (0 : Int32)), (0, .ref o), (1, .int node)]) hx hb dX0_renew_1 rfl hl (by decide) rfl (fun ls hl => ?_)
  refine lx_loop (pc := 2) (fun n ls H locs => ∃ (j : Nat), (j + n = 47) ∧ (j ≤ 46) ∧ tkT D cA o h A s.heap (lpN (fun k F => fS F 18 k 0) j F) G H locs ∧ lv_has ls 4 [(2, .int (nI j)), (1, .int node), (0, .ref o)]) ?_ ?_ (47) ?_
  · rintro ls H locs ⟨j, h2_0, h2_1, T, hl⟩
    omega
  · rintro n ih2 ls H locs ⟨j, h2_0, h2_1, T, hl⟩
    refine lv_iload_n hx hb dX0_renew_2 rfl (lv_at hl 0 rfl) ?_
    refine lv_bipush (v := 46) hx hb dX0_renew_3 (by decide) ?_
    refine lv_icmp_ge (tgt := 21) hx hb dX0_renew_5 (by decide) (fun c5 => ?_) (fun c5 => ?_)
    · have c5 := (nI_leI (a := 46) (b := j) (by omega) (by omega)).mp c5
      obtain rfl : j = 46 := by omega
      refine lv_iconst (v := 0) hx hb dX0_renew_21 (by decide) ?_
      refine lv_istore_n (lv' := [(2, .int (0 : Int32)), (1, .int node), (0, .ref o)]) hx hb dX0_renew_22 rfl hl (by decide) rfl (fun ls hl => ?_)
      refine lx_loop (pc := 23) (fun n ls H locs => ∃ (i : Nat) (S : xS), (i + n = ix (G 20) + 1) ∧ (S = lpN (p_rnB node) i (p_rz F, G)) ∧ (i ≤ ix (G 20)) ∧ tkT D cA o h A s.heap S.1 S.2 H locs ∧ lv_has ls 4 [(2, .int (nI i)), (1, .int node), (0, .ref o)]) ?_ ?_ (ix (G 20) + 1) ?_
      · rintro ls H locs ⟨i, S, h1, h2, h3, T, hl⟩
        omega
      · rintro n ih23 ls H locs ⟨i, S, h1, h2, h3, T, hl⟩
        have hS20 : S.2 20 = nI (ix (G 20)) := by rw [h2, p_rn_G _ _ _ _ (by decide)]; exact hG
        refine lv_iload_n hx hb dX0_renew_23 rfl (lv_at hl 0 rfl) ?_
        refine lv_aload_n hx hb dX0_renew_24 rfl (lv_at hl 2 rfl) ?_
        refine tk_get C T 20 (by decide) tkl20 rfl (v := .int (S.2 20)) rfl dX0_renew_25 ?_
        refine lx_top (w := nI (ix (G 20))) hS20 ?_
        refine lv_icmp_ge (tgt := 124) hx hb dX0_renew_28 (by decide) (fun c28 => ?_) (fun c28 => ?_)
        · have c28 := (nI_leI (a := ix (G 20)) (b := i) (by omega) (by omega)).mp c28
          exact tk_vret C T hr hlk (by rw [h2, show i = ix (G 20) by omega]; rfl) dX0_renew_124
        · have c28 : ¬ ix (G 20) ≤ i := fun hq_ => c28 ((nI_leI (a := ix (G 20)) (b := i) (by omega) (by omega)).mpr hq_)
          have he : okE S.1 i := by rw [h2]; exact okE_rn node G _ (hok.2 i (by show i < ix (G 20); omega))
          obtain ⟨he1, he2, he3, he4, he5, he6⟩ := id he
          refine lx_join (J := 78) (rest := []) (p_use S.1 i) (fun us hus => ?_) (fun K31_78 => ?_)
          · refine lv_istore_n (lv' := [(3, .int us), (2, .int (nI i)), (1, .int node), (0, .ref o)]) hx hb dX0_renew_78 rfl hl (by decide) rfl (fun ls hl => ?_)
            refine lv_iload_n hx hb dX0_renew_79 rfl (lv_at hl 0 rfl) ?_
            refine lv_if_ne (tgt := 103) hx hb dX0_renew_80 (by decide) (fun c80 => ?_) (fun c80 => ?_)
            · refine lv_aload_n hx hb dX0_renew_103 rfl (lv_at hl 3 rfl) ?_
              refine lv_iload_n hx hb dX0_renew_104 rfl (lv_at hl 1 rfl) ?_
              refine tk_callv C T (n := 1) (As := [.int (nI i)]) (rest := []) (met_workOut l D cA o h S.1 S.2 i he) q162 q164 qs4 q165 rfl rfl (by decide +kernel) (by decide) rfl hl.1 (by decide) (by decide) rfl dX0_renew_105 (fun H locs T => ?_)
              refine lv_aload_n hx hb dX0_renew_108 rfl (lv_at hl 3 rfl) ?_
              refine tk_get C T 18 (by decide) tkl18 rfl (v := .ref (h 18)) rfl dX0_renew_109 ?_
              refine lv_bipush (v := 31) hx hb dX0_renew_112 (by decide) ?_
              refine lv_iload_n hx hb dX0_renew_114 rfl (lv_at hl 1 rfl) ?_
              refine lv_iadd hx hb dX0_renew_115 ?_
              refine lx_top (w := nI (31 + i)) (nI_add 31 i) ?_
              refine lv_iconst (v := 1) hx hb dX0_renew_116 (by decide) ?_
              refine tk_zastN C T 18 _ _ _ tka18 tkt18 (by decide) (by decide) (by omega) tks18 dX0_renew_117 (fun H locs T => ?_)
              refine lv_iinc (v := nI (i + 1)) (lv' := [(2, .int (nI (i + 1))), (3, .int us), (1, .int node), (0, .ref o)]) hx hb dX0_renew_118 hl (k := 1) rfl (tx_inc1 i) (by decide) rfl (fun ls hl => ?_)
              refine lv_goto (tgt := 23) hx hb dX0_renew_121 (by decide) ?_
              have e1 : p_rnB node i S = (fS (p_woF S.1 i) 18 (31 + i) 1, p_woG S.1 S.2 i) := by unfold p_rnB; rw [← hus]; simp [c80]
              exact ih23 _ _ _ ⟨i + 1, p_rnB node i S, by omega, by rw [h2]; rfl, by omega, by rw [e1]; exact T, lv_sub hl [0, 2, 3] rfl⟩
            · refine lv_aload_n hx hb dX0_renew_83 rfl (lv_at hl 3 rfl) ?_
              refine tk_get C T 21 (by decide) tkl21 rfl (v := .ref (h 21)) rfl dX0_renew_84 ?_
              refine lv_iload_n hx hb dX0_renew_87 rfl (lv_at hl 1 rfl) ?_
              refine tk_ialdN C T 21 _ _ _ tka21 tkt21 (by decide) (by omega) (v := S.1 21 i) rfl dX0_renew_88 ?_
              refine lv_iload_n hx hb dX0_renew_89 rfl (lv_at hl 2 rfl) ?_
              refine lv_icmp_eq (tgt := 103) hx hb dX0_renew_90 (by decide) (fun c90 => ?_) (fun c90 => ?_)
              · refine lv_aload_n hx hb dX0_renew_103 rfl (lv_at hl 3 rfl) ?_
                refine lv_iload_n hx hb dX0_renew_104 rfl (lv_at hl 1 rfl) ?_
                refine tk_callv C T (n := 1) (As := [.int (nI i)]) (rest := []) (met_workOut l D cA o h S.1 S.2 i he) q162 q164 qs4 q165 rfl rfl (by decide +kernel) (by decide) rfl hl.1 (by decide) (by decide) rfl dX0_renew_105 (fun H locs T => ?_)
                refine lv_aload_n hx hb dX0_renew_108 rfl (lv_at hl 3 rfl) ?_
                refine tk_get C T 18 (by decide) tkl18 rfl (v := .ref (h 18)) rfl dX0_renew_109 ?_
                refine lv_bipush (v := 31) hx hb dX0_renew_112 (by decide) ?_
                refine lv_iload_n hx hb dX0_renew_114 rfl (lv_at hl 1 rfl) ?_
                refine lv_iadd hx hb dX0_renew_115 ?_
                refine lx_top (w := nI (31 + i)) (nI_add 31 i) ?_
                refine lv_iconst (v := 1) hx hb dX0_renew_116 (by decide) ?_
                refine tk_zastN C T 18 _ _ _ tka18 tkt18 (by decide) (by decide) (by omega) tks18 dX0_renew_117 (fun H locs T => ?_)
                refine lv_iinc (v := nI (i + 1)) (lv' := [(2, .int (nI (i + 1))), (3, .int us), (1, .int node), (0, .ref o)]) hx hb dX0_renew_118 hl (k := 1) rfl (tx_inc1 i) (by decide) rfl (fun ls hl => ?_)
                refine lv_goto (tgt := 23) hx hb dX0_renew_121 (by decide) ?_
                have e1 : p_rnB node i S = (fS (p_woF S.1 i) 18 (31 + i) 1, p_woG S.1 S.2 i) := by unfold p_rnB; rw [← hus]; simp [c80, c90]
                exact ih23 _ _ _ ⟨i + 1, p_rnB node i S, by omega, by rw [h2]; rfl, by omega, by rw [e1]; exact T, lv_sub hl [0, 2, 3] rfl⟩
              · refine lv_aload_n hx hb dX0_renew_93 rfl (lv_at hl 3 rfl) ?_
                refine tk_get C T 22 (by decide) tkl22 rfl (v := .ref (h 22)) rfl dX0_renew_94 ?_
                refine lv_iload_n hx hb dX0_renew_97 rfl (lv_at hl 1 rfl) ?_
                refine tk_ialdN C T 22 _ _ _ tka22 tkt22 (by decide) (by omega) (v := S.1 22 i) rfl dX0_renew_98 ?_
                refine lv_iload_n hx hb dX0_renew_99 rfl (lv_at hl 2 rfl) ?_
                refine lv_icmp_ne (tgt := 118) hx hb dX0_renew_100 (by decide) (fun c100 => ?_) (fun c100 => ?_)
                · refine lv_iinc (v := nI (i + 1)) (lv' := [(2, .int (nI (i + 1))), (3, .int us), (1, .int node), (0, .ref o)]) hx hb dX0_renew_118 hl (k := 1) rfl (tx_inc1 i) (by decide) rfl (fun ls hl => ?_)
                  refine lv_goto (tgt := 23) hx hb dX0_renew_121 (by decide) ?_
                  have e1 : p_rnB node i S = S := by unfold p_rnB; rw [← hus]; simp [c80, c90, c100]
                  exact ih23 _ _ _ ⟨i + 1, p_rnB node i S, by omega, by rw [h2]; rfl, by omega, by rw [e1]; exact T, lv_sub hl [0, 2, 3] rfl⟩
                · refine lv_aload_n hx hb dX0_renew_103 rfl (lv_at hl 3 rfl) ?_
                  refine lv_iload_n hx hb dX0_renew_104 rfl (lv_at hl 1 rfl) ?_
                  refine tk_callv C T (n := 1) (As := [.int (nI i)]) (rest := []) (met_workOut l D cA o h S.1 S.2 i he) q162 q164 qs4 q165 rfl rfl (by decide +kernel) (by decide) rfl hl.1 (by decide) (by decide) rfl dX0_renew_105 (fun H locs T => ?_)
                  refine lv_aload_n hx hb dX0_renew_108 rfl (lv_at hl 3 rfl) ?_
                  refine tk_get C T 18 (by decide) tkl18 rfl (v := .ref (h 18)) rfl dX0_renew_109 ?_
                  refine lv_bipush (v := 31) hx hb dX0_renew_112 (by decide) ?_
                  refine lv_iload_n hx hb dX0_renew_114 rfl (lv_at hl 1 rfl) ?_
                  refine lv_iadd hx hb dX0_renew_115 ?_
                  refine lx_top (w := nI (31 + i)) (nI_add 31 i) ?_
                  refine lv_iconst (v := 1) hx hb dX0_renew_116 (by decide) ?_
                  refine tk_zastN C T 18 _ _ _ tka18 tkt18 (by decide) (by decide) (by omega) tks18 dX0_renew_117 (fun H locs T => ?_)
                  refine lv_iinc (v := nI (i + 1)) (lv' := [(2, .int (nI (i + 1))), (3, .int us), (1, .int node), (0, .ref o)]) hx hb dX0_renew_118 hl (k := 1) rfl (tx_inc1 i) (by decide) rfl (fun ls hl => ?_)
                  refine lv_goto (tgt := 23) hx hb dX0_renew_121 (by decide) ?_
                  have e1 : p_rnB node i S = (fS (p_woF S.1 i) 18 (31 + i) 1, p_woG S.1 S.2 i) := by unfold p_rnB; rw [← hus]; simp [c80, c90, c100]
                  exact ih23 _ _ _ ⟨i + 1, p_rnB node i S, by omega, by rw [h2]; rfl, by omega, by rw [e1]; exact T, lv_sub hl [0, 2, 3] rfl⟩
          · refine lv_aload_n hx hb dX0_renew_31 rfl (lv_at hl 2 rfl) ?_
            refine tk_get C T 18 (by decide) tkl18 rfl (v := .ref (h 18)) rfl dX0_renew_32 ?_
            refine lv_aload_n hx hb dX0_renew_35 rfl (lv_at hl 2 rfl) ?_
            refine tk_get C T 25 (by decide) tkl25 rfl (v := .ref (h 25)) rfl dX0_renew_36 ?_
            refine lv_iload_n hx hb dX0_renew_39 rfl (lv_at hl 0 rfl) ?_
            refine tk_ialdN C T 25 _ _ _ tka25 tkt25 (by decide) (by omega) (v := S.1 25 i) rfl dX0_renew_40 ?_
            refine tk_zald C T 18 _ _ _ tka18 tkt18 (by assumption) (v := S.1 18 (ix (S.1 25 i))) rfl dX0_renew_41 ?_
            refine lv_if_ne (tgt := 73) hx hb dX0_renew_42 (by decide) (fun c42 => ?_) (fun c42 => ?_)
            · refine lv_iconst (v := 1) hx hb dX0_renew_73 (by decide) ?_
              refine lv_goto (tgt := 78) hx hb dX0_renew_74 (by decide) ?_
              exact K31_78 _ (by simp [p_use, c42])
            · refine lv_aload_n hx hb dX0_renew_45 rfl (lv_at hl 2 rfl) ?_
              refine tk_get C T 18 (by decide) tkl18 rfl (v := .ref (h 18)) rfl dX0_renew_46 ?_
              refine lv_aload_n hx hb dX0_renew_49 rfl (lv_at hl 2 rfl) ?_
              refine tk_get C T 26 (by decide) tkl26 rfl (v := .ref (h 26)) rfl dX0_renew_50 ?_
              refine lv_iload_n hx hb dX0_renew_53 rfl (lv_at hl 0 rfl) ?_
              refine tk_ialdN C T 26 _ _ _ tka26 tkt26 (by decide) (by omega) (v := S.1 26 i) rfl dX0_renew_54 ?_
              refine tk_zald C T 18 _ _ _ tka18 tkt18 (by assumption) (v := S.1 18 (ix (S.1 26 i))) rfl dX0_renew_55 ?_
              refine lv_if_ne (tgt := 73) hx hb dX0_renew_56 (by decide) (fun c56 => ?_) (fun c56 => ?_)
              · refine lv_iconst (v := 1) hx hb dX0_renew_73 (by decide) ?_
                refine lv_goto (tgt := 78) hx hb dX0_renew_74 (by decide) ?_
                exact K31_78 _ (by simp [p_use, c42, c56])
              · refine lv_aload_n hx hb dX0_renew_59 rfl (lv_at hl 2 rfl) ?_
                refine tk_get C T 18 (by decide) tkl18 rfl (v := .ref (h 18)) rfl dX0_renew_60 ?_
                refine lv_aload_n hx hb dX0_renew_63 rfl (lv_at hl 2 rfl) ?_
                refine tk_get C T 27 (by decide) tkl27 rfl (v := .ref (h 27)) rfl dX0_renew_64 ?_
                refine lv_iload_n hx hb dX0_renew_67 rfl (lv_at hl 0 rfl) ?_
                refine tk_ialdN C T 27 _ _ _ tka27 tkt27 (by decide) (by omega) (v := S.1 27 i) rfl dX0_renew_68 ?_
                refine tk_zald C T 18 _ _ _ tka18 tkt18 (by assumption) (v := S.1 18 (ix (S.1 27 i))) rfl dX0_renew_69 ?_
                refine lv_if_eq (tgt := 77) hx hb dX0_renew_70 (by decide) (fun c70 => ?_) (fun c70 => ?_)
                · refine lv_iconst (v := 0) hx hb dX0_renew_77 (by decide) ?_
                  exact K31_78 _ (by simp [p_use, c42, c56, c70])
                · refine lv_iconst (v := 1) hx hb dX0_renew_73 (by decide) ?_
                  refine lv_goto (tgt := 78) hx hb dX0_renew_74 (by decide) ?_
                  exact K31_78 _ (by simp [p_use, c42, c56, c70])
      · exact ⟨0, (p_rz F, G), by omega, rfl, by omega, T, lv_sub hl [0, 1, 2] rfl⟩
    · have c5 : ¬ 46 ≤ j := fun hq_ => c5 ((nI_leI (a := 46) (b := j) (by omega) (by omega)).mpr hq_)
      refine lv_aload_n hx hb dX0_renew_8 rfl (lv_at hl 2 rfl) ?_
      refine tk_get C T 18 (by decide) tkl18 rfl (v := .ref (h 18)) rfl dX0_renew_9 ?_
      refine lv_iload_n hx hb dX0_renew_12 rfl (lv_at hl 0 rfl) ?_
      refine lv_iconst (v := 0) hx hb dX0_renew_13 (by decide) ?_
      refine tk_zastN C T 18 _ _ _ tka18 tkt18 (by decide) (by decide) (by omega) tks18 dX0_renew_14 (fun H locs T => ?_)
      refine lv_iinc (v := nI (j + 1)) (lv' := [(2, .int (nI (j + 1))), (1, .int node), (0, .ref o)]) hx hb dX0_renew_15 hl (k := 0) rfl (tx_inc1 j) (by decide) rfl (fun ls hl => ?_)
      refine lv_goto (tgt := 2) hx hb dX0_renew_18 (by decide) ?_
      exact ih2 _ _ _ ⟨j + 1, by omega, by omega, T, lv_sub hl [0, 1, 2] rfl⟩
  · exact ⟨0, rfl, by decide, T, lv_sub hl [0, 2, 1] rfl⟩
end
section
set_option maxRecDepth 100000
set_option maxHeartbeats 400000
theorem met_contract (l : Launch) (D : va_G) (cA : Nat → ClassId) (o : Nat) (h : Nat → Nat) (F : xF) (G : xG) (hok : ok_ct (F, G)) : tkMv l yX0_contract cX0_contract 2 (rmL 4) D cA o h [.ref o] F G ((p_ct (F, G)).1) ((p_ct (F, G)).2) := by
  refine tk_ofv (by decide) rfl (Nat.le_of_ble_eq_true rfl) ?_
  intro p e s m below meth c A ls C T hr hlk hl
  have hx := C.1
  have hb := C.2.1
  have hl : lv_has ls 2 [(0, .ref o)] := hl
  refine lv_aload_n hx hb dX0_contract_0 rfl (lv_at hl 0 rfl) ?_
  refine tk_get C T 19 (by decide) tkl19 rfl (v := .int (G 19)) rfl dX0_contract_1 ?_
  refine lv_if_eq (tgt := 8) hx hb dX0_contract_4 (by decide) (fun c4 => ?_) (fun c4 => ?_)
  · obtain ⟨hok1, hok2⟩ := hok c4
    refine lv_aload_n hx hb dX0_contract_8 rfl (lv_at hl 0 rfl) ?_
    refine lv_iconst (v := 1) hx hb dX0_contract_9 (by decide) ?_
    refine tk_put C T 19 (by decide) tkl19 rfl rfl (ty := .boolean) (by decide +kernel) (by decide) (by decide) tkp19 dX0_contract_10 (fun H locs T => ?_)
    refine lv_aload_n hx hb dX0_contract_13 rfl (lv_at hl 0 rfl) ?_
    refine lv_iconst (v := 0) hx hb dX0_contract_14 (by decide) ?_
    refine tk_put C T 20 (by decide) tkl20 rfl rfl (ty := .int) (by decide +kernel) rfl rfl tkp20 dX0_contract_15 (fun H locs T => ?_)
    refine lv_aload_n hx hb dX0_contract_18 rfl (lv_at hl 0 rfl) ?_
    refine lv_iconst (v := 0) hx hb dX0_contract_19 (by decide) ?_
    refine tk_put C T 10 (by decide) tkl10 rfl rfl (ty := .int) (by decide +kernel) rfl rfl tkp10 dX0_contract_20 (fun H locs T => ?_)
    refine lv_iconst (v := 0) hx hb dX0_contract_23 (by decide) ?_
    refine lv_istore_n (lv' := [(1, .int (0 : Int32)), (0, .ref o)]) hx hb dX0_contract_24 rfl hl (by decide) rfl (fun ls hl => ?_)
    refine lx_loop (pc := 25) (fun n ls H locs => ∃ (j : Nat), (j + n = 32) ∧ (j ≤ 31) ∧ tkT D cA o h A s.heap (lpN p_ciB j F) (gS (gS (gS G 19 (1 : Int32)) 20 (0 : Int32)) 10 (0 : Int32)) H locs ∧ lv_has ls 2 [(1, .int (nI j)), (0, .ref o)]) ?_ ?_ (32) ?_
    · rintro ls H locs ⟨j, h25_0, h25_1, T, hl⟩
      omega
    · rintro n ih25 ls H locs ⟨j, h25_0, h25_1, T, hl⟩
      refine lv_iload_n hx hb dX0_contract_25 rfl (lv_at hl 0 rfl) ?_
      refine lv_bipush (v := 31) hx hb dX0_contract_26 (by decide) ?_
      refine lv_icmp_ge (tgt := 82) hx hb dX0_contract_28 (by decide) (fun c28 => ?_) (fun c28 => ?_)
      · have c28 := (nI_leI (a := 31) (b := j) (by omega) (by omega)).mp c28
        obtain rfl : j = 31 := by omega
        have T : tkT D cA o h A s.heap (p_ci F) (gS (gS (gS G 19 1) 20 0) 10 0) H locs := T
        refine lv_aload_n hx hb dX0_contract_82 rfl (lv_at hl 1 rfl) ?_
        refine tk_callv C T (n := 0) (As := []) (rest := []) (met_linkParents l D cA o h (p_ci F) (gS (gS (gS G 19 (1 : Int32)) 20 (0 : Int32)) 10 (0 : Int32)) (okLk_ci hok1)) q190 q192 qs8 q193 rfl rfl (by decide +kernel) (by decide) rfl hl.1 (by decide) (by decide) rfl dX0_contract_83 (fun H locs T => ?_)
        refine lv_iconst (v := 0) hx hb dX0_contract_86 (by decide) ?_
        refine lv_istore_n (lv' := [(1, .int (0 : Int32)), (0, .ref o)]) hx hb dX0_contract_87 rfl hl (by decide) rfl (fun ls hl => ?_)
        refine lx_loop (pc := 88) (fun n ls H locs => ∃ (r t : Nat) (S : xS), (t + 1 = n) ∧ (r + t = 16) ∧ (okRd t S) ∧ (p_rdL t S = p_ct (F, G)) ∧ tkT D cA o h A s.heap S.1 S.2 H locs ∧ lv_has ls 2 [(1, .int (nI r)), (0, .ref o)]) ?_ ?_ (17) ?_
        · rintro ls H locs ⟨r, t, S, h1, h2, h3, h4, T, hl⟩
          omega
        · rintro n ih88 ls H locs ⟨r, t, S, h1, h2, h3, h4, T, hl⟩
          refine lv_iload_n hx hb dX0_contract_88 rfl (lv_at hl 0 rfl) ?_
          refine lv_bipush (v := 16) hx hb dX0_contract_89 (by decide) ?_
          refine lv_icmp_ge (tgt := 127) hx hb dX0_contract_91 (by decide) (fun c91 => ?_) (fun c91 => ?_)
          · have c91 := (nI_leI (a := 16) (b := r) (by omega) (by omega)).mp c91
            exact tk_vret C T hr hlk (by first | (obtain rfl : t = 0 := (by omega); rw [← h4]; rfl) | (rw [← h4, show p_rdL (t + 1) S = _ from if_neg c104])) dX0_contract_127
          · have c91 : ¬ 16 ≤ r := fun hq_ => c91 ((nI_leI (a := 16) (b := r) (by omega) (by omega)).mpr hq_)
            obtain ⟨t, rfl⟩ : ∃ t1, t = t1 + 1 := ⟨t - 1, by omega⟩
            obtain ⟨ho1, ho2⟩ := h3
            refine lv_aload_n hx hb dX0_contract_94 rfl (lv_at hl 1 rfl) ?_
            refine tk_get C T 0 (by decide) tkl0 rfl (v := .ref (h 0)) rfl dX0_contract_95 ?_
            refine lv_aload_n hx hb dX0_contract_98 rfl (lv_at hl 1 rfl) ?_
            refine tk_get C T 10 (by decide) tkl10 rfl (v := .int (S.2 10)) rfl dX0_contract_99 ?_
            refine tk_iald C T 0 _ _ _ tka0 tkt0 (by assumption) (v := S.1 0 (ix (S.2 10))) rfl dX0_contract_102 ?_
            refine lv_iconst (v := 2) hx hb dX0_contract_103 (by decide) ?_
            refine lv_icmp_ne (tgt := 127) hx hb dX0_contract_104 (by decide) (fun c104 => ?_) (fun c104 => ?_)
            · exact tk_vret C T hr hlk (by first | (obtain rfl : t = 0 := (by omega); rw [← h4]; rfl) | (rw [← h4, show p_rdL (t + 1) S = _ from if_neg c104])) dX0_contract_127
            · obtain ⟨ho3, ho4, ho5, ho6⟩ := ho2 c104
              refine lv_aload_n hx hb dX0_contract_107 rfl (lv_at hl 1 rfl) ?_
              refine tk_callv C T (n := 0) (As := []) (rest := []) (met_listLeaves l D cA o h S.1 S.2 ho3) q194 q196 qs9 q197 rfl rfl (by decide +kernel) (by decide) rfl hl.1 (by decide) (by decide) rfl dX0_contract_108 (fun H locs T => ?_)
              refine lv_aload_n hx hb dX0_contract_111 rfl (lv_at hl 1 rfl) ?_
              refine lv_iconst (v := 1) hx hb dX0_contract_112 (by decide) ?_
              refine tk_callv C T (n := 1) (As := [.int (1 : Int32)]) (rest := []) (met_takeLeaves l D cA o h (p_ll S).1 (p_ll S).2 1 ho4) q198 q200 qs10 q201 rfl rfl (by decide +kernel) (by decide) rfl hl.1 (by decide) (by decide) rfl dX0_contract_113 (fun H locs T => ?_)
              refine lv_aload_n hx hb dX0_contract_116 rfl (lv_at hl 1 rfl) ?_
              refine lv_iconst (v := 0) hx hb dX0_contract_117 (by decide) ?_
              refine tk_callv C T (n := 1) (As := [.int (0 : Int32)]) (rest := []) (met_takeLeaves l D cA o h (p_ts 1 (p_ll S)).1 (p_ts 1 (p_ll S)).2 0 ho5) q198 q200 qs10 q201 rfl rfl (by decide +kernel) (by decide) rfl hl.1 (by decide) (by decide) rfl dX0_contract_118 (fun H locs T => ?_)
              refine lv_iinc (v := nI (r + 1)) (lv' := [(1, .int (nI (r + 1))), (0, .ref o)]) hx hb dX0_contract_121 hl (k := 0) rfl (tx_inc1 r) (by decide) rfl (fun ls hl => ?_)
              refine lv_goto (tgt := 88) hx hb dX0_contract_124 (by decide) ?_
              exact ih88 _ _ _ ⟨r + 1, t, p_rd S, by omega, by omega, ho6, by rw [← h4]; exact (show p_rdL (t + 1) S = _ from if_pos c104).symm, T, lv_sub hl [0, 1] rfl⟩
        · exact ⟨0, 16, p_ct0 (F, G), rfl, rfl, hok2, p_ct_pos c4, (by rw [p_ct0_1, p_ct0_2]; exact T), lv_sub hl [0, 1] rfl⟩
      · have c28 : ¬ 31 ≤ j := fun hq_ => c28 ((nI_leI (a := 31) (b := j) (by omega) (by omega)).mpr hq_)
        refine lv_aload_n hx hb dX0_contract_31 rfl (lv_at hl 1 rfl) ?_
        refine tk_get C T 6 (by decide) tkl6 rfl (v := .ref (h 6)) rfl dX0_contract_32 ?_
        refine lv_iload_n hx hb dX0_contract_35 rfl (lv_at hl 0 rfl) ?_
        refine lv_aload_n hx hb dX0_contract_36 rfl (lv_at hl 1 rfl) ?_
        refine tk_get C T 3 (by decide) tkl3 rfl (v := .ref (h 3)) rfl dX0_contract_37 ?_
        refine lv_iload_n hx hb dX0_contract_40 rfl (lv_at hl 0 rfl) ?_
        refine tk_ialdN C T 3 _ _ _ tka3 tkt3 (by decide) (by omega) (v := lpN p_ciB j F 3 j) rfl dX0_contract_41 ?_
        refine tk_iastN C T 6 _ _ _ tka6 tkt6 (by decide) (by omega) tks6 dX0_contract_42 (fun H locs T => ?_)
        refine lv_aload_n hx hb dX0_contract_43 rfl (lv_at hl 1 rfl) ?_
        refine tk_get C T 7 (by decide) tkl7 rfl (v := .ref (h 7)) rfl dX0_contract_44 ?_
        refine lv_iload_n hx hb dX0_contract_47 rfl (lv_at hl 0 rfl) ?_
        refine lv_aload_n hx hb dX0_contract_48 rfl (lv_at hl 1 rfl) ?_
        refine tk_get C T 4 (by decide) tkl4 rfl (v := .ref (h 4)) rfl dX0_contract_49 ?_
        refine lv_iload_n hx hb dX0_contract_52 rfl (lv_at hl 0 rfl) ?_
        refine tk_ialdN C T 4 _ _ _ tka4 tkt4 (by decide) (by omega) (v := lpN p_ciB j F 4 j) rfl dX0_contract_53 ?_
        refine tk_iastN C T 7 _ _ _ tka7 tkt7 (by decide) (by omega) tks7 dX0_contract_54 (fun H locs T => ?_)
        refine lv_aload_n hx hb dX0_contract_55 rfl (lv_at hl 1 rfl) ?_
        refine tk_get C T 9 (by decide) tkl9 rfl (v := .ref (h 9)) rfl dX0_contract_56 ?_
        refine lv_iload_n hx hb dX0_contract_59 rfl (lv_at hl 0 rfl) ?_
        refine lv_iload_n hx hb dX0_contract_60 rfl (lv_at hl 0 rfl) ?_
        refine tk_iastN C T 9 _ _ _ tka9 tkt9 (by decide) (by omega) tks9 dX0_contract_61 (fun H locs T => ?_)
        refine lv_aload_n hx hb dX0_contract_62 rfl (lv_at hl 1 rfl) ?_
        refine tk_get C T 14 (by decide) tkl14 rfl (v := .ref (h 14)) rfl dX0_contract_63 ?_
        refine lv_iload_n hx hb dX0_contract_66 rfl (lv_at hl 0 rfl) ?_
        refine lv_iconst (v := 1) hx hb dX0_contract_67 (by decide) ?_
        refine tk_iastN C T 14 _ _ _ tka14 tkt14 (by decide) (by omega) tks14 dX0_contract_68 (fun H locs T => ?_)
        refine lv_aload_n hx hb dX0_contract_69 rfl (lv_at hl 1 rfl) ?_
        refine tk_get C T 15 (by decide) tkl15 rfl (v := .ref (h 15)) rfl dX0_contract_70 ?_
        refine lv_iload_n hx hb dX0_contract_73 rfl (lv_at hl 0 rfl) ?_
        refine lv_iconst (v := 0) hx hb dX0_contract_74 (by decide) ?_
        refine tk_iastN C T 15 _ _ _ tka15 tkt15 (by decide) (by omega) tks15 dX0_contract_75 (fun H locs T => ?_)
        refine lv_iinc (v := nI (j + 1)) (lv' := [(1, .int (nI (j + 1))), (0, .ref o)]) hx hb dX0_contract_76 hl (k := 0) rfl (tx_inc1 j) (by decide) rfl (fun ls hl => ?_)
        refine lv_goto (tgt := 25) hx hb dX0_contract_79 (by decide) ?_
        exact ih25 _ _ _ ⟨j + 1, by omega, by omega, T, lv_sub hl [0, 1] rfl⟩
    · exact ⟨0, rfl, by decide, T, lv_sub hl [0, 1] rfl⟩
  · exact tk_vret C T hr hlk (by rw [p_ct_neg (S := (F, G)) c4]) dX0_contract_7
end
section
set_option maxRecDepth 100000
set_option maxHeartbeats 400000
theorem okE_sc (node : Int32) (S : xS) (j : Nat) {i : Nat} (h : okE S.1 i) : okE (lpN (p_scB node) j (lpN p_szB 46 S.1, S.2)).1 i := by
  have k : ∀ a : Nat, a ≠ 16 ∧ a ≠ 17 → (lpN (p_scB node) j (lpN p_szB 46 S.1, S.2)).1 a = S.1 a := fun a ha => (p_sc_keep node (lpN p_szB 46 S.1, S.2) j a ha).trans (p_sz_keep S.1 46 a ha)
  exact okE_of h (k 21 (by decide)) (k 22 (by decide)) (k 25 (by decide)) (k 26 (by decide)) (k 27 (by decide))
theorem met_value (l : Launch) (D : va_G) (cA : Nat → ClassId) (o : Nat) (h : Nat → Nat) (F : xF) (G : xG) (node : Int32) (hok : ok_val (F, G) node) : tkMi l yX0_value cX0_value 10 (some .int) (rmL 5) D cA o h [.ref o, .int node] F G (p_valR (F, G) node) ((p_valS (F, G) node).1) ((p_valS (F, G) node).2) := by
  refine tk_ofi (by decide) rfl (Nat.le_of_ble_eq_true rfl) ?_
  intro p e s m below meth c A ls C T hr hlk hl
  have hx := C.1
  have hb := C.2.1
  have hl : lv_has ls 10 [(0, .ref o), (1, .int node)] := hl
  refine lv_aload_n hx hb dX0_value_0 rfl (lv_at hl 0 rfl) ?_
  refine lv_iload_n hx hb dX0_value_1 rfl (lv_at hl 1 rfl) ?_
  refine tk_calli C T (n := 1) (As := [.int node]) (rest := []) (met_kindOf l D cA o h F G node) q135 q137 qs0 q138 rfl rfl (by decide +kernel) (by decide) rfl hl.1 (by decide) (by decide) rfl dX0_value_2 (fun H locs T => ?_)
  refine lv_istore_n (lv' := [(2, .int (p_kindOf F node)), (0, .ref o), (1, .int node)]) hx hb dX0_value_5 rfl hl (by decide) rfl (fun ls hl => ?_)
  refine lv_iload_n hx hb dX0_value_6 rfl (lv_at hl 0 rfl) ?_
  refine lv_if_ne (tgt := 12) hx hb dX0_value_7 (by decide) (fun c7 => ?_) (fun c7 => ?_)
  · obtain ⟨hok1, hok2, hok3, hok4, hok5⟩ := hok c7
    have hR : p_valR (F, G) node = p_vv (p_ct (F, G)) node := if_neg c7
    have hQ : p_valS (F, G) node = ((p_vd (p_ct (F, G)) node).1, (p_ct (F, G)).2) := if_neg c7
    refine lv_aload_n hx hb dX0_value_12 rfl (lv_at hl 1 rfl) ?_
    refine tk_callv C T (n := 0) (As := []) (rest := []) (met_contract l D cA o h F G hok1) q186 q188 qs7 q189 rfl rfl (by decide +kernel) (by decide) rfl hl.1 (by decide) (by decide) rfl dX0_value_13 (fun H locs T => ?_)
    generalize hS : p_ct (F, G) = S at T hok2 hok3 hok4 hok5 hR hQ
    refine lv_iconst (v := 0) hx hb dX0_value_16 (by decide) ?_
    refine lv_istore_n (lv' := [(3, .int (0 : Int32)), (2, .int (p_kindOf F node)), (0, .ref o), (1, .int node)]) hx hb dX0_value_17 rfl hl (by decide) rfl (fun ls hl => ?_)
    refine lv_iload_n hx hb dX0_value_18 rfl (lv_at hl 3 rfl) ?_
    refine lv_istore (lv' := [(4, .int node), (3, .int (0 : Int32)), (2, .int (p_kindOf F node)), (0, .ref o), (1, .int node)]) hx hb dX0_value_19 hl (by decide) rfl (fun ls hl => ?_)
    refine lx_meet (J := 78) (rest := []) (I := fun ls H locs => ∃ (F1 : xF) (a1 : Int32) (d : Nat), (p_vd S node = (F1, a1, d)) ∧ tkT D cA o h A s.heap F1 S.2 H locs ∧ lv_has ls 10 [(4, .int a1), (3, .int (nI d)), (1, .int node), (0, .ref o)]) ?_ (fun M21_78 => ?_)
    · rintro ls H locs ⟨F1, a1, d, hm, T, hl⟩
      rw [hm] at hok3 hok4 hok5
      have hok3 : d ≤ 16 := hok3
      have hok4 : vp_in a1 31 := hok4
      have hok5 : ∀ i, i < d → vp_in (F1 13 i) 15 ∧ okE F1 (ix (F1 13 i)) := hok5
      refine lv_aload_n hx hb dX0_value_78 rfl (lv_at hl 3 rfl) ?_
      refine tk_get C T 2 (by decide) tkl2 rfl (v := .ref (h 2)) rfl dX0_value_79 ?_
      refine lv_iload hx hb dX0_value_82 (lv_at hl 0 rfl) ?_
      refine tk_iald C T 2 _ _ _ tka2 tkt2 (by assumption) (v := F1 2 (ix a1)) rfl dX0_value_84 ?_
      refine lv_istore (lv' := [(5, .int (F1 2 (ix a1))), (4, .int a1), (3, .int (nI d)), (1, .int node), (0, .ref o)]) hx hb dX0_value_85 hl (by decide) rfl (fun ls hl => ?_)
      refine lv_iload_n hx hb dX0_value_87 rfl (lv_at hl 2 rfl) ?_
      refine lv_iconst (v := 1) hx hb dX0_value_88 (by decide) ?_
      refine lv_isub hx hb dX0_value_89 ?_
      refine lv_istore (lv' := [(6, .int ((nI d) - (1 : Int32))), (5, .int (F1 2 (ix a1))), (4, .int a1), (3, .int (nI d)), (1, .int node), (0, .ref o)]) hx hb dX0_value_90 hl (by decide) rfl (fun ls hl => ?_)
      refine lx_loop (pc := 92) (fun n ls H locs => ∃ (j : Nat) (v1 : Int32), (j + 1 = n) ∧ (j ≤ d) ∧ (p_vuL F1 j v1 = p_vv S node) ∧ tkT D cA o h A s.heap F1 S.2 H locs ∧ lv_has ls 10 [(6, .int (nI j - 1)), (5, .int v1), (1, .int node), (0, .ref o)]) ?_ ?_ (d + 1) ?_
      · rintro ls H locs ⟨j, v1, h1, h2, h3, T, hl⟩
        omega
      · rintro n ih92 ls H locs ⟨j, v1, h1, h2, h3, T, hl⟩
        refine lv_iload hx hb dX0_value_92 (lv_at hl 0 rfl) ?_
        refine lv_if_lt (tgt := 203) hx hb dX0_value_94 (by decide) (fun c94 => ?_) (fun c94 => ?_)
        · have c94 : j = 0 := (tx_lt0 (by omega)).mp c94
          refine lv_iload hx hb dX0_value_203 (lv_at hl 1 rfl) ?_
          exact tk_iret C T hr hlk (by subst c94; rw [hR, ← h3]; rfl) (by rw [hQ, hm]) dX0_value_205
        · have c94 : ¬ j = 0 := fun hq_ => c94 ((tx_lt0 (by omega)).mpr hq_)
          obtain ⟨j, rfl⟩ : ∃ j1, j = j1 + 1 := ⟨j - 1, by omega⟩
          rw [nI_pred] at hl
          obtain ⟨hv1, he⟩ := hok5 j (by omega)
          obtain ⟨hv3, hv4⟩ := tx_nI hv1 (by decide)
          generalize hee : ix (F1 13 j) = e0 at he hv3 hv4
          obtain ⟨he1, he2, he3, he4, he5, he6⟩ := id he
          refine lv_aload_n hx hb dX0_value_97 rfl (lv_at hl 3 rfl) ?_
          refine tk_get C T 13 (by decide) tkl13 rfl (v := .ref (h 13)) rfl dX0_value_98 ?_
          refine lv_iload hx hb dX0_value_101 (lv_at hl 0 rfl) ?_
          refine tk_ialdN C T 13 _ _ _ tka13 tkt13 (by decide) (by omega) (v := F1 13 j) rfl dX0_value_103 ?_
          refine lx_top (w := nI e0) hv3 ?_
          refine lv_istore (lv' := [(7, .int (nI e0)), (6, .int (nI j)), (5, .int v1), (1, .int node), (0, .ref o)]) hx hb dX0_value_104 hl (by decide) rfl (fun ls hl => ?_)
          refine lv_aload_n hx hb dX0_value_106 rfl (lv_at hl 4 rfl) ?_
          refine tk_get C T 14 (by decide) tkl14 rfl (v := .ref (h 14)) rfl dX0_value_107 ?_
          refine lv_aload_n hx hb dX0_value_110 rfl (lv_at hl 4 rfl) ?_
          refine tk_get C T 27 (by decide) tkl27 rfl (v := .ref (h 27)) rfl dX0_value_111 ?_
          refine lv_iload hx hb dX0_value_114 (lv_at hl 0 rfl) ?_
          refine tk_ialdN C T 27 _ _ _ tka27 tkt27 (by decide) (by omega) (v := F1 27 e0) rfl dX0_value_116 ?_
          refine tk_iald C T 14 _ _ _ tka14 tkt14 (by assumption) (v := F1 14 (ix (F1 27 e0))) rfl dX0_value_117 ?_
          refine lv_iload hx hb dX0_value_118 (lv_at hl 2 rfl) ?_
          refine lv_imul hx hb dX0_value_120 ?_
          refine lv_aload_n hx hb dX0_value_121 rfl (lv_at hl 4 rfl) ?_
          refine tk_get C T 15 (by decide) tkl15 rfl (v := .ref (h 15)) rfl dX0_value_122 ?_
          refine lv_aload_n hx hb dX0_value_125 rfl (lv_at hl 4 rfl) ?_
          refine tk_get C T 27 (by decide) tkl27 rfl (v := .ref (h 27)) rfl dX0_value_126 ?_
          refine lv_iload hx hb dX0_value_129 (lv_at hl 0 rfl) ?_
          refine tk_ialdN C T 27 _ _ _ tka27 tkt27 (by decide) (by omega) (v := F1 27 e0) rfl dX0_value_131 ?_
          refine tk_iald C T 15 _ _ _ tka15 tkt15 (by assumption) (v := F1 15 (ix (F1 27 e0))) rfl dX0_value_132 ?_
          refine lv_iadd hx hb dX0_value_133 ?_
          refine lv_istore (lv' := [(8, .int (((F1 14 (ix (F1 27 e0))) * v1) + (F1 15 (ix (F1 27 e0))))), (7, .int (nI e0)), (6, .int (nI j)), (5, .int v1), (1, .int node), (0, .ref o)]) hx hb dX0_value_134 hl (by decide) rfl (fun ls hl => ?_)
          refine lv_aload_n hx hb dX0_value_136 rfl (lv_at hl 5 rfl) ?_
          refine lv_iload hx hb dX0_value_137 (lv_at hl 1 rfl) ?_
          refine tk_calli C T (n := 1) (As := [.int (nI e0)]) (rest := []) (met_leafValue l D cA o h F1 S.2 e0 he) q166 q168 qs5 q169 rfl rfl (by decide +kernel) (by decide) rfl hl.1 (by decide) (by decide) rfl dX0_value_139 (fun H locs T => ?_)
          refine lv_istore (lv' := [(9, .int (p_lv F1 e0)), (8, .int (((F1 14 (ix (F1 27 e0))) * v1) + (F1 15 (ix (F1 27 e0))))), (7, .int (nI e0)), (6, .int (nI j)), (5, .int v1), (1, .int node), (0, .ref o)]) hx hb dX0_value_142 hl (by decide) rfl (fun ls hl => ?_)
          refine lx_meet (J := 195) (rest := [.int (p_vs F1 e0 v1)]) (I := fun ls H locs => tkT D cA o h A s.heap F1 S.2 H locs ∧ lv_has ls 10 [(9, .int (p_lv F1 e0)), (8, .int (((F1 14 (ix (F1 27 e0))) * v1) + (F1 15 (ix (F1 27 e0))))), (7, .int (nI e0)), (6, .int (nI j)), (5, .int v1), (1, .int node), (0, .ref o)]) ?_ (fun M144_195 => ?_)
          · rintro ls H locs ⟨T, hl⟩
            refine lv_istore (lv' := [(5, .int (p_vs F1 e0 v1)), (9, .int (p_lv F1 e0)), (8, .int (((F1 14 (ix (F1 27 e0))) * v1) + (F1 15 (ix (F1 27 e0))))), (7, .int (nI e0)), (6, .int (nI j)), (1, .int node), (0, .ref o)]) hx hb dX0_value_195 hl (by decide) rfl (fun ls hl => ?_)
            refine lv_iinc (v := nI j - 1) (lv' := [(6, .int (nI j - 1)), (5, .int (p_vs F1 e0 v1)), (9, .int (p_lv F1 e0)), (8, .int (((F1 14 (ix (F1 27 e0))) * v1) + (F1 15 (ix (F1 27 e0))))), (7, .int (nI e0)), (1, .int node), (0, .ref o)]) hx hb dX0_value_197 hl (k := 4) rfl (tx_m1 _) (by decide) rfl (fun ls hl => ?_)
            refine lv_goto (tgt := 92) hx hb dX0_value_200 (by decide) ?_
            exact ih92 _ _ _ ⟨j, p_vs F1 e0 v1, by omega, by omega, (by rw [← h3, ← hee]; rfl), T, lv_sub hl [0, 1, 5, 6] rfl⟩
          · refine lv_aload_n hx hb dX0_value_144 rfl (lv_at hl 6 rfl) ?_
            refine tk_get C T 24 (by decide) tkl24 rfl (v := .ref (h 24)) rfl dX0_value_145 ?_
            refine lv_iload hx hb dX0_value_148 (lv_at hl 2 rfl) ?_
            refine tk_zaldN C T 24 _ _ _ tka24 tkt24 (by decide) (by omega) (v := F1 24 e0) rfl dX0_value_150 ?_
            refine lv_if_eq (tgt := 176) hx hb dX0_value_151 (by decide) (fun c151 => ?_) (fun c151 => ?_)
            · refine lv_aload_n hx hb dX0_value_176 rfl (lv_at hl 6 rfl) ?_
              refine tk_get C T 1 (by decide) tkl1 rfl (v := .ref (h 1)) rfl dX0_value_177 ?_
              refine lv_aload_n hx hb dX0_value_180 rfl (lv_at hl 6 rfl) ?_
              refine tk_get C T 22 (by decide) tkl22 rfl (v := .ref (h 22)) rfl dX0_value_181 ?_
              refine lv_iload hx hb dX0_value_184 (lv_at hl 2 rfl) ?_
              refine tk_ialdN C T 22 _ _ _ tka22 tkt22 (by decide) (by omega) (v := F1 22 e0) rfl dX0_value_186 ?_
              refine tk_iald C T 1 _ _ _ tka1 tkt1 (by assumption) (v := F1 1 (ix (F1 22 e0))) rfl dX0_value_187 ?_
              refine lv_iload hx hb dX0_value_188 (lv_at hl 1 rfl) ?_
              refine lv_iload hx hb dX0_value_190 (lv_at hl 0 rfl) ?_
              refine tk_scalli C T (n := 3) (As := [.int (F1 1 (ix (F1 22 e0))), .int (((F1 14 (ix (F1 27 e0))) * v1) + (F1 15 (ix (F1 27 e0)))), .int (p_lv F1 e0)]) (rest := []) (met_calculate l D cA o h F1 S.2 (F1 1 (ix (F1 22 e0))) (((F1 14 (ix (F1 27 e0))) * v1) + (F1 15 (ix (F1 27 e0)))) (p_lv F1 e0)) q151 q152 q153 rfl rfl (by decide +kernel) (by decide) rfl hl.1 (by decide) (by decide) rfl dX0_value_192 (fun H locs T => ?_)
              refine lx_top (w := p_vs F1 e0 v1) (by first | exact (show p_vs F1 e0 v1 = _ from if_pos c151).symm | exact (show p_vs F1 e0 v1 = _ from if_neg c151).symm) ?_
              exact M144_195 _ _ _ ⟨T, lv_sub hl [0, 1, 2, 3, 4, 5, 6] rfl⟩
            · refine lv_aload_n hx hb dX0_value_154 rfl (lv_at hl 6 rfl) ?_
              refine tk_get C T 1 (by decide) tkl1 rfl (v := .ref (h 1)) rfl dX0_value_155 ?_
              refine lv_aload_n hx hb dX0_value_158 rfl (lv_at hl 6 rfl) ?_
              refine tk_get C T 22 (by decide) tkl22 rfl (v := .ref (h 22)) rfl dX0_value_159 ?_
              refine lv_iload hx hb dX0_value_162 (lv_at hl 2 rfl) ?_
              refine tk_ialdN C T 22 _ _ _ tka22 tkt22 (by decide) (by omega) (v := F1 22 e0) rfl dX0_value_164 ?_
              refine tk_iald C T 1 _ _ _ tka1 tkt1 (by assumption) (v := F1 1 (ix (F1 22 e0))) rfl dX0_value_165 ?_
              refine lv_iload hx hb dX0_value_166 (lv_at hl 0 rfl) ?_
              refine lv_iload hx hb dX0_value_168 (lv_at hl 1 rfl) ?_
              refine tk_scalli C T (n := 3) (As := [.int (F1 1 (ix (F1 22 e0))), .int (p_lv F1 e0), .int (((F1 14 (ix (F1 27 e0))) * v1) + (F1 15 (ix (F1 27 e0))))]) (rest := []) (met_calculate l D cA o h F1 S.2 (F1 1 (ix (F1 22 e0))) (p_lv F1 e0) (((F1 14 (ix (F1 27 e0))) * v1) + (F1 15 (ix (F1 27 e0))))) q151 q152 q153 rfl rfl (by decide +kernel) (by decide) rfl hl.1 (by decide) (by decide) rfl dX0_value_170 (fun H locs T => ?_)
              refine lv_goto (tgt := 195) hx hb dX0_value_173 (by decide) ?_
              refine lx_top (w := p_vs F1 e0 v1) (by first | exact (show p_vs F1 e0 v1 = _ from if_pos c151).symm | exact (show p_vs F1 e0 v1 = _ from if_neg c151).symm) ?_
              exact M144_195 _ _ _ ⟨T, lv_sub hl [0, 1, 2, 3, 4, 5, 6] rfl⟩
      · exact ⟨d, F1 2 (ix a1), rfl, Nat.le_refl _, (by unfold p_vv; rw [hm]), T, lv_sub hl [0, 1, 4, 5] rfl⟩
    · refine lv_iconst (v := 0) hx hb dX0_value_21 (by decide) ?_
      refine lv_istore (lv' := [(5, .int (0 : Int32)), (4, .int node), (3, .int (0 : Int32)), (2, .int (p_kindOf F node)), (0, .ref o), (1, .int node)]) hx hb dX0_value_22 hl (by decide) rfl (fun ls hl => ?_)
      refine lx_loop (pc := 24) (fun n ls H locs => ∃ (t d : Nat) (F1 : xF) (a1 : Int32), (t + 1 = n) ∧ (d + t = 16) ∧ (okVd t F1 a1 d) ∧ (p_vdL t F1 a1 d = p_vd S node) ∧ tkT D cA o h A s.heap F1 S.2 H locs ∧ lv_has ls 10 [(5, .int (nI d)), (4, .int a1), (3, .int (nI d)), (1, .int node), (0, .ref o)]) ?_ ?_ (17) ?_
      · rintro ls H locs ⟨t, d, F1, a1, h1, h2, h3, h4, T, hl⟩
        omega
      · rintro n ih24 ls H locs ⟨t, d, F1, a1, h1, h2, h3, h4, T, hl⟩
        refine lv_iload hx hb dX0_value_24 (lv_at hl 0 rfl) ?_
        refine lv_bipush (v := 16) hx hb dX0_value_26 (by decide) ?_
        refine lv_icmp_ge (tgt := 78) hx hb dX0_value_28 (by decide) (fun c28 => ?_) (fun c28 => ?_)
        · have c28 := (nI_leI (a := 16) (b := d) (by omega) (by omega)).mp c28
          exact M21_78 _ _ _ ⟨F1, a1, d, (by first | (obtain rfl : t = 0 := (by omega); rw [← h4]; rfl) | (rw [← h4]; exact (show p_vdL (t + 1) F1 a1 d = _ from if_neg c39))), T, lv_sub hl [1, 2, 3, 4] rfl⟩
        · have c28 : ¬ 16 ≤ d := fun hq_ => c28 ((nI_leI (a := 16) (b := d) (by omega) (by omega)).mpr hq_)
          obtain ⟨t, rfl⟩ : ∃ t1, t = t1 + 1 := ⟨t - 1, by omega⟩
          obtain ⟨ho1, ho2, ho3⟩ := h3
          refine lv_aload_n hx hb dX0_value_31 rfl (lv_at hl 4 rfl) ?_
          refine tk_get C T 0 (by decide) tkl0 rfl (v := .ref (h 0)) rfl dX0_value_32 ?_
          refine lv_iload hx hb dX0_value_35 (lv_at hl 1 rfl) ?_
          refine tk_iald C T 0 _ _ _ tka0 tkt0 (by assumption) (v := F1 0 (ix a1)) rfl dX0_value_37 ?_
          refine lv_iconst (v := 2) hx hb dX0_value_38 (by decide) ?_
          refine lv_icmp_ne (tgt := 78) hx hb dX0_value_39 (by decide) (fun c39 => ?_) (fun c39 => ?_)
          · exact M21_78 _ _ _ ⟨F1, a1, d, (by first | (obtain rfl : t = 0 := (by omega); rw [← h4]; rfl) | (rw [← h4]; exact (show p_vdL (t + 1) F1 a1 d = _ from if_neg c39))), T, lv_sub hl [1, 2, 3, 4] rfl⟩
          · obtain ⟨ho4, ho5⟩ := ho3 c39
            refine lv_aload_n hx hb dX0_value_42 rfl (lv_at hl 4 rfl) ?_
            refine tk_get C T 13 (by decide) tkl13 rfl (v := .ref (h 13)) rfl dX0_value_43 ?_
            refine lv_iload_n hx hb dX0_value_46 rfl (lv_at hl 2 rfl) ?_
            refine lv_aload_n hx hb dX0_value_47 rfl (lv_at hl 4 rfl) ?_
            refine tk_get C T 28 (by decide) tkl28 rfl (v := .ref (h 28)) rfl dX0_value_48 ?_
            refine lv_iload hx hb dX0_value_51 (lv_at hl 1 rfl) ?_
            refine tk_iald C T 28 _ _ _ tka28 tkt28 (by assumption) (v := F1 28 (ix a1)) rfl dX0_value_53 ?_
            refine tk_iastN C T 13 _ _ _ tka13 tkt13 (by decide) (by omega) tks13 dX0_value_54 (fun H locs T => ?_)
            refine lv_iinc (v := nI (d + 1)) (lv' := [(3, .int (nI (d + 1))), (5, .int (nI d)), (4, .int a1), (1, .int node), (0, .ref o)]) hx hb dX0_value_55 hl (k := 2) rfl (tx_inc1 d) (by decide) rfl (fun ls hl => ?_)
            refine lv_aload_n hx hb dX0_value_58 rfl (lv_at hl 4 rfl) ?_
            refine tk_get C T 23 (by decide) tkl23 rfl (v := .ref (h 23)) rfl dX0_value_59 ?_
            refine lv_aload_n hx hb dX0_value_62 rfl (lv_at hl 4 rfl) ?_
            refine tk_get C T 28 (by decide) tkl28 rfl (v := .ref (h 28)) rfl dX0_value_63 ?_
            refine lv_iload hx hb dX0_value_66 (lv_at hl 2 rfl) ?_
            refine tk_iald C T 28 _ _ _ tka28 tkt28 (by assumption) (v := F1 28 (ix a1)) rfl dX0_value_68 ?_
            refine tk_iald C T 23 _ _ _ tka23 tkt23 (by assumption) (v := F1 23 (ix (F1 28 (ix a1)))) rfl dX0_value_69 ?_
            refine lv_istore (lv' := [(4, .int (F1 23 (ix (F1 28 (ix a1))))), (3, .int (nI (d + 1))), (5, .int (nI d)), (1, .int node), (0, .ref o)]) hx hb dX0_value_70 hl (by decide) rfl (fun ls hl => ?_)
            refine lv_iinc (v := nI (d + 1)) (lv' := [(5, .int (nI (d + 1))), (4, .int (F1 23 (ix (F1 28 (ix a1))))), (3, .int (nI (d + 1))), (1, .int node), (0, .ref o)]) hx hb dX0_value_72 hl (k := 2) rfl (tx_inc1 d) (by decide) rfl (fun ls hl => ?_)
            refine lv_goto (tgt := 24) hx hb dX0_value_75 (by decide) ?_
            exact ih24 _ _ _ ⟨t, d + 1, _, _, by omega, by omega, ho5, by rw [← h4]; exact (show p_vdL (t + 1) F1 a1 d = _ from if_pos c39).symm, T, lv_sub hl [0, 1, 2, 3, 4] rfl⟩
      · exact ⟨16, 0, S.1, node, rfl, rfl, hok2, rfl, T, lv_sub hl [0, 1, 2, 5, 4] rfl⟩
  · refine lv_iconst (v := 0) hx hb dX0_value_10 (by decide) ?_
    exact tk_iret C T hr hlk (by rw [show p_valR (F, G) node = _ from if_pos c7]) (by rw [show p_valS (F, G) node = _ from if_pos c7]) dX0_value_11
theorem met_slope (l : Launch) (D : va_G) (cA : Nat → ClassId) (o : Nat) (h : Nat → Nat) (F : xF) (G : xG) (node : Int32) (hok : ok_slo (F, G) node) : tkMi l yX0_slope cX0_slope 4 (some .int) (rmL 5) D cA o h [.ref o, .int node] F G (p_sloR (F, G) node) ((p_sloS (F, G) node).1) ((p_sloS (F, G) node).2) := by
  refine tk_ofi (by decide) rfl (Nat.le_of_ble_eq_true rfl) ?_
  intro p e s m below meth c A ls C T hr hlk hl
  have hx := C.1
  have hb := C.2.1
  have hl : lv_has ls 4 [(0, .ref o), (1, .int node)] := hl
  refine lv_aload_n hx hb dX0_slope_0 rfl (lv_at hl 0 rfl) ?_
  refine lv_iload_n hx hb dX0_slope_1 rfl (lv_at hl 1 rfl) ?_
  refine tk_calli C T (n := 1) (As := [.int node]) (rest := []) (met_kindOf l D cA o h F G node) q135 q137 qs0 q138 rfl rfl (by decide +kernel) (by decide) rfl hl.1 (by decide) (by decide) rfl dX0_slope_2 (fun H locs T => ?_)
  refine lv_iconst (v := 1) hx hb dX0_slope_5 (by decide) ?_
  refine lv_icmp_eq (tgt := 11) hx hb dX0_slope_6 (by decide) (fun c6 => ?_) (fun c6 => ?_)
  · obtain ⟨hok1, hok2, hok3, hok4⟩ := hok c6
    have hR : p_sloR (F, G) node = p_sv (p_sc node (p_ct (F, G))) node := if_pos c6
    have hQ : p_sloS (F, G) node = p_sc node (p_ct (F, G)) := if_pos c6
    refine lv_aload_n hx hb dX0_slope_11 rfl (lv_at hl 0 rfl) ?_
    refine tk_callv C T (n := 0) (As := []) (rest := []) (met_contract l D cA o h F G hok1) q186 q188 qs7 q189 rfl rfl (by decide +kernel) (by decide) rfl hl.1 (by decide) (by decide) rfl dX0_slope_12 (fun H locs T => ?_)
    generalize hS : p_ct (F, G) = S at T hok2 hok3 hok4 hR hQ
    obtain ⟨hG, hG2⟩ := tx_nI hok2.1 (by decide)
    refine lv_iconst (v := 0) hx hb dX0_slope_15 (by decide) ?_
    refine lv_istore_n (lv' := [(2, .int (0 : Int32)), (0, .ref o), (1, .int node)]) hx hb dX0_slope_16 rfl hl (by decide) rfl (fun ls hl => ?_)
    refine lx_loop (pc := 17) (fun n ls H locs => ∃ (j : Nat), (j + n = 47) ∧ (j ≤ 46) ∧ tkT D cA o h A s.heap (lpN p_szB j S.1) S.2 H locs ∧ lv_has ls 4 [(2, .int (nI j)), (1, .int node), (0, .ref o)]) ?_ ?_ (47) ?_
    · rintro ls H locs ⟨j, h17_0, h17_1, T, hl⟩
      omega
    · rintro n ih17 ls H locs ⟨j, h17_0, h17_1, T, hl⟩
      refine lv_iload_n hx hb dX0_slope_17 rfl (lv_at hl 0 rfl) ?_
      refine lv_bipush (v := 46) hx hb dX0_slope_18 (by decide) ?_
      refine lv_icmp_ge (tgt := 43) hx hb dX0_slope_20 (by decide) (fun c20 => ?_) (fun c20 => ?_)
      · have c20 := (nI_leI (a := 46) (b := j) (by omega) (by omega)).mp c20
        obtain rfl : j = 46 := by omega
        refine lv_iconst (v := 0) hx hb dX0_slope_43 (by decide) ?_
        refine lv_istore_n (lv' := [(2, .int (0 : Int32)), (1, .int node), (0, .ref o)]) hx hb dX0_slope_44 rfl hl (by decide) rfl (fun ls hl => ?_)
        refine lx_loop (pc := 45) (fun n ls H locs => ∃ (i : Nat) (S1 : xS), (i + n = ix (S.2 20) + 1) ∧ (S1 = lpN (p_scB node) i (lpN p_szB 46 S.1, S.2)) ∧ (i ≤ ix (S.2 20)) ∧ tkT D cA o h A s.heap S1.1 S1.2 H locs ∧ lv_has ls 4 [(2, .int (nI i)), (1, .int node), (0, .ref o)]) ?_ ?_ (ix (S.2 20) + 1) ?_
        · rintro ls H locs ⟨i, S1, h1, h2, h3, T, hl⟩
          omega
        · rintro n ih45 ls H locs ⟨i, S1, h1, h2, h3, T, hl⟩
          have hS20 : S1.2 20 = nI (ix (S.2 20)) := by rw [h2, p_sc_G _ _ _ _ (by decide)]; exact hG
          refine lv_iload_n hx hb dX0_slope_45 rfl (lv_at hl 0 rfl) ?_
          refine lv_aload_n hx hb dX0_slope_46 rfl (lv_at hl 2 rfl) ?_
          refine tk_get C T 20 (by decide) tkl20 rfl (v := .int (S1.2 20)) rfl dX0_slope_47 ?_
          refine lx_top (w := nI (ix (S.2 20))) hS20 ?_
          refine lv_icmp_ge (tgt := 65) hx hb dX0_slope_50 (by decide) (fun c50 => ?_) (fun c50 => ?_)
          · have c50 := (nI_leI (a := ix (S.2 20)) (b := i) (by omega) (by omega)).mp c50
            have hS1 : S1 = p_sc node S := by rw [h2, show i = ix (S.2 20) by omega]; rfl
            have g10 : S1.2 10 = S.2 10 := by rw [h2]; exact p_sc_G _ _ _ _ (by decide)
            have f9 : S1.1 9 = S.1 9 := by rw [h2]; exact (p_sc_keep _ _ _ _ (by decide)).trans (p_sz_keep _ _ _ (by decide))
            have ht31 : vp_in (S1.2 10) 31 := by rw [g10]; exact hok3
            have hs46 : vp_in (S1.1 9 (ix (S1.2 10))) 46 := by rw [g10, f9]; exact hok4
            refine lv_aload_n hx hb dX0_slope_65 rfl (lv_at hl 2 rfl) ?_
            refine tk_get C T 9 (by decide) tkl9 rfl (v := .ref (h 9)) rfl dX0_slope_66 ?_
            refine lv_aload_n hx hb dX0_slope_69 rfl (lv_at hl 2 rfl) ?_
            refine tk_get C T 10 (by decide) tkl10 rfl (v := .int (S1.2 10)) rfl dX0_slope_70 ?_
            refine tk_iald C T 9 _ _ _ tka9 tkt9 (by assumption) (v := S1.1 9 (ix (S1.2 10))) rfl dX0_slope_73 ?_
            refine lv_istore_n (lv' := [(2, .int (S1.1 9 (ix (S1.2 10)))), (1, .int node), (0, .ref o)]) hx hb dX0_slope_74 rfl hl (by decide) rfl (fun ls hl => ?_)
            refine lx_join (J := 93) (rest := []) ((if S1.2 10 = node then S1.1 14 (ix (S1.1 9 (ix (S1.2 10)))) else 0)) (fun ow how => ?_) (fun K75_93 => ?_)
            · refine lv_istore_n (lv' := [(3, .int ow), (2, .int (S1.1 9 (ix (S1.2 10)))), (1, .int node), (0, .ref o)]) hx hb dX0_slope_93 rfl hl (by decide) rfl (fun ls hl => ?_)
              refine lv_aload_n hx hb dX0_slope_94 rfl (lv_at hl 3 rfl) ?_
              refine tk_get C T 16 (by decide) tkl16 rfl (v := .ref (h 16)) rfl dX0_slope_95 ?_
              refine lv_iload_n hx hb dX0_slope_98 rfl (lv_at hl 1 rfl) ?_
              refine tk_iald C T 16 _ _ _ tka16 tkt16 (by assumption) (v := S1.1 16 (ix (S1.1 9 (ix (S1.2 10))))) rfl dX0_slope_99 ?_
              refine lv_aload_n hx hb dX0_slope_100 rfl (lv_at hl 3 rfl) ?_
              refine tk_get C T 2 (by decide) tkl2 rfl (v := .ref (h 2)) rfl dX0_slope_101 ?_
              refine lv_aload_n hx hb dX0_slope_104 rfl (lv_at hl 3 rfl) ?_
              refine tk_get C T 10 (by decide) tkl10 rfl (v := .int (S1.2 10)) rfl dX0_slope_105 ?_
              refine tk_iald C T 2 _ _ _ tka2 tkt2 (by assumption) (v := S1.1 2 (ix (S1.2 10))) rfl dX0_slope_108 ?_
              refine lv_imul hx hb dX0_slope_109 ?_
              refine lv_iload_n hx hb dX0_slope_110 rfl (lv_at hl 0 rfl) ?_
              refine lv_iadd hx hb dX0_slope_111 ?_
              refine lv_aload_n hx hb dX0_slope_112 rfl (lv_at hl 3 rfl) ?_
              refine tk_get C T 17 (by decide) tkl17 rfl (v := .ref (h 17)) rfl dX0_slope_113 ?_
              refine lv_iload_n hx hb dX0_slope_116 rfl (lv_at hl 1 rfl) ?_
              refine tk_iald C T 17 _ _ _ tka17 tkt17 (by assumption) (v := S1.1 17 (ix (S1.1 9 (ix (S1.2 10))))) rfl dX0_slope_117 ?_
              refine lv_iadd hx hb dX0_slope_118 ?_
              exact tk_iret C T hr hlk (by rw [hR, ← hS1, how]; rfl) (by rw [hQ, ← hS1]) dX0_slope_119
            · refine lv_aload_n hx hb dX0_slope_75 rfl (lv_at hl 2 rfl) ?_
              refine tk_get C T 10 (by decide) tkl10 rfl (v := .int (S1.2 10)) rfl dX0_slope_76 ?_
              refine lv_iload_n hx hb dX0_slope_79 rfl (lv_at hl 1 rfl) ?_
              refine lv_icmp_ne (tgt := 92) hx hb dX0_slope_80 (by decide) (fun c80 => ?_) (fun c80 => ?_)
              · refine lv_iconst (v := 0) hx hb dX0_slope_92 (by decide) ?_
                exact K75_93 _ (by simp [c80])
              · refine lv_aload_n hx hb dX0_slope_83 rfl (lv_at hl 2 rfl) ?_
                refine tk_get C T 14 (by decide) tkl14 rfl (v := .ref (h 14)) rfl dX0_slope_84 ?_
                refine lv_iload_n hx hb dX0_slope_87 rfl (lv_at hl 0 rfl) ?_
                refine tk_iald C T 14 _ _ _ tka14 tkt14 (by assumption) (v := S1.1 14 (ix (S1.1 9 (ix (S1.2 10))))) rfl dX0_slope_88 ?_
                refine lv_goto (tgt := 93) hx hb dX0_slope_89 (by decide) ?_
                exact K75_93 _ (by simp [c80])
          · have c50 : ¬ ix (S.2 20) ≤ i := fun hq_ => c50 ((nI_leI (a := ix (S.2 20)) (b := i) (by omega) (by omega)).mpr hq_)
            have he : okE S1.1 i := by rw [h2]; exact okE_sc node _ _ (hok2.2 i (by omega))
            obtain ⟨he1, he2, he3, he4, he5, he6⟩ := id he
            refine lv_aload_n hx hb dX0_slope_53 rfl (lv_at hl 2 rfl) ?_
            refine lv_iload_n hx hb dX0_slope_54 rfl (lv_at hl 0 rfl) ?_
            refine lv_iload_n hx hb dX0_slope_55 rfl (lv_at hl 1 rfl) ?_
            refine tk_callv C T (n := 2) (As := [.int (nI i), .int node]) (rest := []) (met_changeStep l D cA o h S1.1 S1.2 i node he) q210 q212 qs12 q213 rfl rfl (by decide +kernel) (by decide) rfl hl.1 (by decide) (by decide) rfl dX0_slope_56 (fun H locs T => ?_)
            refine lv_iinc (v := nI (i + 1)) (lv' := [(2, .int (nI (i + 1))), (1, .int node), (0, .ref o)]) hx hb dX0_slope_59 hl (k := 0) rfl (tx_inc1 i) (by decide) rfl (fun ls hl => ?_)
            refine lv_goto (tgt := 45) hx hb dX0_slope_62 (by decide) ?_
            exact ih45 _ _ _ ⟨i + 1, p_scB node i S1, by omega, by rw [h2]; rfl, by omega, T, lv_sub hl [0, 1, 2] rfl⟩
        · exact ⟨0, (lpN p_szB 46 S.1, S.2), by omega, rfl, by omega, T, lv_sub hl [0, 1, 2] rfl⟩
      · have c20 : ¬ 46 ≤ j := fun hq_ => c20 ((nI_leI (a := 46) (b := j) (by omega) (by omega)).mpr hq_)
        refine lv_aload_n hx hb dX0_slope_23 rfl (lv_at hl 2 rfl) ?_
        refine tk_get C T 16 (by decide) tkl16 rfl (v := .ref (h 16)) rfl dX0_slope_24 ?_
        refine lv_iload_n hx hb dX0_slope_27 rfl (lv_at hl 0 rfl) ?_
        refine lv_iconst (v := 0) hx hb dX0_slope_28 (by decide) ?_
        refine tk_iastN C T 16 _ _ _ tka16 tkt16 (by decide) (by omega) tks16 dX0_slope_29 (fun H locs T => ?_)
        refine lv_aload_n hx hb dX0_slope_30 rfl (lv_at hl 2 rfl) ?_
        refine tk_get C T 17 (by decide) tkl17 rfl (v := .ref (h 17)) rfl dX0_slope_31 ?_
        refine lv_iload_n hx hb dX0_slope_34 rfl (lv_at hl 0 rfl) ?_
        refine lv_iconst (v := 0) hx hb dX0_slope_35 (by decide) ?_
        refine tk_iastN C T 17 _ _ _ tka17 tkt17 (by decide) (by omega) tks17 dX0_slope_36 (fun H locs T => ?_)
        refine lv_iinc (v := nI (j + 1)) (lv' := [(2, .int (nI (j + 1))), (1, .int node), (0, .ref o)]) hx hb dX0_slope_37 hl (k := 0) rfl (tx_inc1 j) (by decide) rfl (fun ls hl => ?_)
        refine lv_goto (tgt := 17) hx hb dX0_slope_40 (by decide) ?_
        exact ih17 _ _ _ ⟨j + 1, by omega, by omega, T, lv_sub hl [0, 1, 2] rfl⟩
    · exact ⟨0, rfl, by decide, T, lv_sub hl [0, 2, 1] rfl⟩
  · refine lv_iconst (v := 0) hx hb dX0_slope_9 (by decide) ?_
    exact tk_iret C T hr hlk (by rw [show p_sloR (F, G) node = _ from if_neg c6]) (by rw [show p_sloS (F, G) node = _ from if_neg c6]) dX0_slope_10
end
section
set_option maxRecDepth 100000
set_option maxHeartbeats 400000
theorem met_grow (l : Launch) (D : va_G) (cA : Nat → ClassId) (o : Nat) (h : Nat → Nat) (F : xF) (G : xG) (node so a b : Int32) : tkMi l yX0_grow cX0_grow 7 (some .int) (rmL 1) D cA o h [.ref o, .int node, .int so, .int a, .int b] F G (p_grR (F, G) node) ((p_grS (F, G) node so a b).1) ((p_grS (F, G) node so a b).2) := by
  refine tk_ofi (by decide) rfl (Nat.le_of_ble_eq_true rfl) ?_
  intro p e s m below meth c A ls C T hr hlk hl
  have hx := C.1
  have hb := C.2.1
  have hl : lv_has ls 7 [(0, .ref o), (1, .int node), (2, .int so), (3, .int a), (4, .int b)] := hl
  refine lv_aload_n hx hb dX0_grow_0 rfl (lv_at hl 0 rfl) ?_
  refine lv_iload_n hx hb dX0_grow_1 rfl (lv_at hl 1 rfl) ?_
  refine tk_calli C T (n := 1) (As := [.int node]) (rest := []) (met_kindOf l D cA o h F G node) q135 q137 qs0 q138 rfl rfl (by decide +kernel) (by decide) rfl hl.1 (by decide) (by decide) rfl dX0_grow_2 (fun H locs T => ?_)
  refine lv_iconst (v := 1) hx hb dX0_grow_5 (by decide) ?_
  refine lv_icmp_ne (tgt := 18) hx hb dX0_grow_6 (by decide) (fun c6 => ?_) (fun c6 => ?_)
  · refine lv_iconst (v := -1) hx hb dX0_grow_18 (by decide) ?_
    exact tk_iret C T hr hlk (by simp [p_grR, c6]) (by simp [p_grS, c6]) dX0_grow_19
  · refine lv_aload_n hx hb dX0_grow_9 rfl (lv_at hl 0 rfl) ?_
    refine tk_get C T 5 (by decide) tkl5 rfl (v := .int (G 5)) rfl dX0_grow_10 ?_
    refine lv_bipush (v := 15) hx hb dX0_grow_13 (by decide) ?_
    refine lv_icmp_lt (tgt := 20) hx hb dX0_grow_15 (by decide) (fun c15 => ?_) (fun c15 => ?_)
    · have hin := (p_kindOf_in (F := F) (n := node) (by rw [c6]; decide)).1
      have hgl : p_gl F < 31 := Nat.lt_succ_of_le (p_free_le (F 0) 31 0 (by decide))
      have hgr : p_gr F < 31 := Nat.lt_succ_of_le (p_free_le (F 0) (31 - (p_gl F + 1)) (p_gl F + 1) (by omega))
      refine lv_aload_n hx hb dX0_grow_20 rfl (lv_at hl 0 rfl) ?_
      refine lv_iconst (v := 0) hx hb dX0_grow_21 (by decide) ?_
      refine tk_calli C T (n := 1) (As := [.int (0 : Int32)]) (rest := []) (met_freeNode l D cA o h F G 0 (by decide)) q139 q141 qs1 q142 rfl rfl (by decide +kernel) (by decide) rfl hl.1 (by decide) (by decide) rfl dX0_grow_22 (fun H locs T => ?_)
      refine lv_istore (lv' := [(5, .int (nI (p_gl F))), (0, .ref o), (1, .int node), (2, .int so), (3, .int a), (4, .int b)]) hx hb dX0_grow_25 hl (by decide) rfl (fun ls hl => ?_)
      refine lv_aload_n hx hb dX0_grow_27 rfl (lv_at hl 1 rfl) ?_
      refine lv_iload hx hb dX0_grow_28 (lv_at hl 0 rfl) ?_
      refine lv_iconst (v := 1) hx hb dX0_grow_30 (by decide) ?_
      refine lv_iadd hx hb dX0_grow_31 ?_
      refine lx_top (w := nI (p_gl F + 1)) (nI_1 _) ?_
      refine tk_calli C T (n := 1) (As := [.int (nI (p_gl F + 1))]) (rest := []) (met_freeNode l D cA o h F G (p_gl F + 1) hgl) q139 q141 qs1 q142 rfl rfl (by decide +kernel) (by decide) rfl hl.1 (by decide) (by decide) rfl dX0_grow_32 (fun H locs T => ?_)
      refine lv_istore (lv' := [(6, .int (nI (p_gr F))), (5, .int (nI (p_gl F))), (0, .ref o), (1, .int node), (2, .int so), (3, .int a), (4, .int b)]) hx hb dX0_grow_35 hl (by decide) rfl (fun ls hl => ?_)
      refine lv_aload_n hx hb dX0_grow_37 rfl (lv_at hl 2 rfl) ?_
      refine lv_iload hx hb dX0_grow_38 (lv_at hl 1 rfl) ?_
      refine lv_iload_n hx hb dX0_grow_40 rfl (lv_at hl 5 rfl) ?_
      refine tk_callv C T (n := 2) (As := [.int (nI (p_gl F)), .int a]) (rest := []) (met_makeLeaf l D cA o h F G (p_gl F) a hgl) q143 q145 qs2 q146 rfl rfl (by decide +kernel) (by decide) rfl hl.1 (by decide) (by decide) rfl dX0_grow_41 (fun H locs T => ?_)
      refine lv_aload_n hx hb dX0_grow_44 rfl (lv_at hl 2 rfl) ?_
      refine lv_iload hx hb dX0_grow_45 (lv_at hl 0 rfl) ?_
      refine lv_iload hx hb dX0_grow_47 (lv_at hl 6 rfl) ?_
      refine tk_callv C T (n := 2) (As := [.int (nI (p_gr F)), .int b]) (rest := []) (met_makeLeaf l D cA o h (p_mk F (p_gl F) a) G (p_gr F) b hgr) q143 q145 qs2 q146 rfl rfl (by decide +kernel) (by decide) rfl hl.1 (by decide) (by decide) rfl dX0_grow_49 (fun H locs T => ?_)
      refine lv_aload_n hx hb dX0_grow_52 rfl (lv_at hl 2 rfl) ?_
      refine tk_get C T 0 (by decide) tkl0 rfl (v := .ref (h 0)) rfl dX0_grow_53 ?_
      refine lv_iload_n hx hb dX0_grow_56 rfl (lv_at hl 3 rfl) ?_
      refine lv_iconst (v := 2) hx hb dX0_grow_57 (by decide) ?_
      refine tk_iast C T 0 _ _ _ tka0 tkt0 (by assumption) tks0 dX0_grow_58 (fun H locs T => ?_)
      refine lv_aload_n hx hb dX0_grow_59 rfl (lv_at hl 2 rfl) ?_
      refine tk_get C T 1 (by decide) tkl1 rfl (v := .ref (h 1)) rfl dX0_grow_60 ?_
      refine lv_iload_n hx hb dX0_grow_63 rfl (lv_at hl 3 rfl) ?_
      refine lv_iload_n hx hb dX0_grow_64 rfl (lv_at hl 4 rfl) ?_
      refine lv_iconst (v := 3) hx hb dX0_grow_65 (by decide) ?_
      refine lv_iand hx hb dX0_grow_66 ?_
      refine tk_iast C T 1 _ _ _ tka1 tkt1 (by assumption) tks1 dX0_grow_67 (fun H locs T => ?_)
      refine lv_aload_n hx hb dX0_grow_68 rfl (lv_at hl 2 rfl) ?_
      refine tk_get C T 3 (by decide) tkl3 rfl (v := .ref (h 3)) rfl dX0_grow_69 ?_
      refine lv_iload_n hx hb dX0_grow_72 rfl (lv_at hl 3 rfl) ?_
      refine lv_iload hx hb dX0_grow_73 (lv_at hl 1 rfl) ?_
      refine tk_iast C T 3 _ _ _ tka3 tkt3 (by assumption) tks3 dX0_grow_75 (fun H locs T => ?_)
      refine lv_aload_n hx hb dX0_grow_76 rfl (lv_at hl 2 rfl) ?_
      refine tk_get C T 4 (by decide) tkl4 rfl (v := .ref (h 4)) rfl dX0_grow_77 ?_
      refine lv_iload_n hx hb dX0_grow_80 rfl (lv_at hl 3 rfl) ?_
      refine lv_iload hx hb dX0_grow_81 (lv_at hl 0 rfl) ?_
      refine tk_iast C T 4 _ _ _ tka4 tkt4 (by assumption) tks4 dX0_grow_83 (fun H locs T => ?_)
      refine lv_aload_n hx hb dX0_grow_84 rfl (lv_at hl 2 rfl) ?_
      refine lv_dup hx hb dX0_grow_85 rfl ?_
      refine tk_get C T 5 (by decide) tkl5 rfl (v := .int (G 5)) rfl dX0_grow_86 ?_
      refine lv_iconst (v := 1) hx hb dX0_grow_89 (by decide) ?_
      refine lv_iadd hx hb dX0_grow_90 ?_
      refine tk_put C T 5 (by decide) tkl5 rfl rfl (ty := .int) (by decide +kernel) rfl rfl tkp5 dX0_grow_91 (fun H locs T => ?_)
      refine lv_aload_n hx hb dX0_grow_94 rfl (lv_at hl 2 rfl) ?_
      refine lv_iconst (v := 0) hx hb dX0_grow_95 (by decide) ?_
      refine tk_put C T 19 (by decide) tkl19 rfl rfl (ty := .boolean) (by decide +kernel) (by decide) (by decide) tkp19 dX0_grow_96 (fun H locs T => ?_)
      refine lv_iload hx hb dX0_grow_99 (lv_at hl 1 rfl) ?_
      exact tk_iret C T hr hlk (by rw [show p_grR (F, G) node = _ from (if_pos c6).trans (if_pos c15)]) (by rw [show p_grS (F, G) node so a b = _ from (if_pos c6).trans (if_pos c15)]; rfl) dX0_grow_101
    · refine lv_iconst (v := -1) hx hb dX0_grow_18 (by decide) ?_
      exact tk_iret C T hr hlk (by simp [p_grR, c6, c15]) (by simp [p_grS, c6, c15]) dX0_grow_19
theorem met_shrink (l : Launch) (D : va_G) (cA : Nat → ClassId) (o : Nat) (h : Nat → Nat) (F : xF) (G : xG) (node : Int32) (hok : ok_ch (F, G) node) : tkMi l yX0_shrink cX0_shrink 5 (some .int) (rmL 1) D cA o h [.ref o, .int node] F G (p_shR (F, G) node) ((p_shS (F, G) node).1) ((p_shS (F, G) node).2) := by
  refine tk_ofi (by decide) rfl (Nat.le_of_ble_eq_true rfl) ?_
  intro p e s m below meth c A ls C T hr hlk hl
  have hx := C.1
  have hb := C.2.1
  have hl : lv_has ls 5 [(0, .ref o), (1, .int node)] := hl
  refine lv_aload_n hx hb dX0_shrink_0 rfl (lv_at hl 0 rfl) ?_
  refine lv_iload_n hx hb dX0_shrink_1 rfl (lv_at hl 1 rfl) ?_
  refine tk_calli C T (n := 1) (As := [.int node]) (rest := []) (met_kindOf l D cA o h F G node) q135 q137 qs0 q138 rfl rfl (by decide +kernel) (by decide) rfl hl.1 (by decide) (by decide) rfl dX0_shrink_2 (fun H locs T => ?_)
  refine lv_iconst (v := 2) hx hb dX0_shrink_5 (by decide) ?_
  refine lv_icmp_ne (tgt := 39) hx hb dX0_shrink_6 (by decide) (fun c6 => ?_) (fun c6 => ?_)
  · refine lv_iconst (v := -1) hx hb dX0_shrink_39 (by decide) ?_
    exact tk_iret C T hr hlk (by simp [p_shR, p_shC, c6]) (by simp [p_shS, p_shC, c6]) dX0_shrink_40
  · have hin := (p_kindOf_in (F := F) (n := node) (by rw [c6]; decide)).1
    obtain ⟨hc1, hc2⟩ := hok c6
    have hc1 : vp_in (F 3 (ix node)) 31 := hc1
    have hc2 : vp_in (F 4 (ix node)) 31 := hc2
    refine lv_aload_n hx hb dX0_shrink_9 rfl (lv_at hl 0 rfl) ?_
    refine tk_get C T 0 (by decide) tkl0 rfl (v := .ref (h 0)) rfl dX0_shrink_10 ?_
    refine lv_aload_n hx hb dX0_shrink_13 rfl (lv_at hl 0 rfl) ?_
    refine tk_get C T 3 (by decide) tkl3 rfl (v := .ref (h 3)) rfl dX0_shrink_14 ?_
    refine lv_iload_n hx hb dX0_shrink_17 rfl (lv_at hl 1 rfl) ?_
    refine tk_iald C T 3 _ _ _ tka3 tkt3 (by assumption) (v := F 3 (ix node)) rfl dX0_shrink_18 ?_
    refine tk_iald C T 0 _ _ _ tka0 tkt0 (by assumption) (v := F 0 (ix (F 3 (ix node)))) rfl dX0_shrink_19 ?_
    refine lv_iconst (v := 1) hx hb dX0_shrink_20 (by decide) ?_
    refine lv_icmp_ne (tgt := 39) hx hb dX0_shrink_21 (by decide) (fun c21 => ?_) (fun c21 => ?_)
    · refine lv_iconst (v := -1) hx hb dX0_shrink_39 (by decide) ?_
      exact tk_iret C T hr hlk (by simp [p_shR, p_shC, c6, c21]) (by simp [p_shS, p_shC, c6, c21]) dX0_shrink_40
    · refine lv_aload_n hx hb dX0_shrink_24 rfl (lv_at hl 0 rfl) ?_
      refine tk_get C T 0 (by decide) tkl0 rfl (v := .ref (h 0)) rfl dX0_shrink_25 ?_
      refine lv_aload_n hx hb dX0_shrink_28 rfl (lv_at hl 0 rfl) ?_
      refine tk_get C T 4 (by decide) tkl4 rfl (v := .ref (h 4)) rfl dX0_shrink_29 ?_
      refine lv_iload_n hx hb dX0_shrink_32 rfl (lv_at hl 1 rfl) ?_
      refine tk_iald C T 4 _ _ _ tka4 tkt4 (by assumption) (v := F 4 (ix node)) rfl dX0_shrink_33 ?_
      refine tk_iald C T 0 _ _ _ tka0 tkt0 (by assumption) (v := F 0 (ix (F 4 (ix node)))) rfl dX0_shrink_34 ?_
      refine lv_iconst (v := 1) hx hb dX0_shrink_35 (by decide) ?_
      refine lv_icmp_eq (tgt := 41) hx hb dX0_shrink_36 (by decide) (fun c36 => ?_) (fun c36 => ?_)
      · refine lv_aload_n hx hb dX0_shrink_41 rfl (lv_at hl 0 rfl) ?_
        refine tk_get C T 3 (by decide) tkl3 rfl (v := .ref (h 3)) rfl dX0_shrink_42 ?_
        refine lv_iload_n hx hb dX0_shrink_45 rfl (lv_at hl 1 rfl) ?_
        refine tk_iald C T 3 _ _ _ tka3 tkt3 (by assumption) (v := F 3 (ix node)) rfl dX0_shrink_46 ?_
        refine lv_istore_n (lv' := [(2, .int (F 3 (ix node))), (0, .ref o), (1, .int node)]) hx hb dX0_shrink_47 rfl hl (by decide) rfl (fun ls hl => ?_)
        refine lv_aload_n hx hb dX0_shrink_48 rfl (lv_at hl 1 rfl) ?_
        refine tk_get C T 4 (by decide) tkl4 rfl (v := .ref (h 4)) rfl dX0_shrink_49 ?_
        refine lv_iload_n hx hb dX0_shrink_52 rfl (lv_at hl 2 rfl) ?_
        refine tk_iald C T 4 _ _ _ tka4 tkt4 (by assumption) (v := F 4 (ix node)) rfl dX0_shrink_53 ?_
        refine lv_istore_n (lv' := [(3, .int (F 4 (ix node))), (2, .int (F 3 (ix node))), (0, .ref o), (1, .int node)]) hx hb dX0_shrink_54 rfl hl (by decide) rfl (fun ls hl => ?_)
        refine lv_aload_n hx hb dX0_shrink_55 rfl (lv_at hl 2 rfl) ?_
        refine tk_get C T 1 (by decide) tkl1 rfl (v := .ref (h 1)) rfl dX0_shrink_56 ?_
        refine lv_iload_n hx hb dX0_shrink_59 rfl (lv_at hl 3 rfl) ?_
        refine tk_iald C T 1 _ _ _ tka1 tkt1 (by assumption) (v := F 1 (ix node)) rfl dX0_shrink_60 ?_
        refine lv_aload_n hx hb dX0_shrink_61 rfl (lv_at hl 2 rfl) ?_
        refine tk_get C T 2 (by decide) tkl2 rfl (v := .ref (h 2)) rfl dX0_shrink_62 ?_
        refine lv_iload_n hx hb dX0_shrink_65 rfl (lv_at hl 1 rfl) ?_
        refine tk_iald C T 2 _ _ _ tka2 tkt2 (by assumption) (v := F 2 (ix (F 3 (ix node)))) rfl dX0_shrink_66 ?_
        refine lv_aload_n hx hb dX0_shrink_67 rfl (lv_at hl 2 rfl) ?_
        refine tk_get C T 2 (by decide) tkl2 rfl (v := .ref (h 2)) rfl dX0_shrink_68 ?_
        refine lv_iload_n hx hb dX0_shrink_71 rfl (lv_at hl 0 rfl) ?_
        refine tk_iald C T 2 _ _ _ tka2 tkt2 (by assumption) (v := F 2 (ix (F 4 (ix node)))) rfl dX0_shrink_72 ?_
        refine tk_scalli C T (n := 3) (As := [.int (F 1 (ix node)), .int (F 2 (ix (F 3 (ix node)))), .int (F 2 (ix (F 4 (ix node))))]) (rest := []) (met_calculate l D cA o h F G (F 1 (ix node)) (F 2 (ix (F 3 (ix node)))) (F 2 (ix (F 4 (ix node))))) q151 q152 q153 rfl rfl (by decide +kernel) (by decide) rfl hl.1 (by decide) (by decide) rfl dX0_shrink_73 (fun H locs T => ?_)
        refine lv_istore (lv' := [(4, .int (p_calc (F 1 (ix node)) (F 2 (ix (F 3 (ix node)))) (F 2 (ix (F 4 (ix node)))))), (3, .int (F 4 (ix node))), (2, .int (F 3 (ix node))), (0, .ref o), (1, .int node)]) hx hb dX0_shrink_76 hl (by decide) rfl (fun ls hl => ?_)
        refine lv_aload_n hx hb dX0_shrink_78 rfl (lv_at hl 3 rfl) ?_
        refine tk_get C T 0 (by decide) tkl0 rfl (v := .ref (h 0)) rfl dX0_shrink_79 ?_
        refine lv_iload_n hx hb dX0_shrink_82 rfl (lv_at hl 2 rfl) ?_
        refine lv_iconst (v := 0) hx hb dX0_shrink_83 (by decide) ?_
        refine tk_iast C T 0 _ _ _ tka0 tkt0 (by assumption) tks0 dX0_shrink_84 (fun H locs T => ?_)
        refine lv_aload_n hx hb dX0_shrink_85 rfl (lv_at hl 3 rfl) ?_
        refine tk_get C T 0 (by decide) tkl0 rfl (v := .ref (h 0)) rfl dX0_shrink_86 ?_
        refine lv_iload_n hx hb dX0_shrink_89 rfl (lv_at hl 1 rfl) ?_
        refine lv_iconst (v := 0) hx hb dX0_shrink_90 (by decide) ?_
        refine tk_iast C T 0 _ _ _ tka0 tkt0 (by assumption) tks0 dX0_shrink_91 (fun H locs T => ?_)
        refine lv_aload_n hx hb dX0_shrink_92 rfl (lv_at hl 3 rfl) ?_
        refine lv_iload_n hx hb dX0_shrink_93 rfl (lv_at hl 4 rfl) ?_
        refine lv_iload hx hb dX0_shrink_94 (lv_at hl 0 rfl) ?_
        refine tk_callv C T (n := 2) (As := [.int node, .int (p_calc (F 1 (ix node)) (F 2 (ix (F 3 (ix node)))) (F 2 (ix (F 4 (ix node)))))]) (rest := []) (met_makeLeafI l D cA o h (fS (fS F 0 (ix (F 3 (ix node))) (0 : Int32)) 0 (ix (F 4 (ix node))) (0 : Int32)) G node (p_calc (F 1 (ix node)) (F 2 (ix (F 3 (ix node)))) (F 2 (ix (F 4 (ix node))))) hin) q143 q145 qs2 q146 rfl rfl (by decide +kernel) (by decide) rfl hl.1 (by decide) (by decide) rfl dX0_shrink_96 (fun H locs T => ?_)
        refine lv_aload_n hx hb dX0_shrink_99 rfl (lv_at hl 3 rfl) ?_
        refine lv_dup hx hb dX0_shrink_100 rfl ?_
        refine tk_get C T 5 (by decide) tkl5 rfl (v := .int (G 5)) rfl dX0_shrink_101 ?_
        refine lv_iconst (v := 1) hx hb dX0_shrink_104 (by decide) ?_
        refine lv_isub hx hb dX0_shrink_105 ?_
        refine tk_put C T 5 (by decide) tkl5 rfl rfl (ty := .int) (by decide +kernel) rfl rfl tkp5 dX0_shrink_106 (fun H locs T => ?_)
        refine lv_aload_n hx hb dX0_shrink_109 rfl (lv_at hl 3 rfl) ?_
        refine lv_iconst (v := 0) hx hb dX0_shrink_110 (by decide) ?_
        refine tk_put C T 19 (by decide) tkl19 rfl rfl (ty := .boolean) (by decide +kernel) (by decide) (by decide) tkp19 dX0_shrink_111 (fun H locs T => ?_)
        refine lv_iconst (v := 0) hx hb dX0_shrink_114 (by decide) ?_
        exact tk_iret C T hr hlk (by simp [p_shR, p_shC, c6, c21, c36]) (by rw [show p_shS (F, G) node = _ from if_pos (by simp [p_shC, c6, c21, c36])]; rfl) dX0_shrink_115
      · refine lv_iconst (v := -1) hx hb dX0_shrink_39 (by decide) ?_
        exact tk_iret C T hr hlk (by simp [p_shR, p_shC, c6, c21, c36]) (by simp [p_shS, p_shC, c6, c21, c36]) dX0_shrink_40
theorem met_set (l : Launch) (D : va_G) (cA : Nat → ClassId) (o : Nat) (h : Nat → Nat) (F : xF) (G : xG) (node v : Int32) (hok : ¬ G 19 = 0 → okSt (F, G)) : tkMi l yX0_set cX0_set 3 (some .int) (rmL 3) D cA o h [.ref o, .int node, .int v] F G (p_seR (F, G) node) ((p_seS (F, G) node v).1) ((p_seS (F, G) node v).2) := by
  refine tk_ofi (by decide) rfl (Nat.le_of_ble_eq_true rfl) ?_
  intro p e s m below meth c A ls C T hr hlk hl
  have hx := C.1
  have hb := C.2.1
  have hl : lv_has ls 3 [(0, .ref o), (1, .int node), (2, .int v)] := hl
  refine lv_aload_n hx hb dX0_set_0 rfl (lv_at hl 0 rfl) ?_
  refine lv_iload_n hx hb dX0_set_1 rfl (lv_at hl 1 rfl) ?_
  refine tk_calli C T (n := 1) (As := [.int node]) (rest := []) (met_kindOf l D cA o h F G node) q135 q137 qs0 q138 rfl rfl (by decide +kernel) (by decide) rfl hl.1 (by decide) (by decide) rfl dX0_set_2 (fun H locs T => ?_)
  refine lv_iconst (v := 1) hx hb dX0_set_5 (by decide) ?_
  refine lv_icmp_eq (tgt := 11) hx hb dX0_set_6 (by decide) (fun c6 => ?_) (fun c6 => ?_)
  · have hin := (p_kindOf_in (F := F) (n := node) (by rw [c6]; decide)).1
    refine lv_aload_n hx hb dX0_set_11 rfl (lv_at hl 0 rfl) ?_
    refine tk_get C T 2 (by decide) tkl2 rfl (v := .ref (h 2)) rfl dX0_set_12 ?_
    refine lv_iload_n hx hb dX0_set_15 rfl (lv_at hl 1 rfl) ?_
    refine lv_iload_n hx hb dX0_set_16 rfl (lv_at hl 2 rfl) ?_
    refine tk_iast C T 2 _ _ _ tka2 tkt2 (by assumption) tks2 dX0_set_17 (fun H locs T => ?_)
    refine lv_aload_n hx hb dX0_set_18 rfl (lv_at hl 0 rfl) ?_
    refine tk_get C T 19 (by decide) tkl19 rfl (v := .int (G 19)) rfl dX0_set_19 ?_
    refine lv_if_eq (tgt := 30) hx hb dX0_set_22 (by decide) (fun c22 => ?_) (fun c22 => ?_)
    · refine lv_iconst (v := 0) hx hb dX0_set_30 (by decide) ?_
      exact tk_iret C T hr hlk (by rw [show p_seR (F, G) node = _ from if_pos c6]) (by rw [show p_seS (F, G) node v = _ from (if_pos c6).trans (if_pos c22)]) dX0_set_31
    · refine lv_aload_n hx hb dX0_set_25 rfl (lv_at hl 0 rfl) ?_
      refine lv_iload_n hx hb dX0_set_26 rfl (lv_at hl 1 rfl) ?_
      refine tk_callv C T (n := 1) (As := [.int node]) (rest := []) (met_renew l D cA o h (fS F 2 (ix node) v) G node (hok c22)) q158 q160 qs3 q161 rfl rfl (by decide +kernel) (by decide) rfl hl.1 (by decide) (by decide) rfl dX0_set_27 (fun H locs T => ?_)
      refine lv_iconst (v := 0) hx hb dX0_set_30 (by decide) ?_
      exact tk_iret C T hr hlk (by rw [show p_seR (F, G) node = _ from if_pos c6]) (by rw [show p_seS (F, G) node v = _ from (if_pos c6).trans (if_neg c22)]) dX0_set_31
  · refine lv_iconst (v := -1) hx hb dX0_set_9 (by decide) ?_
    exact tk_iret C T hr hlk (by rw [show p_seR (F, G) node = _ from if_neg c6]) (by rw [show p_seS (F, G) node v = _ from if_neg c6]) dX0_set_10
theorem met_setSort (l : Launch) (D : va_G) (cA : Nat → ClassId) (o : Nat) (h : Nat → Nat) (F : xF) (G : xG) (node so : Int32) (hok : ¬ G 19 = 0 → okSt (F, G)) : tkMi l yX0_setSort cX0_setSort 3 (some .int) (rmL 3) D cA o h [.ref o, .int node, .int so] F G (p_soR (F, G) node) ((p_soS (F, G) node so).1) ((p_soS (F, G) node so).2) := by
  refine tk_ofi (by decide) rfl (Nat.le_of_ble_eq_true rfl) ?_
  intro p e s m below meth c A ls C T hr hlk hl
  have hx := C.1
  have hb := C.2.1
  have hl : lv_has ls 3 [(0, .ref o), (1, .int node), (2, .int so)] := hl
  refine lv_aload_n hx hb dX0_setSort_0 rfl (lv_at hl 0 rfl) ?_
  refine lv_iload_n hx hb dX0_setSort_1 rfl (lv_at hl 1 rfl) ?_
  refine tk_calli C T (n := 1) (As := [.int node]) (rest := []) (met_kindOf l D cA o h F G node) q135 q137 qs0 q138 rfl rfl (by decide +kernel) (by decide) rfl hl.1 (by decide) (by decide) rfl dX0_setSort_2 (fun H locs T => ?_)
  refine lv_iconst (v := 2) hx hb dX0_setSort_5 (by decide) ?_
  refine lv_icmp_eq (tgt := 11) hx hb dX0_setSort_6 (by decide) (fun c6 => ?_) (fun c6 => ?_)
  · have hin := (p_kindOf_in (F := F) (n := node) (by rw [c6]; decide)).1
    refine lv_aload_n hx hb dX0_setSort_11 rfl (lv_at hl 0 rfl) ?_
    refine tk_get C T 1 (by decide) tkl1 rfl (v := .ref (h 1)) rfl dX0_setSort_12 ?_
    refine lv_iload_n hx hb dX0_setSort_15 rfl (lv_at hl 1 rfl) ?_
    refine lv_iload_n hx hb dX0_setSort_16 rfl (lv_at hl 2 rfl) ?_
    refine lv_iconst (v := 3) hx hb dX0_setSort_17 (by decide) ?_
    refine lv_iand hx hb dX0_setSort_18 ?_
    refine tk_iast C T 1 _ _ _ tka1 tkt1 (by assumption) tks1 dX0_setSort_19 (fun H locs T => ?_)
    refine lv_aload_n hx hb dX0_setSort_20 rfl (lv_at hl 0 rfl) ?_
    refine tk_get C T 19 (by decide) tkl19 rfl (v := .int (G 19)) rfl dX0_setSort_21 ?_
    refine lv_if_eq (tgt := 32) hx hb dX0_setSort_24 (by decide) (fun c24 => ?_) (fun c24 => ?_)
    · refine lv_iconst (v := 0) hx hb dX0_setSort_32 (by decide) ?_
      exact tk_iret C T hr hlk (by rw [show p_soR (F, G) node = _ from if_pos c6]) (by rw [show p_soS (F, G) node so = _ from (if_pos c6).trans (if_pos c24)]) dX0_setSort_33
    · refine lv_aload_n hx hb dX0_setSort_27 rfl (lv_at hl 0 rfl) ?_
      refine lv_iload_n hx hb dX0_setSort_28 rfl (lv_at hl 1 rfl) ?_
      refine tk_callv C T (n := 1) (As := [.int node]) (rest := []) (met_renew l D cA o h (fS F 1 (ix node) (so &&& (3 : Int32))) G node (hok c24)) q158 q160 qs3 q161 rfl rfl (by decide +kernel) (by decide) rfl hl.1 (by decide) (by decide) rfl dX0_setSort_29 (fun H locs T => ?_)
      refine lv_iconst (v := 0) hx hb dX0_setSort_32 (by decide) ?_
      exact tk_iret C T hr hlk (by rw [show p_soR (F, G) node = _ from if_pos c6]) (by rw [show p_soS (F, G) node so = _ from (if_pos c6).trans (if_neg c24)]) dX0_setSort_33
  · refine lv_iconst (v := -1) hx hb dX0_setSort_9 (by decide) ?_
    exact tk_iret C T hr hlk (by rw [show p_soR (F, G) node = _ from if_neg c6]) (by rw [show p_soS (F, G) node so = _ from if_neg c6]) dX0_setSort_10
theorem met_turn (l : Launch) (D : va_G) (cA : Nat → ClassId) (o : Nat) (h : Nat → Nat) (F : xF) (G : xG) (node : Int32) : tkMi l yX0_turn cX0_turn 3 (some .int) (rmL 1) D cA o h [.ref o, .int node] F G (p_soR (F, G) node) ((p_tuS (F, G) node).1) ((p_tuS (F, G) node).2) := by
  refine tk_ofi (by decide) rfl (Nat.le_of_ble_eq_true rfl) ?_
  intro p e s m below meth c A ls C T hr hlk hl
  have hx := C.1
  have hb := C.2.1
  have hl : lv_has ls 3 [(0, .ref o), (1, .int node)] := hl
  refine lv_aload_n hx hb dX0_turn_0 rfl (lv_at hl 0 rfl) ?_
  refine lv_iload_n hx hb dX0_turn_1 rfl (lv_at hl 1 rfl) ?_
  refine tk_calli C T (n := 1) (As := [.int node]) (rest := []) (met_kindOf l D cA o h F G node) q135 q137 qs0 q138 rfl rfl (by decide +kernel) (by decide) rfl hl.1 (by decide) (by decide) rfl dX0_turn_2 (fun H locs T => ?_)
  refine lv_iconst (v := 2) hx hb dX0_turn_5 (by decide) ?_
  refine lv_icmp_eq (tgt := 11) hx hb dX0_turn_6 (by decide) (fun c6 => ?_) (fun c6 => ?_)
  · have hin := (p_kindOf_in (F := F) (n := node) (by rw [c6]; decide)).1
    refine lv_aload_n hx hb dX0_turn_11 rfl (lv_at hl 0 rfl) ?_
    refine tk_get C T 3 (by decide) tkl3 rfl (v := .ref (h 3)) rfl dX0_turn_12 ?_
    refine lv_iload_n hx hb dX0_turn_15 rfl (lv_at hl 1 rfl) ?_
    refine tk_iald C T 3 _ _ _ tka3 tkt3 (by assumption) (v := F 3 (ix node)) rfl dX0_turn_16 ?_
    refine lv_istore_n (lv' := [(2, .int (F 3 (ix node))), (0, .ref o), (1, .int node)]) hx hb dX0_turn_17 rfl hl (by decide) rfl (fun ls hl => ?_)
    refine lv_aload_n hx hb dX0_turn_18 rfl (lv_at hl 1 rfl) ?_
    refine tk_get C T 3 (by decide) tkl3 rfl (v := .ref (h 3)) rfl dX0_turn_19 ?_
    refine lv_iload_n hx hb dX0_turn_22 rfl (lv_at hl 2 rfl) ?_
    refine lv_aload_n hx hb dX0_turn_23 rfl (lv_at hl 1 rfl) ?_
    refine tk_get C T 4 (by decide) tkl4 rfl (v := .ref (h 4)) rfl dX0_turn_24 ?_
    refine lv_iload_n hx hb dX0_turn_27 rfl (lv_at hl 2 rfl) ?_
    refine tk_iald C T 4 _ _ _ tka4 tkt4 (by assumption) (v := F 4 (ix node)) rfl dX0_turn_28 ?_
    refine tk_iast C T 3 _ _ _ tka3 tkt3 (by assumption) tks3 dX0_turn_29 (fun H locs T => ?_)
    refine lv_aload_n hx hb dX0_turn_30 rfl (lv_at hl 1 rfl) ?_
    refine tk_get C T 4 (by decide) tkl4 rfl (v := .ref (h 4)) rfl dX0_turn_31 ?_
    refine lv_iload_n hx hb dX0_turn_34 rfl (lv_at hl 2 rfl) ?_
    refine lv_iload_n hx hb dX0_turn_35 rfl (lv_at hl 0 rfl) ?_
    refine tk_iast C T 4 _ _ _ tka4 tkt4 (by assumption) tks4 dX0_turn_36 (fun H locs T => ?_)
    refine lv_aload_n hx hb dX0_turn_37 rfl (lv_at hl 1 rfl) ?_
    refine lv_iconst (v := 0) hx hb dX0_turn_38 (by decide) ?_
    refine tk_put C T 19 (by decide) tkl19 rfl rfl (ty := .boolean) (by decide +kernel) (by decide) (by decide) tkp19 dX0_turn_39 (fun H locs T => ?_)
    refine lv_iconst (v := 0) hx hb dX0_turn_42 (by decide) ?_
    exact tk_iret C T hr hlk (by rw [show p_soR (F, G) node = _ from if_pos c6]) (by rw [show p_tuS (F, G) node = _ from if_pos c6]) dX0_turn_43
  · refine lv_iconst (v := -1) hx hb dX0_turn_9 (by decide) ?_
    exact tk_iret C T hr hlk (by rw [show p_soR (F, G) node = _ from if_neg c6]) (by rw [show p_tuS (F, G) node = _ from if_neg c6]) dX0_turn_10
theorem met_left (l : Launch) (D : va_G) (cA : Nat → ClassId) (o : Nat) (h : Nat → Nat) (F : xF) (G : xG) (node : Int32) : tkMi l yX0_left cX0_left 2 (some .int) (rmL 1) D cA o h [.ref o, .int node] F G (p_leR F node) F G := by
  refine tk_ofi (by decide) rfl (Nat.le_of_ble_eq_true rfl) ?_
  intro p e s m below meth c A ls C T hr hlk hl
  have hx := C.1
  have hb := C.2.1
  have hl : lv_has ls 2 [(0, .ref o), (1, .int node)] := hl
  refine lv_aload_n hx hb dX0_left_0 rfl (lv_at hl 0 rfl) ?_
  refine lv_iload_n hx hb dX0_left_1 rfl (lv_at hl 1 rfl) ?_
  refine tk_calli C T (n := 1) (As := [.int node]) (rest := []) (met_kindOf l D cA o h F G node) q135 q137 qs0 q138 rfl rfl (by decide +kernel) (by decide) rfl hl.1 (by decide) (by decide) rfl dX0_left_2 (fun H locs T => ?_)
  refine lv_iconst (v := 2) hx hb dX0_left_5 (by decide) ?_
  refine lv_icmp_ne (tgt := 18) hx hb dX0_left_6 (by decide) (fun c6 => ?_) (fun c6 => ?_)
  · refine lv_iconst (v := -1) hx hb dX0_left_18 (by decide) ?_
    exact tk_iret C T hr hlk (by simp [p_leR, c6]) rfl dX0_left_19
  · have hin := (p_kindOf_in (F := F) (n := node) (by rw [c6]; decide)).1
    refine lv_aload_n hx hb dX0_left_9 rfl (lv_at hl 0 rfl) ?_
    refine tk_get C T 3 (by decide) tkl3 rfl (v := .ref (h 3)) rfl dX0_left_10 ?_
    refine lv_iload_n hx hb dX0_left_13 rfl (lv_at hl 1 rfl) ?_
    refine tk_iald C T 3 _ _ _ tka3 tkt3 (by assumption) (v := F 3 (ix node)) rfl dX0_left_14 ?_
    refine lv_goto (tgt := 19) hx hb dX0_left_15 (by decide) ?_
    exact tk_iret C T hr hlk (by simp [p_leR, c6]) rfl dX0_left_19
theorem met_right (l : Launch) (D : va_G) (cA : Nat → ClassId) (o : Nat) (h : Nat → Nat) (F : xF) (G : xG) (node : Int32) : tkMi l yX0_right cX0_right 2 (some .int) (rmL 1) D cA o h [.ref o, .int node] F G (p_riR F node) F G := by
  refine tk_ofi (by decide) rfl (Nat.le_of_ble_eq_true rfl) ?_
  intro p e s m below meth c A ls C T hr hlk hl
  have hx := C.1
  have hb := C.2.1
  have hl : lv_has ls 2 [(0, .ref o), (1, .int node)] := hl
  refine lv_aload_n hx hb dX0_right_0 rfl (lv_at hl 0 rfl) ?_
  refine lv_iload_n hx hb dX0_right_1 rfl (lv_at hl 1 rfl) ?_
  refine tk_calli C T (n := 1) (As := [.int node]) (rest := []) (met_kindOf l D cA o h F G node) q135 q137 qs0 q138 rfl rfl (by decide +kernel) (by decide) rfl hl.1 (by decide) (by decide) rfl dX0_right_2 (fun H locs T => ?_)
  refine lv_iconst (v := 2) hx hb dX0_right_5 (by decide) ?_
  refine lv_icmp_ne (tgt := 18) hx hb dX0_right_6 (by decide) (fun c6 => ?_) (fun c6 => ?_)
  · refine lv_iconst (v := -1) hx hb dX0_right_18 (by decide) ?_
    exact tk_iret C T hr hlk (by simp [p_riR, c6]) rfl dX0_right_19
  · have hin := (p_kindOf_in (F := F) (n := node) (by rw [c6]; decide)).1
    refine lv_aload_n hx hb dX0_right_9 rfl (lv_at hl 0 rfl) ?_
    refine tk_get C T 4 (by decide) tkl4 rfl (v := .ref (h 4)) rfl dX0_right_10 ?_
    refine lv_iload_n hx hb dX0_right_13 rfl (lv_at hl 1 rfl) ?_
    refine tk_iald C T 4 _ _ _ tka4 tkt4 (by assumption) (v := F 4 (ix node)) rfl dX0_right_14 ?_
    refine lv_goto (tgt := 19) hx hb dX0_right_15 (by decide) ?_
    exact tk_iret C T hr hlk (by simp [p_riR, c6]) rfl dX0_right_19
theorem met_joints (l : Launch) (D : va_G) (cA : Nat → ClassId) (o : Nat) (h : Nat → Nat) (F : xF) (G : xG)  : tkMi l yX0_joints cX0_joints 1 (some .int) (rmL 0) D cA o h [.ref o] F G (G 5) F G := by
  refine tk_ofi (by decide) rfl (Nat.le_of_ble_eq_true rfl) ?_
  intro p e s m below meth c A ls C T hr hlk hl
  have hx := C.1
  have hb := C.2.1
  have hl : lv_has ls 1 [(0, .ref o)] := hl
  refine lv_aload_n hx hb dX0_joints_0 rfl (lv_at hl 0 rfl) ?_
  refine tk_get C T 5 (by decide) tkl5 rfl (v := .int (G 5)) rfl dX0_joints_1 ?_
  exact tk_iret C T hr hlk rfl rfl dX0_joints_4
end
section
/-! what the reference's methods compute -/
theorem lpN_succ {σ : Type} (b : Nat → σ → σ) (k : Nat) (s : σ) : lpN b (k + 1) s = b k (lpN b k s) := rfl
theorem lpN_zero {σ : Type} (b : Nat → σ → σ) (s : σ) : lpN b 0 s = s := rfl
theorem tx_in31 {n : Int32} (h0 : ¬ n < 0) (h1 : ¬ 31 ≤ n) : vp_in n 31 := by
  rcases pk_ix n (n := 31) (by decide) with h | h | ⟨j, hj, rfl⟩
  · exact absurd h h0
  · exact absurd h h1
  · exact vp_in_nI hj (by decide)
def m_isLeaf (F : xF) (n : Int32) : Int32 := if n < 0 then 0 else if 31 ≤ n then 0 else if F 0 (ix n) = 0 then 0 else if F 1 (ix n) = 0 then 1 else 0
def m_isJoint (F : xF) (n : Int32) : Int32 := if n < 0 then 0 else if 31 ≤ n then 0 else if F 0 (ix n) = 0 then 0 else if F 1 (ix n) = 0 then 0 else 1
theorem m_isLeaf_in {F : xF} {n : Int32} (h : ¬ m_isLeaf F n = 0) : vp_in n 31 := by
  unfold m_isLeaf at h
  by_cases h0 : n < 0
  · simp [h0] at h
  · by_cases h1 : 31 ≤ n
    · simp [h0, h1] at h
    · exact tx_in31 h0 h1
theorem m_isJoint_in {F : xF} {n : Int32} (h : ¬ m_isJoint F n = 0) : vp_in n 31 := by
  unfold m_isJoint at h
  by_cases h0 : n < 0
  · simp [h0] at h
  · by_cases h1 : 31 ≤ n
    · simp [h0, h1] at h
    · exact tx_in31 h0 h1
/-- leaf -/
def m_free (f : Nat → Int32) : Nat → Nat → Option Nat
  | 0, _ => none
  | t + 1, k => if f k = 0 then some k else m_free f t (k + 1)
def m_leF (F : xF) (v : Int32) : Option Nat → xF
  | none => F
  | some k => fS (fS (fS F 0 k 1) 1 k 0) 2 k v
def m_leR : Option Nat → Int32
  | none => -1
  | some k => nI k
def m_leafF (F : xF) (v : Int32) : xF := m_leF F v (m_free (F 0) 31 0)
def m_leafR (F : xF) : Int32 := m_leR (m_free (F 0) 31 0)
/-- nodes, joints -/
def m_cnt (f : Nat → Int32) : Nat → Nat
  | 0 => 0
  | k + 1 => if f k = 0 then m_cnt f k else m_cnt f k + 1
theorem m_cnt_le (f : Nat → Int32) (k : Nat) : m_cnt f k ≤ k := by
  induction k with
  | zero => exact Nat.le_refl _
  | succ k ih => unfold m_cnt; split <;> omega
/-- grow -/
def m_grF (F : xF) (node so a b : Int32) : xF := fS (fS (fS (m_leafF (fS (m_leafF F a) 4 (ix node) (m_leafR F)) b) 5 (ix node) (m_leafR (fS (m_leafF F a) 4 (ix node) (m_leafR F)))) 1 (ix node) 1) 3 (ix node) (so &&& 3)
def m_grS (F : xF) (node so a b : Int32) : xF := if m_isLeaf F node = 0 then F else if nI (m_cnt (F 0) 31) ≤ 29 then m_grF F node so a b else F
def m_grR (F : xF) (node so a b : Int32) : Int32 := if m_isLeaf F node = 0 then -1 else if nI (m_cnt (F 0) 31) ≤ 29 then m_grF F node so a b 4 (ix node) else -1
/-- shrink -/
def m_shF (F : xF) (node : Int32) : xF := fS (fS (fS (fS F 2 (ix node) (p_calc (F 3 (ix node)) (F 2 (ix (F 4 (ix node)))) (F 2 (ix (F 5 (ix node)))))) 1 (ix node) 0) 0 (ix (F 4 (ix node))) 0) 0 (ix (F 5 (ix node))) 0
def m_shS (F : xF) (node : Int32) : xF := if m_isJoint F node = 0 then F else if m_isLeaf F (F 4 (ix node)) = 0 then F else if m_isLeaf F (F 5 (ix node)) = 0 then F else m_shF F node
def m_shR (F : xF) (node : Int32) : Int32 := if m_isJoint F node = 0 then -1 else if m_isLeaf F (F 4 (ix node)) = 0 then -1 else if m_isLeaf F (F 5 (ix node)) = 0 then -1 else 0
def m_seS (F : xF) (node v : Int32) : xF := if m_isLeaf F node = 0 then F else fS F 2 (ix node) v
def m_seR (F : xF) (node : Int32) : Int32 := if m_isLeaf F node = 0 then -1 else 0
def m_soS (F : xF) (node so : Int32) : xF := if m_isJoint F node = 0 then F else fS F 3 (ix node) (so &&& 3)
def m_soR (F : xF) (node : Int32) : Int32 := if m_isJoint F node = 0 then -1 else 0
def m_tuS (F : xF) (node : Int32) : xF := if m_isJoint F node = 0 then F else fS (fS F 4 (ix node) (F 5 (ix node))) 5 (ix node) (F 4 (ix node))
def m_lR (F : xF) (node : Int32) : Int32 := if m_isJoint F node = 0 then -1 else F 4 (ix node)
def m_rR (F : xF) (node : Int32) : Int32 := if m_isJoint F node = 0 then -1 else F 5 (ix node)
/-- evaluate -/
def m_kn (F : xF) (k : Nat) : Int32 := if F 0 k = 0 then 0 else if F 1 k = 0 then 1 else 0
theorem m_kn_b (F : xF) (k : Nat) : vp_nar .boolean (m_kn F k) = m_kn F k := by
  unfold m_kn
  split
  · rfl
  · split <;> rfl
def m_eiB (k : Nat) (F : xF) : xF := fS (fS F 6 k (m_kn F k)) 7 k (F 2 k)
def m_enB (k : Nat) (F : xF) : xF := if F 0 k = 0 then F else if F 1 k = 0 then F else if F 6 (ix (F 4 k)) = 0 then F else if F 6 (ix (F 5 k)) = 0 then F else fS (fS F 7 k (p_calc (F 3 k) (F 7 (ix (F 4 k))) (F 7 (ix (F 5 k))))) 6 k 1
def m_er (F : xF) : xF := lpN m_enB 31 F
def m_ev (F : xF) : xF := lpN (fun _ F => m_er F) 31 (lpN m_eiB 31 F)
theorem m_ei_keep (F : xF) (j a : Nat) (h : a ≠ 6 ∧ a ≠ 7) : lpN m_eiB j F a = F a := by
  induction j with
  | zero => rfl
  | succ j ih =>
    rw [lpN_succ]
    simp only [m_eiB, fS, if_neg h.1, if_neg h.2]
    exact ih
theorem m_en_keep (F : xF) (j a : Nat) (h : a ≠ 6 ∧ a ≠ 7) : lpN m_enB j F a = F a := by
  induction j with
  | zero => rfl
  | succ j ih =>
    rw [lpN_succ]
    unfold m_enB
    split
    · exact ih
    · split
      · exact ih
      · split
        · exact ih
        · split
          · exact ih
          · simp only [fS, if_neg h.1, if_neg h.2]
            exact ih
theorem m_er_keep (F : xF) (j a : Nat) (h : a ≠ 6 ∧ a ≠ 7) : lpN (fun _ F => m_er F) j F a = F a := by
  induction j with
  | zero => rfl
  | succ j ih =>
    rw [lpN_succ]
    unfold m_er at ih ⊢
    rw [m_en_keep _ _ _ h]
    exact ih
theorem m_ev_keep (F : xF) (a : Nat) (h : a ≠ 6 ∧ a ≠ 7) : m_ev F a = F a := by
  unfold m_ev
  rw [m_er_keep _ _ _ h, m_ei_keep _ _ _ h]
def okEv (F : xF) : Prop := ∀ n, n < 31 → ¬ F 0 n = 0 → ¬ F 1 n = 0 → vp_in (F 4 n) 31 ∧ vp_in (F 5 n) 31
theorem okEv_of {F F' : xF} (h : okEv F) (h0 : F' 0 = F 0) (h1 : F' 1 = F 1) (h4 : F' 4 = F 4) (h5 : F' 5 = F 5) : okEv F' := by
  unfold okEv
  rw [h0, h1, h4, h5]
  exact h
/-- value, slope -/
def m_vaF (F : xF) (node : Int32) : xF := if m_isLeaf F node = 0 then (if m_isJoint F node = 0 then F else m_ev F) else m_ev F
def m_vaR (F : xF) (node : Int32) : Int32 := if m_isLeaf F node = 0 then (if m_isJoint F node = 0 then 0 else m_ev F 7 (ix node)) else m_ev F 7 (ix node)
theorem m_va_keep (F : xF) (node : Int32) (a : Nat) (h : a ≠ 6 ∧ a ≠ 7) : m_vaF F node a = F a := by
  unfold m_vaF
  split
  · split
    · rfl
    · exact m_ev_keep F a h
  · exact m_ev_keep F a h
def m_sl1 (F : xF) (node : Int32) : xF := fS (m_vaF F 0) 2 (ix node) (m_vaF F 0 2 (ix node) + 1)
def m_sl2 (F : xF) (node : Int32) : xF := fS (m_vaF (m_sl1 F node) 0) 2 (ix node) (m_vaF (m_sl1 F node) 0 2 (ix node) - 1)
def m_slS (F : xF) (node : Int32) : xF := if m_isLeaf F node = 0 then F else m_sl2 F node
def m_slR (F : xF) (node : Int32) : Int32 := if m_isLeaf F node = 0 then 0 else m_vaR (m_sl1 F node) 0 - m_vaR F 0
theorem okEv_va {F : xF} (node : Int32) (h : okEv F) : okEv (m_vaF F node) := okEv_of h (m_va_keep F node 0 (by decide)) (m_va_keep F node 1 (by decide)) (m_va_keep F node 4 (by decide)) (m_va_keep F node 5 (by decide))
theorem okEv_sl1 {F : xF} (node : Int32) (h : okEv F) : okEv (m_sl1 F node) := okEv_of (okEv_va 0 h) rfl rfl rfl rfl
def m_jc (F : xF) : Nat → Nat
  | 0 => 0
  | k + 1 => if m_isJoint F (nI k) = 0 then m_jc F k else m_jc F k + 1
theorem m_jc_le (F : xF) (k : Nat) : m_jc F k ≤ k := by
  induction k with
  | zero => exact Nat.le_refl _
  | succ k ih => unfold m_jc; split <;> omega
end
section
set_option maxRecDepth 100000
set_option maxHeartbeats 400000
theorem mm_isLeaf (l : Launch) (D : va_G) (cA : Nat → ClassId) (o : Nat) (h : Nat → Nat) (F : xF) (G : xG) (n : Int32) : tmMi l yX1_isLeaf cX1_isLeaf 2 (some .boolean) (rmL 0) D cA o h [.ref o, .int n] F G (m_isLeaf F n) F G := by
  refine tm_ofi (by decide) rfl (Nat.le_of_ble_eq_true rfl) ?_
  intro p e s m below meth c A ls C T hr hlk hl
  have hx := C.1
  have hb := C.2.1
  have hl : lv_has ls 2 [(0, .ref o), (1, .int n)] := hl
  refine lv_iload_n hx hb dX1_isLeaf_0 rfl (lv_at hl 1 rfl) ?_
  refine lv_if_lt (tgt := 32) hx hb dX1_isLeaf_1 (by decide) (fun c1 => ?_) (fun c1 => ?_)
  · refine lv_iconst (v := 0) hx hb dX1_isLeaf_32 (by decide) ?_
    exact tm_zret C T hr hlk (by decide) (by simp [m_isLeaf, c1]) rfl dX1_isLeaf_33
  · refine lv_iload_n hx hb dX1_isLeaf_4 rfl (lv_at hl 1 rfl) ?_
    refine lv_bipush (v := 31) hx hb dX1_isLeaf_5 (by decide) ?_
    refine lv_icmp_ge (tgt := 32) hx hb dX1_isLeaf_7 (by decide) (fun c7 => ?_) (fun c7 => ?_)
    · refine lv_iconst (v := 0) hx hb dX1_isLeaf_32 (by decide) ?_
      exact tm_zret C T hr hlk (by decide) (by simp [m_isLeaf, c1, c7]) rfl dX1_isLeaf_33
    · refine lv_aload_n hx hb dX1_isLeaf_10 rfl (lv_at hl 0 rfl) ?_
      refine tm_get C T 0 (by decide) tml0 rfl (v := .ref (h 0)) rfl dX1_isLeaf_11 ?_
      refine lv_iload_n hx hb dX1_isLeaf_14 rfl (lv_at hl 1 rfl) ?_
      refine tm_zald C T 0 _ _ _ tma0 tmt0 (tx_in31 c1 c7) (v := F 0 (ix n)) rfl dX1_isLeaf_15 ?_
      refine lv_if_eq (tgt := 32) hx hb dX1_isLeaf_16 (by decide) (fun c16 => ?_) (fun c16 => ?_)
      · refine lv_iconst (v := 0) hx hb dX1_isLeaf_32 (by decide) ?_
        exact tm_zret C T hr hlk (by decide) (by simp [m_isLeaf, c1, c7, c16]) rfl dX1_isLeaf_33
      · refine lv_aload_n hx hb dX1_isLeaf_19 rfl (lv_at hl 0 rfl) ?_
        refine tm_get C T 1 (by decide) tml1 rfl (v := .ref (h 1)) rfl dX1_isLeaf_20 ?_
        refine lv_iload_n hx hb dX1_isLeaf_23 rfl (lv_at hl 1 rfl) ?_
        refine tm_zald C T 1 _ _ _ tma1 tmt1 (tx_in31 c1 c7) (v := F 1 (ix n)) rfl dX1_isLeaf_24 ?_
        refine lv_if_ne (tgt := 32) hx hb dX1_isLeaf_25 (by decide) (fun c25 => ?_) (fun c25 => ?_)
        · refine lv_iconst (v := 0) hx hb dX1_isLeaf_32 (by decide) ?_
          exact tm_zret C T hr hlk (by decide) (by simp [m_isLeaf, c1, c7, c16, c25]) rfl dX1_isLeaf_33
        · refine lv_iconst (v := 1) hx hb dX1_isLeaf_28 (by decide) ?_
          refine lv_goto (tgt := 33) hx hb dX1_isLeaf_29 (by decide) ?_
          exact tm_zret C T hr hlk (by decide) (by simp [m_isLeaf, c1, c7, c16, c25]) rfl dX1_isLeaf_33
theorem mm_isJoint (l : Launch) (D : va_G) (cA : Nat → ClassId) (o : Nat) (h : Nat → Nat) (F : xF) (G : xG) (n : Int32) : tmMi l yX1_isJoint cX1_isJoint 2 (some .boolean) (rmL 0) D cA o h [.ref o, .int n] F G (m_isJoint F n) F G := by
  refine tm_ofi (by decide) rfl (Nat.le_of_ble_eq_true rfl) ?_
  intro p e s m below meth c A ls C T hr hlk hl
  have hx := C.1
  have hb := C.2.1
  have hl : lv_has ls 2 [(0, .ref o), (1, .int n)] := hl
  refine lv_iload_n hx hb dX1_isJoint_0 rfl (lv_at hl 1 rfl) ?_
  refine lv_if_lt (tgt := 32) hx hb dX1_isJoint_1 (by decide) (fun c1 => ?_) (fun c1 => ?_)
  · refine lv_iconst (v := 0) hx hb dX1_isJoint_32 (by decide) ?_
    exact tm_zret C T hr hlk (by decide) (by simp [m_isJoint, c1]) rfl dX1_isJoint_33
  · refine lv_iload_n hx hb dX1_isJoint_4 rfl (lv_at hl 1 rfl) ?_
    refine lv_bipush (v := 31) hx hb dX1_isJoint_5 (by decide) ?_
    refine lv_icmp_ge (tgt := 32) hx hb dX1_isJoint_7 (by decide) (fun c7 => ?_) (fun c7 => ?_)
    · refine lv_iconst (v := 0) hx hb dX1_isJoint_32 (by decide) ?_
      exact tm_zret C T hr hlk (by decide) (by simp [m_isJoint, c1, c7]) rfl dX1_isJoint_33
    · refine lv_aload_n hx hb dX1_isJoint_10 rfl (lv_at hl 0 rfl) ?_
      refine tm_get C T 0 (by decide) tml0 rfl (v := .ref (h 0)) rfl dX1_isJoint_11 ?_
      refine lv_iload_n hx hb dX1_isJoint_14 rfl (lv_at hl 1 rfl) ?_
      refine tm_zald C T 0 _ _ _ tma0 tmt0 (tx_in31 c1 c7) (v := F 0 (ix n)) rfl dX1_isJoint_15 ?_
      refine lv_if_eq (tgt := 32) hx hb dX1_isJoint_16 (by decide) (fun c16 => ?_) (fun c16 => ?_)
      · refine lv_iconst (v := 0) hx hb dX1_isJoint_32 (by decide) ?_
        exact tm_zret C T hr hlk (by decide) (by simp [m_isJoint, c1, c7, c16]) rfl dX1_isJoint_33
      · refine lv_aload_n hx hb dX1_isJoint_19 rfl (lv_at hl 0 rfl) ?_
        refine tm_get C T 1 (by decide) tml1 rfl (v := .ref (h 1)) rfl dX1_isJoint_20 ?_
        refine lv_iload_n hx hb dX1_isJoint_23 rfl (lv_at hl 1 rfl) ?_
        refine tm_zald C T 1 _ _ _ tma1 tmt1 (tx_in31 c1 c7) (v := F 1 (ix n)) rfl dX1_isJoint_24 ?_
        refine lv_if_eq (tgt := 32) hx hb dX1_isJoint_25 (by decide) (fun c25 => ?_) (fun c25 => ?_)
        · refine lv_iconst (v := 0) hx hb dX1_isJoint_32 (by decide) ?_
          exact tm_zret C T hr hlk (by decide) (by simp [m_isJoint, c1, c7, c16, c25]) rfl dX1_isJoint_33
        · refine lv_iconst (v := 1) hx hb dX1_isJoint_28 (by decide) ?_
          refine lv_goto (tgt := 33) hx hb dX1_isJoint_29 (by decide) ?_
          exact tm_zret C T hr hlk (by decide) (by simp [m_isJoint, c1, c7, c16, c25]) rfl dX1_isJoint_33
theorem mm_leaf (l : Launch) (D : va_G) (cA : Nat → ClassId) (o : Nat) (h : Nat → Nat) (F : xF) (G : xG) (v : Int32) : tmMi l yX1_leaf cX1_leaf 3 (some .int) (rmL 0) D cA o h [.ref o, .int v] F G (m_leafR F) (m_leafF F v) G := by
  refine tm_ofi (by decide) rfl (Nat.le_of_ble_eq_true rfl) ?_
  intro p e s m below meth c A ls C T hr hlk hl
  have hx := C.1
  have hb := C.2.1
  have hl : lv_has ls 3 [(0, .ref o), (1, .int v)] := hl
  refine lv_iconst (v := 0) hx hb dX1_leaf_0 (by decide) ?_
  refine lv_istore_n (lv' := [(2, .int (0 : Int32)), (0, .ref o), (1, .int v)]) hx hb dX1_leaf_1 rfl hl (by decide) rfl (fun ls hl => ?_)
  refine lx_loop (pc := 2) (fun n ls H locs => ∃ (j : Nat), (j + n = 32) ∧ (j ≤ 31) ∧ (m_free (F 0) 31 0 = m_free (F 0) (31 - j) j) ∧ tmT D cA o h A s.heap F G H locs ∧ lv_has ls 3 [(2, .int (nI j)), (1, .int v), (0, .ref o)]) ?_ ?_ (32) ?_
  · rintro ls H locs ⟨j, h1, h2, h3, T, hl⟩
    omega
  · rintro n ih2 ls H locs ⟨j, h1, h2, h3, T, hl⟩
    refine lv_iload_n hx hb dX1_leaf_2 rfl (lv_at hl 0 rfl) ?_
    refine lv_bipush (v := 31) hx hb dX1_leaf_3 (by decide) ?_
    refine lv_icmp_ge (tgt := 46) hx hb dX1_leaf_5 (by decide) (fun c5 => ?_) (fun c5 => ?_)
    · have c5 := (nI_leI (a := 31) (b := j) (by omega) (by omega)).mp c5
      have h4 : m_free (F 0) 31 0 = none := by rw [h3, show 31 - j = 0 by omega]; rfl
      refine lv_iconst (v := -1) hx hb dX1_leaf_46 (by decide) ?_
      exact tm_iret C T hr hlk (by unfold m_leafR; rw [h4]; rfl) (by unfold m_leafF; rw [h4]; rfl) dX1_leaf_47
    · have c5 : ¬ 31 ≤ j := fun hq_ => c5 ((nI_leI (a := 31) (b := j) (by omega) (by omega)).mpr hq_)
      refine lv_aload_n hx hb dX1_leaf_8 rfl (lv_at hl 2 rfl) ?_
      refine tm_get C T 0 (by decide) tml0 rfl (v := .ref (h 0)) rfl dX1_leaf_9 ?_
      refine lv_iload_n hx hb dX1_leaf_12 rfl (lv_at hl 0 rfl) ?_
      refine tm_zaldN C T 0 _ _ _ tma0 tmt0 (by decide) (by omega) (v := F 0 j) rfl dX1_leaf_13 ?_
      refine lv_if_ne (tgt := 40) hx hb dX1_leaf_14 (by decide) (fun c14 => ?_) (fun c14 => ?_)
      · refine lv_iinc (v := nI (j + 1)) (lv' := [(2, .int (nI (j + 1))), (1, .int v), (0, .ref o)]) hx hb dX1_leaf_40 hl (k := 0) rfl (tx_inc1 j) (by decide) rfl (fun ls hl => ?_)
        refine lv_goto (tgt := 2) hx hb dX1_leaf_43 (by decide) ?_
        refine ih2 _ _ _ ⟨j + 1, by omega, by omega, ?_, T, lv_sub hl [0, 1, 2] rfl⟩
        rw [h3, show 31 - j = 31 - (j + 1) + 1 by omega]
        simp [m_free, c14]
      · have h4 : m_free (F 0) 31 0 = some j := by rw [h3, show 31 - j = 31 - (j + 1) + 1 by omega]; simp [m_free, c14]
        refine lv_aload_n hx hb dX1_leaf_17 rfl (lv_at hl 2 rfl) ?_
        refine tm_get C T 0 (by decide) tml0 rfl (v := .ref (h 0)) rfl dX1_leaf_18 ?_
        refine lv_iload_n hx hb dX1_leaf_21 rfl (lv_at hl 0 rfl) ?_
        refine lv_iconst (v := 1) hx hb dX1_leaf_22 (by decide) ?_
        refine tm_zastN C T 0 _ _ _ tma0 tmt0 (by decide) (by decide) (by omega) tms0 dX1_leaf_23 (fun H locs T => ?_)
        refine lv_aload_n hx hb dX1_leaf_24 rfl (lv_at hl 2 rfl) ?_
        refine tm_get C T 1 (by decide) tml1 rfl (v := .ref (h 1)) rfl dX1_leaf_25 ?_
        refine lv_iload_n hx hb dX1_leaf_28 rfl (lv_at hl 0 rfl) ?_
        refine lv_iconst (v := 0) hx hb dX1_leaf_29 (by decide) ?_
        refine tm_zastN C T 1 _ _ _ tma1 tmt1 (by decide) (by decide) (by omega) tms1 dX1_leaf_30 (fun H locs T => ?_)
        refine lv_aload_n hx hb dX1_leaf_31 rfl (lv_at hl 2 rfl) ?_
        refine tm_get C T 2 (by decide) tml2 rfl (v := .ref (h 2)) rfl dX1_leaf_32 ?_
        refine lv_iload_n hx hb dX1_leaf_35 rfl (lv_at hl 0 rfl) ?_
        refine lv_iload_n hx hb dX1_leaf_36 rfl (lv_at hl 1 rfl) ?_
        refine tm_iastN C T 2 _ _ _ tma2 tmt2 (by decide) (by omega) tms2 dX1_leaf_37 (fun H locs T => ?_)
        refine lv_iload_n hx hb dX1_leaf_38 rfl (lv_at hl 0 rfl) ?_
        exact tm_iret C T hr hlk (by unfold m_leafR; rw [h4]; rfl) (by unfold m_leafF; rw [h4]; rfl) dX1_leaf_39
  · exact ⟨0, rfl, by decide, rfl, T, lv_sub hl [0, 2, 1] rfl⟩
theorem mm_nodes (l : Launch) (D : va_G) (cA : Nat → ClassId) (o : Nat) (h : Nat → Nat) (F : xF) (G : xG)  : tmMi l yX1_nodes cX1_nodes 3 (some .int) (rmL 0) D cA o h [.ref o] F G (nI (m_cnt (F 0) 31)) F G := by
  refine tm_ofi (by decide) rfl (Nat.le_of_ble_eq_true rfl) ?_
  intro p e s m below meth c A ls C T hr hlk hl
  have hx := C.1
  have hb := C.2.1
  have hl : lv_has ls 3 [(0, .ref o)] := hl
  refine lv_iconst (v := 0) hx hb dX1_nodes_0 (by decide) ?_
  refine lv_istore_n (lv' := [(1, .int (0 : Int32)), (0, .ref o)]) hx hb dX1_nodes_1 rfl hl (by decide) rfl (fun ls hl => ?_)
  refine lv_iconst (v := 0) hx hb dX1_nodes_2 (by decide) ?_
  refine lv_istore_n (lv' := [(2, .int (0 : Int32)), (1, .int (0 : Int32)), (0, .ref o)]) hx hb dX1_nodes_3 rfl hl (by decide) rfl (fun ls hl => ?_)
  refine lx_loop (pc := 4) (fun n ls H locs => ∃ (j : Nat), (j + n = 32) ∧ (j ≤ 31) ∧ tmT D cA o h A s.heap F G H locs ∧ lv_has ls 3 [(2, .int (nI j)), (1, .int (nI (m_cnt (F 0) j))), (0, .ref o)]) ?_ ?_ (32) ?_
  · rintro ls H locs ⟨j, h1, h2, T, hl⟩
    omega
  · rintro n ih4 ls H locs ⟨j, h1, h2, T, hl⟩
    refine lv_iload_n hx hb dX1_nodes_4 rfl (lv_at hl 0 rfl) ?_
    refine lv_bipush (v := 31) hx hb dX1_nodes_5 (by decide) ?_
    refine lv_icmp_ge (tgt := 28) hx hb dX1_nodes_7 (by decide) (fun c7 => ?_) (fun c7 => ?_)
    · have c7 := (nI_leI (a := 31) (b := j) (by omega) (by omega)).mp c7
      refine lv_iload_n hx hb dX1_nodes_28 rfl (lv_at hl 1 rfl) ?_
      exact tm_iret C T hr hlk (by rw [show j = 31 by omega]) rfl dX1_nodes_29
    · have c7 : ¬ 31 ≤ j := fun hq_ => c7 ((nI_leI (a := 31) (b := j) (by omega) (by omega)).mpr hq_)
      refine lv_aload_n hx hb dX1_nodes_10 rfl (lv_at hl 2 rfl) ?_
      refine tm_get C T 0 (by decide) tml0 rfl (v := .ref (h 0)) rfl dX1_nodes_11 ?_
      refine lv_iload_n hx hb dX1_nodes_14 rfl (lv_at hl 0 rfl) ?_
      refine tm_zaldN C T 0 _ _ _ tma0 tmt0 (by decide) (by omega) (v := F 0 j) rfl dX1_nodes_15 ?_
      refine lv_if_eq (tgt := 22) hx hb dX1_nodes_16 (by decide) (fun c16 => ?_) (fun c16 => ?_)
      · refine lv_iinc (v := nI (j + 1)) (lv' := [(2, .int (nI (j + 1))), (1, .int (nI (m_cnt (F 0) j))), (0, .ref o)]) hx hb dX1_nodes_22 hl (k := 0) rfl (tx_inc1 j) (by decide) rfl (fun ls hl => ?_)
        refine lv_goto (tgt := 4) hx hb dX1_nodes_25 (by decide) ?_
        have e1 : m_cnt (F 0) (j + 1) = _ := if_pos c16
        refine ih4 _ _ _ ⟨j + 1, by omega, by omega, T, ?_⟩
        rw [e1]
        exact lv_sub hl [0, 1, 2] rfl
      · refine lv_iinc (v := nI ((m_cnt (F 0) j) + 1)) (lv' := [(1, .int (nI ((m_cnt (F 0) j) + 1))), (2, .int (nI j)), (0, .ref o)]) hx hb dX1_nodes_19 hl (k := 1) rfl (tx_inc1 (m_cnt (F 0) j)) (by decide) rfl (fun ls hl => ?_)
        refine lv_iinc (v := nI (j + 1)) (lv' := [(2, .int (nI (j + 1))), (1, .int (nI ((m_cnt (F 0) j) + 1))), (0, .ref o)]) hx hb dX1_nodes_22 hl (k := 1) rfl (tx_inc1 j) (by decide) rfl (fun ls hl => ?_)
        refine lv_goto (tgt := 4) hx hb dX1_nodes_25 (by decide) ?_
        have e1 : m_cnt (F 0) (j + 1) = _ := if_neg c16
        refine ih4 _ _ _ ⟨j + 1, by omega, by omega, T, ?_⟩
        rw [e1]
        exact lv_sub hl [0, 1, 2] rfl
  · exact ⟨0, rfl, by decide, T, lv_sub hl [0, 1, 2] rfl⟩
theorem mm_worked (l : Launch) (D : va_G) (cA : Nat → ClassId) (o : Nat) (h : Nat → Nat) (F : xF) (G : xG) (q a b : Int32) : tmMi l yX1_worked cX1_worked 3 (some .int) (rmL 0) D cA o h [.int q, .int a, .int b] F G (p_calc q a b) F G := by
  refine tm_ofi (by decide) rfl (Nat.le_of_ble_eq_true rfl) ?_
  intro p e s m below meth c A ls C T hr hlk hl
  have hx := C.1
  have hb := C.2.1
  have hl : lv_has ls 3 [(0, .int q), (1, .int a), (2, .int b)] := hl
  refine lv_iload_n hx hb dX1_worked_0 rfl (lv_at hl 0 rfl) ?_
  refine lv_if_ne (tgt := 8) hx hb dX1_worked_1 (by decide) (fun c1 => ?_) (fun c1 => ?_)
  · refine lv_iload_n hx hb dX1_worked_8 rfl (lv_at hl 0 rfl) ?_
    refine lv_iconst (v := 1) hx hb dX1_worked_9 (by decide) ?_
    refine lv_icmp_ne (tgt := 17) hx hb dX1_worked_10 (by decide) (fun c10 => ?_) (fun c10 => ?_)
    · refine lv_iload_n hx hb dX1_worked_17 rfl (lv_at hl 0 rfl) ?_
      refine lv_iconst (v := 2) hx hb dX1_worked_18 (by decide) ?_
      refine lv_icmp_ne (tgt := 28) hx hb dX1_worked_19 (by decide) (fun c19 => ?_) (fun c19 => ?_)
      · refine lv_iload_n hx hb dX1_worked_28 rfl (lv_at hl 2 rfl) ?_
        refine lv_iload_n hx hb dX1_worked_29 rfl (lv_at hl 1 rfl) ?_
        refine lv_isub hx hb dX1_worked_30 ?_
        exact tm_iret C T hr hlk (by simp [p_calc, c1, c10, c19]) rfl dX1_worked_31
      · refine lv_iload_n hx hb dX1_worked_22 rfl (lv_at hl 1 rfl) ?_
        refine lv_iload_n hx hb dX1_worked_23 rfl (lv_at hl 2 rfl) ?_
        refine lv_isub hx hb dX1_worked_24 ?_
        refine lv_goto (tgt := 31) hx hb dX1_worked_25 (by decide) ?_
        exact tm_iret C T hr hlk (by simp [p_calc, c1, c10, c19]) rfl dX1_worked_31
    · refine lv_iload_n hx hb dX1_worked_13 rfl (lv_at hl 1 rfl) ?_
      refine lv_iload_n hx hb dX1_worked_14 rfl (lv_at hl 2 rfl) ?_
      refine lv_imul hx hb dX1_worked_15 ?_
      exact tm_iret C T hr hlk (by simp [p_calc, c1, c10]) rfl dX1_worked_16
  · refine lv_iload_n hx hb dX1_worked_4 rfl (lv_at hl 1 rfl) ?_
    refine lv_iload_n hx hb dX1_worked_5 rfl (lv_at hl 2 rfl) ?_
    refine lv_iadd hx hb dX1_worked_6 ?_
    exact tm_iret C T hr hlk (by simp [p_calc, c1]) rfl dX1_worked_7
theorem mm_joints (l : Launch) (D : va_G) (cA : Nat → ClassId) (o : Nat) (h : Nat → Nat) (F : xF) (G : xG)  : tmMi l yX1_joints cX1_joints 3 (some .int) (rmL 1) D cA o h [.ref o] F G (nI (m_jc F 31)) F G := by
  refine tm_ofi (by decide) rfl (Nat.le_of_ble_eq_true rfl) ?_
  intro p e s m below meth c A ls C T hr hlk hl
  have hx := C.1
  have hb := C.2.1
  have hl : lv_has ls 3 [(0, .ref o)] := hl
  refine lv_iconst (v := 0) hx hb dX1_joints_0 (by decide) ?_
  refine lv_istore_n (lv' := [(1, .int (0 : Int32)), (0, .ref o)]) hx hb dX1_joints_1 rfl hl (by decide) rfl (fun ls hl => ?_)
  refine lv_iconst (v := 0) hx hb dX1_joints_2 (by decide) ?_
  refine lv_istore_n (lv' := [(2, .int (0 : Int32)), (1, .int (0 : Int32)), (0, .ref o)]) hx hb dX1_joints_3 rfl hl (by decide) rfl (fun ls hl => ?_)
  refine lx_loop (pc := 4) (fun n ls H locs => ∃ (j : Nat), (j + n = 32) ∧ (j ≤ 31) ∧ tmT D cA o h A s.heap F G H locs ∧ lv_has ls 3 [(2, .int (nI j)), (1, .int (nI (m_jc F j))), (0, .ref o)]) ?_ ?_ (32) ?_
  · rintro ls H locs ⟨j, h1, h2, T, hl⟩
    omega
  · rintro n ih4 ls H locs ⟨j, h1, h2, T, hl⟩
    refine lv_iload_n hx hb dX1_joints_4 rfl (lv_at hl 0 rfl) ?_
    refine lv_bipush (v := 31) hx hb dX1_joints_5 (by decide) ?_
    refine lv_icmp_ge (tgt := 27) hx hb dX1_joints_7 (by decide) (fun c7 => ?_) (fun c7 => ?_)
    · have c7 := (nI_leI (a := 31) (b := j) (by omega) (by omega)).mp c7
      refine lv_iload_n hx hb dX1_joints_27 rfl (lv_at hl 1 rfl) ?_
      exact tm_iret C T hr hlk (by rw [show j = 31 by omega]) rfl dX1_joints_28
    · have c7 : ¬ 31 ≤ j := fun hq_ => c7 ((nI_leI (a := 31) (b := j) (by omega) (by omega)).mpr hq_)
      refine lv_aload_n hx hb dX1_joints_10 rfl (lv_at hl 2 rfl) ?_
      refine lv_iload_n hx hb dX1_joints_11 rfl (lv_at hl 0 rfl) ?_
      refine tm_calli C T (n := 1) (As := [.int (nI j)]) (rest := []) (mm_isJoint l D cA o h F G (nI j)) q277 q279 qs16 q280 rfl rfl (by decide +kernel) (by decide) rfl hl.1 (Nat.le_of_ble_eq_true rfl) (by decide) rfl dX1_joints_12 (fun H locs T => ?_)
      refine lv_if_eq (tgt := 21) hx hb dX1_joints_15 (by decide) (fun c15 => ?_) (fun c15 => ?_)
      · refine lv_iinc (v := nI (j + 1)) (lv' := [(2, .int (nI (j + 1))), (1, .int (nI (m_jc F j))), (0, .ref o)]) hx hb dX1_joints_21 hl (k := 0) rfl (tx_inc1 j) (by decide) rfl (fun ls hl => ?_)
        refine lv_goto (tgt := 4) hx hb dX1_joints_24 (by decide) ?_
        have e1 : m_jc F (j + 1) = _ := if_pos c15
        refine ih4 _ _ _ ⟨j + 1, by omega, by omega, T, ?_⟩
        rw [e1]
        exact lv_sub hl [0, 1, 2] rfl
      · refine lv_iinc (v := nI ((m_jc F j) + 1)) (lv' := [(1, .int (nI ((m_jc F j) + 1))), (2, .int (nI j)), (0, .ref o)]) hx hb dX1_joints_18 hl (k := 1) rfl (tx_inc1 (m_jc F j)) (by decide) rfl (fun ls hl => ?_)
        refine lv_iinc (v := nI (j + 1)) (lv' := [(2, .int (nI (j + 1))), (1, .int (nI ((m_jc F j) + 1))), (0, .ref o)]) hx hb dX1_joints_21 hl (k := 1) rfl (tx_inc1 j) (by decide) rfl (fun ls hl => ?_)
        refine lv_goto (tgt := 4) hx hb dX1_joints_24 (by decide) ?_
        have e1 : m_jc F (j + 1) = _ := if_neg c15
        refine ih4 _ _ _ ⟨j + 1, by omega, by omega, T, ?_⟩
        rw [e1]
        exact lv_sub hl [0, 1, 2] rfl
  · exact ⟨0, rfl, by decide, T, lv_sub hl [0, 1, 2] rfl⟩
theorem mm_grow (l : Launch) (D : va_G) (cA : Nat → ClassId) (o : Nat) (h : Nat → Nat) (F : xF) (G : xG) (node so a b : Int32) : tmMi l yX1_grow cX1_grow 5 (some .int) (rmL 1) D cA o h [.ref o, .int node, .int so, .int a, .int b] F G (m_grR F node so a b) (m_grS F node so a b) G := by
  refine tm_ofi (by decide) rfl (Nat.le_of_ble_eq_true rfl) ?_
  intro p e s m below meth c A ls C T hr hlk hl
  have hx := C.1
  have hb := C.2.1
  have hl : lv_has ls 5 [(0, .ref o), (1, .int node), (2, .int so), (3, .int a), (4, .int b)] := hl
  refine lv_aload_n hx hb dX1_grow_0 rfl (lv_at hl 0 rfl) ?_
  refine lv_iload_n hx hb dX1_grow_1 rfl (lv_at hl 1 rfl) ?_
  refine tm_calli C T (n := 1) (As := [.int node]) (rest := []) (mm_isLeaf l D cA o h F G node) q261 q263 qs13 q264 rfl rfl (by decide +kernel) (by decide) rfl hl.1 (Nat.le_of_ble_eq_true rfl) (by decide) rfl dX1_grow_2 (fun H locs T => ?_)
  refine lv_if_eq (tgt := 17) hx hb dX1_grow_5 (by decide) (fun c5 => ?_) (fun c5 => ?_)
  · refine lv_iconst (v := -1) hx hb dX1_grow_17 (by decide) ?_
    exact tm_iret C T hr hlk (by simp [m_grR, c5]) (by simp [m_grS, c5]) dX1_grow_18
  · have hin := m_isLeaf_in c5
    refine lv_aload_n hx hb dX1_grow_8 rfl (lv_at hl 0 rfl) ?_
    refine tm_calli C T (n := 0) (As := []) (rest := []) (mm_nodes l D cA o h F G) q265 q267 qs14 q268 rfl rfl (by decide +kernel) (by decide) rfl hl.1 (Nat.le_of_ble_eq_true rfl) (by decide) rfl dX1_grow_9 (fun H locs T => ?_)
    refine lv_bipush (v := 29) hx hb dX1_grow_12 (by decide) ?_
    refine lv_icmp_le (tgt := 19) hx hb dX1_grow_14 (by decide) (fun c14 => ?_) (fun c14 => ?_)
    · refine lv_aload_n hx hb dX1_grow_19 rfl (lv_at hl 0 rfl) ?_
      refine tm_get C T 4 (by decide) tml4 rfl (v := .ref (h 4)) rfl dX1_grow_20 ?_
      refine lv_iload_n hx hb dX1_grow_23 rfl (lv_at hl 1 rfl) ?_
      refine lv_aload_n hx hb dX1_grow_24 rfl (lv_at hl 0 rfl) ?_
      refine lv_iload_n hx hb dX1_grow_25 rfl (lv_at hl 3 rfl) ?_
      refine tm_calli C T (n := 1) (As := [.int a]) (rest := [.int node, .ref (h 4)]) (mm_leaf l D cA o h F G a) q269 q271 qs15 q272 rfl rfl (by decide +kernel) (by decide) rfl hl.1 (Nat.le_of_ble_eq_true rfl) (by decide) rfl dX1_grow_26 (fun H locs T => ?_)
      refine tm_iast C T 4 _ _ _ tma4 tmt4 (by assumption) tms4 dX1_grow_29 (fun H locs T => ?_)
      refine lv_aload_n hx hb dX1_grow_30 rfl (lv_at hl 0 rfl) ?_
      refine tm_get C T 5 (by decide) tml5 rfl (v := .ref (h 5)) rfl dX1_grow_31 ?_
      refine lv_iload_n hx hb dX1_grow_34 rfl (lv_at hl 1 rfl) ?_
      refine lv_aload_n hx hb dX1_grow_35 rfl (lv_at hl 0 rfl) ?_
      refine lv_iload hx hb dX1_grow_36 (lv_at hl 4 rfl) ?_
      refine tm_calli C T (n := 1) (As := [.int b]) (rest := [.int node, .ref (h 5)]) (mm_leaf l D cA o h (fS (m_leafF F a) 4 (ix node) (m_leafR F)) G b) q269 q271 qs15 q272 rfl rfl (by decide +kernel) (by decide) rfl hl.1 (Nat.le_of_ble_eq_true rfl) (by decide) rfl dX1_grow_38 (fun H locs T => ?_)
      refine tm_iast C T 5 _ _ _ tma5 tmt5 (by assumption) tms5 dX1_grow_41 (fun H locs T => ?_)
      refine lv_aload_n hx hb dX1_grow_42 rfl (lv_at hl 0 rfl) ?_
      refine tm_get C T 1 (by decide) tml1 rfl (v := .ref (h 1)) rfl dX1_grow_43 ?_
      refine lv_iload_n hx hb dX1_grow_46 rfl (lv_at hl 1 rfl) ?_
      refine lv_iconst (v := 1) hx hb dX1_grow_47 (by decide) ?_
      refine tm_zast C T 1 _ _ _ tma1 tmt1 (by decide) (by assumption) tms1 dX1_grow_48 (fun H locs T => ?_)
      refine lv_aload_n hx hb dX1_grow_49 rfl (lv_at hl 0 rfl) ?_
      refine tm_get C T 3 (by decide) tml3 rfl (v := .ref (h 3)) rfl dX1_grow_50 ?_
      refine lv_iload_n hx hb dX1_grow_53 rfl (lv_at hl 1 rfl) ?_
      refine lv_iload_n hx hb dX1_grow_54 rfl (lv_at hl 2 rfl) ?_
      refine lv_iconst (v := 3) hx hb dX1_grow_55 (by decide) ?_
      refine lv_iand hx hb dX1_grow_56 ?_
      refine tm_iast C T 3 _ _ _ tma3 tmt3 (by assumption) tms3 dX1_grow_57 (fun H locs T => ?_)
      refine lv_aload_n hx hb dX1_grow_58 rfl (lv_at hl 0 rfl) ?_
      refine tm_get C T 4 (by decide) tml4 rfl (v := .ref (h 4)) rfl dX1_grow_59 ?_
      refine lv_iload_n hx hb dX1_grow_62 rfl (lv_at hl 1 rfl) ?_
      refine tm_iald C T 4 _ _ _ tma4 tmt4 (by assumption) (v := (m_leafF (fS (m_leafF F a) 4 (ix node) (m_leafR F)) b) 4 (ix node)) rfl dX1_grow_63 ?_
      exact tm_iret C T hr hlk (by rw [show m_grR F node so a b = _ from (if_neg c5).trans (if_pos c14)]; rfl) (by rw [show m_grS F node so a b = _ from (if_neg c5).trans (if_pos c14)]; rfl) dX1_grow_64
    · refine lv_iconst (v := -1) hx hb dX1_grow_17 (by decide) ?_
      exact tm_iret C T hr hlk (by simp [m_grR, c5, c14]) (by simp [m_grS, c5, c14]) dX1_grow_18
theorem mm_shrink (l : Launch) (D : va_G) (cA : Nat → ClassId) (o : Nat) (h : Nat → Nat) (F : xF) (G : xG) (node : Int32) : tmMi l yX1_shrink cX1_shrink 2 (some .int) (rmL 1) D cA o h [.ref o, .int node] F G (m_shR F node) (m_shS F node) G := by
  refine tm_ofi (by decide) rfl (Nat.le_of_ble_eq_true rfl) ?_
  intro p e s m below meth c A ls C T hr hlk hl
  have hx := C.1
  have hb := C.2.1
  have hl : lv_has ls 2 [(0, .ref o), (1, .int node)] := hl
  refine lv_aload_n hx hb dX1_shrink_0 rfl (lv_at hl 0 rfl) ?_
  refine lv_iload_n hx hb dX1_shrink_1 rfl (lv_at hl 1 rfl) ?_
  refine tm_calli C T (n := 1) (As := [.int node]) (rest := []) (mm_isJoint l D cA o h F G node) q277 q279 qs16 q280 rfl rfl (by decide +kernel) (by decide) rfl hl.1 (Nat.le_of_ble_eq_true rfl) (by decide) rfl dX1_shrink_2 (fun H locs T => ?_)
  refine lv_if_eq (tgt := 34) hx hb dX1_shrink_5 (by decide) (fun c5 => ?_) (fun c5 => ?_)
  · refine lv_iconst (v := -1) hx hb dX1_shrink_34 (by decide) ?_
    exact tm_iret C T hr hlk (by simp [m_shR, c5]) (by simp [m_shS, c5]) dX1_shrink_35
  · have hin := m_isJoint_in c5
    refine lv_aload_n hx hb dX1_shrink_8 rfl (lv_at hl 0 rfl) ?_
    refine lv_aload_n hx hb dX1_shrink_9 rfl (lv_at hl 0 rfl) ?_
    refine tm_get C T 4 (by decide) tml4 rfl (v := .ref (h 4)) rfl dX1_shrink_10 ?_
    refine lv_iload_n hx hb dX1_shrink_13 rfl (lv_at hl 1 rfl) ?_
    refine tm_iald C T 4 _ _ _ tma4 tmt4 (by assumption) (v := F 4 (ix node)) rfl dX1_shrink_14 ?_
    refine tm_calli C T (n := 1) (As := [.int (F 4 (ix node))]) (rest := []) (mm_isLeaf l D cA o h F G (F 4 (ix node))) q261 q263 qs13 q264 rfl rfl (by decide +kernel) (by decide) rfl hl.1 (Nat.le_of_ble_eq_true rfl) (by decide) rfl dX1_shrink_15 (fun H locs T => ?_)
    refine lv_if_eq (tgt := 34) hx hb dX1_shrink_18 (by decide) (fun c18 => ?_) (fun c18 => ?_)
    · refine lv_iconst (v := -1) hx hb dX1_shrink_34 (by decide) ?_
      exact tm_iret C T hr hlk (by simp [m_shR, c5, c18]) (by simp [m_shS, c5, c18]) dX1_shrink_35
    · have hi4 := m_isLeaf_in c18
      refine lv_aload_n hx hb dX1_shrink_21 rfl (lv_at hl 0 rfl) ?_
      refine lv_aload_n hx hb dX1_shrink_22 rfl (lv_at hl 0 rfl) ?_
      refine tm_get C T 5 (by decide) tml5 rfl (v := .ref (h 5)) rfl dX1_shrink_23 ?_
      refine lv_iload_n hx hb dX1_shrink_26 rfl (lv_at hl 1 rfl) ?_
      refine tm_iald C T 5 _ _ _ tma5 tmt5 (by assumption) (v := F 5 (ix node)) rfl dX1_shrink_27 ?_
      refine tm_calli C T (n := 1) (As := [.int (F 5 (ix node))]) (rest := []) (mm_isLeaf l D cA o h F G (F 5 (ix node))) q261 q263 qs13 q264 rfl rfl (by decide +kernel) (by decide) rfl hl.1 (Nat.le_of_ble_eq_true rfl) (by decide) rfl dX1_shrink_28 (fun H locs T => ?_)
      refine lv_if_ne (tgt := 36) hx hb dX1_shrink_31 (by decide) (fun c31 => ?_) (fun c31 => ?_)
      · have hi5 := m_isLeaf_in c31
        refine lv_aload_n hx hb dX1_shrink_36 rfl (lv_at hl 0 rfl) ?_
        refine tm_get C T 2 (by decide) tml2 rfl (v := .ref (h 2)) rfl dX1_shrink_37 ?_
        refine lv_iload_n hx hb dX1_shrink_40 rfl (lv_at hl 1 rfl) ?_
        refine lv_aload_n hx hb dX1_shrink_41 rfl (lv_at hl 0 rfl) ?_
        refine tm_get C T 3 (by decide) tml3 rfl (v := .ref (h 3)) rfl dX1_shrink_42 ?_
        refine lv_iload_n hx hb dX1_shrink_45 rfl (lv_at hl 1 rfl) ?_
        refine tm_iald C T 3 _ _ _ tma3 tmt3 (by assumption) (v := F 3 (ix node)) rfl dX1_shrink_46 ?_
        refine lv_aload_n hx hb dX1_shrink_47 rfl (lv_at hl 0 rfl) ?_
        refine tm_get C T 2 (by decide) tml2 rfl (v := .ref (h 2)) rfl dX1_shrink_48 ?_
        refine lv_aload_n hx hb dX1_shrink_51 rfl (lv_at hl 0 rfl) ?_
        refine tm_get C T 4 (by decide) tml4 rfl (v := .ref (h 4)) rfl dX1_shrink_52 ?_
        refine lv_iload_n hx hb dX1_shrink_55 rfl (lv_at hl 1 rfl) ?_
        refine tm_iald C T 4 _ _ _ tma4 tmt4 (by assumption) (v := F 4 (ix node)) rfl dX1_shrink_56 ?_
        refine tm_iald C T 2 _ _ _ tma2 tmt2 (by assumption) (v := F 2 (ix (F 4 (ix node)))) rfl dX1_shrink_57 ?_
        refine lv_aload_n hx hb dX1_shrink_58 rfl (lv_at hl 0 rfl) ?_
        refine tm_get C T 2 (by decide) tml2 rfl (v := .ref (h 2)) rfl dX1_shrink_59 ?_
        refine lv_aload_n hx hb dX1_shrink_62 rfl (lv_at hl 0 rfl) ?_
        refine tm_get C T 5 (by decide) tml5 rfl (v := .ref (h 5)) rfl dX1_shrink_63 ?_
        refine lv_iload_n hx hb dX1_shrink_66 rfl (lv_at hl 1 rfl) ?_
        refine tm_iald C T 5 _ _ _ tma5 tmt5 (by assumption) (v := F 5 (ix node)) rfl dX1_shrink_67 ?_
        refine tm_iald C T 2 _ _ _ tma2 tmt2 (by assumption) (v := F 2 (ix (F 5 (ix node)))) rfl dX1_shrink_68 ?_
        refine tm_scalli C T (n := 3) (As := [.int (F 3 (ix node)), .int (F 2 (ix (F 4 (ix node)))), .int (F 2 (ix (F 5 (ix node))))]) (rest := [.int node, .ref (h 2)]) (mm_worked l D cA o h F G (F 3 (ix node)) (F 2 (ix (F 4 (ix node)))) (F 2 (ix (F 5 (ix node))))) q281 q282 q283 rfl rfl (by decide +kernel) (by decide) rfl hl.1 (Nat.le_of_ble_eq_true rfl) (by decide) rfl dX1_shrink_69 (fun H locs T => ?_)
        refine tm_iast C T 2 _ _ _ tma2 tmt2 (by assumption) tms2 dX1_shrink_72 (fun H locs T => ?_)
        refine lv_aload_n hx hb dX1_shrink_73 rfl (lv_at hl 0 rfl) ?_
        refine tm_get C T 1 (by decide) tml1 rfl (v := .ref (h 1)) rfl dX1_shrink_74 ?_
        refine lv_iload_n hx hb dX1_shrink_77 rfl (lv_at hl 1 rfl) ?_
        refine lv_iconst (v := 0) hx hb dX1_shrink_78 (by decide) ?_
        refine tm_zast C T 1 _ _ _ tma1 tmt1 (by decide) (by assumption) tms1 dX1_shrink_79 (fun H locs T => ?_)
        refine lv_aload_n hx hb dX1_shrink_80 rfl (lv_at hl 0 rfl) ?_
        refine tm_get C T 0 (by decide) tml0 rfl (v := .ref (h 0)) rfl dX1_shrink_81 ?_
        refine lv_aload_n hx hb dX1_shrink_84 rfl (lv_at hl 0 rfl) ?_
        refine tm_get C T 4 (by decide) tml4 rfl (v := .ref (h 4)) rfl dX1_shrink_85 ?_
        refine lv_iload_n hx hb dX1_shrink_88 rfl (lv_at hl 1 rfl) ?_
        refine tm_iald C T 4 _ _ _ tma4 tmt4 (by assumption) (v := F 4 (ix node)) rfl dX1_shrink_89 ?_
        refine lv_iconst (v := 0) hx hb dX1_shrink_90 (by decide) ?_
        refine tm_zast C T 0 _ _ _ tma0 tmt0 (by decide) (by assumption) tms0 dX1_shrink_91 (fun H locs T => ?_)
        refine lv_aload_n hx hb dX1_shrink_92 rfl (lv_at hl 0 rfl) ?_
        refine tm_get C T 0 (by decide) tml0 rfl (v := .ref (h 0)) rfl dX1_shrink_93 ?_
        refine lv_aload_n hx hb dX1_shrink_96 rfl (lv_at hl 0 rfl) ?_
        refine tm_get C T 5 (by decide) tml5 rfl (v := .ref (h 5)) rfl dX1_shrink_97 ?_
        refine lv_iload_n hx hb dX1_shrink_100 rfl (lv_at hl 1 rfl) ?_
        refine tm_iald C T 5 _ _ _ tma5 tmt5 (by assumption) (v := F 5 (ix node)) rfl dX1_shrink_101 ?_
        refine lv_iconst (v := 0) hx hb dX1_shrink_102 (by decide) ?_
        refine tm_zast C T 0 _ _ _ tma0 tmt0 (by decide) (by assumption) tms0 dX1_shrink_103 (fun H locs T => ?_)
        refine lv_iconst (v := 0) hx hb dX1_shrink_104 (by decide) ?_
        exact tm_iret C T hr hlk (by simp [m_shR, c5, c18, c31]) (by rw [show m_shS F node = _ from (if_neg c5).trans ((if_neg c18).trans (if_neg c31))]; rfl) dX1_shrink_105
      · refine lv_iconst (v := -1) hx hb dX1_shrink_34 (by decide) ?_
        exact tm_iret C T hr hlk (by simp [m_shR, c5, c18, c31]) (by simp [m_shS, c5, c18, c31]) dX1_shrink_35
theorem mm_set (l : Launch) (D : va_G) (cA : Nat → ClassId) (o : Nat) (h : Nat → Nat) (F : xF) (G : xG) (node v : Int32) : tmMi l yX1_set cX1_set 3 (some .int) (rmL 1) D cA o h [.ref o, .int node, .int v] F G (m_seR F node) (m_seS F node v) G := by
  refine tm_ofi (by decide) rfl (Nat.le_of_ble_eq_true rfl) ?_
  intro p e s m below meth c A ls C T hr hlk hl
  have hx := C.1
  have hb := C.2.1
  have hl : lv_has ls 3 [(0, .ref o), (1, .int node), (2, .int v)] := hl
  refine lv_aload_n hx hb dX1_set_0 rfl (lv_at hl 0 rfl) ?_
  refine lv_iload_n hx hb dX1_set_1 rfl (lv_at hl 1 rfl) ?_
  refine tm_calli C T (n := 1) (As := [.int node]) (rest := []) (mm_isLeaf l D cA o h F G node) q261 q263 qs13 q264 rfl rfl (by decide +kernel) (by decide) rfl hl.1 (Nat.le_of_ble_eq_true rfl) (by decide) rfl dX1_set_2 (fun H locs T => ?_)
  refine lv_if_ne (tgt := 10) hx hb dX1_set_5 (by decide) (fun c5 => ?_) (fun c5 => ?_)
  · have hin := m_isLeaf_in c5
    refine lv_aload_n hx hb dX1_set_10 rfl (lv_at hl 0 rfl) ?_
    refine tm_get C T 2 (by decide) tml2 rfl (v := .ref (h 2)) rfl dX1_set_11 ?_
    refine lv_iload_n hx hb dX1_set_14 rfl (lv_at hl 1 rfl) ?_
    refine lv_iload_n hx hb dX1_set_15 rfl (lv_at hl 2 rfl) ?_
    refine tm_iast C T 2 _ _ _ tma2 tmt2 (by assumption) tms2 dX1_set_16 (fun H locs T => ?_)
    refine lv_iconst (v := 0) hx hb dX1_set_17 (by decide) ?_
    exact tm_iret C T hr hlk (by rw [show m_seR F node = _ from if_neg c5]) (by rw [show m_seS F node v = _ from if_neg c5]) dX1_set_18
  · refine lv_iconst (v := -1) hx hb dX1_set_8 (by decide) ?_
    exact tm_iret C T hr hlk (by rw [show m_seR F node = _ from if_pos c5]) (by rw [show m_seS F node v = _ from if_pos c5]) dX1_set_9
theorem mm_setSort (l : Launch) (D : va_G) (cA : Nat → ClassId) (o : Nat) (h : Nat → Nat) (F : xF) (G : xG) (node so : Int32) : tmMi l yX1_setSort cX1_setSort 3 (some .int) (rmL 1) D cA o h [.ref o, .int node, .int so] F G (m_soR F node) (m_soS F node so) G := by
  refine tm_ofi (by decide) rfl (Nat.le_of_ble_eq_true rfl) ?_
  intro p e s m below meth c A ls C T hr hlk hl
  have hx := C.1
  have hb := C.2.1
  have hl : lv_has ls 3 [(0, .ref o), (1, .int node), (2, .int so)] := hl
  refine lv_aload_n hx hb dX1_setSort_0 rfl (lv_at hl 0 rfl) ?_
  refine lv_iload_n hx hb dX1_setSort_1 rfl (lv_at hl 1 rfl) ?_
  refine tm_calli C T (n := 1) (As := [.int node]) (rest := []) (mm_isJoint l D cA o h F G node) q277 q279 qs16 q280 rfl rfl (by decide +kernel) (by decide) rfl hl.1 (Nat.le_of_ble_eq_true rfl) (by decide) rfl dX1_setSort_2 (fun H locs T => ?_)
  refine lv_if_ne (tgt := 10) hx hb dX1_setSort_5 (by decide) (fun c5 => ?_) (fun c5 => ?_)
  · have hin := m_isJoint_in c5
    refine lv_aload_n hx hb dX1_setSort_10 rfl (lv_at hl 0 rfl) ?_
    refine tm_get C T 3 (by decide) tml3 rfl (v := .ref (h 3)) rfl dX1_setSort_11 ?_
    refine lv_iload_n hx hb dX1_setSort_14 rfl (lv_at hl 1 rfl) ?_
    refine lv_iload_n hx hb dX1_setSort_15 rfl (lv_at hl 2 rfl) ?_
    refine lv_iconst (v := 3) hx hb dX1_setSort_16 (by decide) ?_
    refine lv_iand hx hb dX1_setSort_17 ?_
    refine tm_iast C T 3 _ _ _ tma3 tmt3 (by assumption) tms3 dX1_setSort_18 (fun H locs T => ?_)
    refine lv_iconst (v := 0) hx hb dX1_setSort_19 (by decide) ?_
    exact tm_iret C T hr hlk (by rw [show m_soR F node = _ from if_neg c5]) (by rw [show m_soS F node so = _ from if_neg c5]) dX1_setSort_20
  · refine lv_iconst (v := -1) hx hb dX1_setSort_8 (by decide) ?_
    exact tm_iret C T hr hlk (by rw [show m_soR F node = _ from if_pos c5]) (by rw [show m_soS F node so = _ from if_pos c5]) dX1_setSort_9
theorem mm_turn (l : Launch) (D : va_G) (cA : Nat → ClassId) (o : Nat) (h : Nat → Nat) (F : xF) (G : xG) (node : Int32) : tmMi l yX1_turn cX1_turn 3 (some .int) (rmL 1) D cA o h [.ref o, .int node] F G (m_soR F node) (m_tuS F node) G := by
  refine tm_ofi (by decide) rfl (Nat.le_of_ble_eq_true rfl) ?_
  intro p e s m below meth c A ls C T hr hlk hl
  have hx := C.1
  have hb := C.2.1
  have hl : lv_has ls 3 [(0, .ref o), (1, .int node)] := hl
  refine lv_aload_n hx hb dX1_turn_0 rfl (lv_at hl 0 rfl) ?_
  refine lv_iload_n hx hb dX1_turn_1 rfl (lv_at hl 1 rfl) ?_
  refine tm_calli C T (n := 1) (As := [.int node]) (rest := []) (mm_isJoint l D cA o h F G node) q277 q279 qs16 q280 rfl rfl (by decide +kernel) (by decide) rfl hl.1 (Nat.le_of_ble_eq_true rfl) (by decide) rfl dX1_turn_2 (fun H locs T => ?_)
  refine lv_if_ne (tgt := 10) hx hb dX1_turn_5 (by decide) (fun c5 => ?_) (fun c5 => ?_)
  · have hin := m_isJoint_in c5
    refine lv_aload_n hx hb dX1_turn_10 rfl (lv_at hl 0 rfl) ?_
    refine tm_get C T 4 (by decide) tml4 rfl (v := .ref (h 4)) rfl dX1_turn_11 ?_
    refine lv_iload_n hx hb dX1_turn_14 rfl (lv_at hl 1 rfl) ?_
    refine tm_iald C T 4 _ _ _ tma4 tmt4 (by assumption) (v := F 4 (ix node)) rfl dX1_turn_15 ?_
    refine lv_istore_n (lv' := [(2, .int (F 4 (ix node))), (0, .ref o), (1, .int node)]) hx hb dX1_turn_16 rfl hl (by decide) rfl (fun ls hl => ?_)
    refine lv_aload_n hx hb dX1_turn_17 rfl (lv_at hl 1 rfl) ?_
    refine tm_get C T 4 (by decide) tml4 rfl (v := .ref (h 4)) rfl dX1_turn_18 ?_
    refine lv_iload_n hx hb dX1_turn_21 rfl (lv_at hl 2 rfl) ?_
    refine lv_aload_n hx hb dX1_turn_22 rfl (lv_at hl 1 rfl) ?_
    refine tm_get C T 5 (by decide) tml5 rfl (v := .ref (h 5)) rfl dX1_turn_23 ?_
    refine lv_iload_n hx hb dX1_turn_26 rfl (lv_at hl 2 rfl) ?_
    refine tm_iald C T 5 _ _ _ tma5 tmt5 (by assumption) (v := F 5 (ix node)) rfl dX1_turn_27 ?_
    refine tm_iast C T 4 _ _ _ tma4 tmt4 (by assumption) tms4 dX1_turn_28 (fun H locs T => ?_)
    refine lv_aload_n hx hb dX1_turn_29 rfl (lv_at hl 1 rfl) ?_
    refine tm_get C T 5 (by decide) tml5 rfl (v := .ref (h 5)) rfl dX1_turn_30 ?_
    refine lv_iload_n hx hb dX1_turn_33 rfl (lv_at hl 2 rfl) ?_
    refine lv_iload_n hx hb dX1_turn_34 rfl (lv_at hl 0 rfl) ?_
    refine tm_iast C T 5 _ _ _ tma5 tmt5 (by assumption) tms5 dX1_turn_35 (fun H locs T => ?_)
    refine lv_iconst (v := 0) hx hb dX1_turn_36 (by decide) ?_
    exact tm_iret C T hr hlk (by rw [show m_soR F node = _ from if_neg c5]) (by rw [show m_tuS F node = _ from if_neg c5]) dX1_turn_37
  · refine lv_iconst (v := -1) hx hb dX1_turn_8 (by decide) ?_
    exact tm_iret C T hr hlk (by rw [show m_soR F node = _ from if_pos c5]) (by rw [show m_tuS F node = _ from if_pos c5]) dX1_turn_9
theorem mm_left (l : Launch) (D : va_G) (cA : Nat → ClassId) (o : Nat) (h : Nat → Nat) (F : xF) (G : xG) (node : Int32) : tmMi l yX1_left cX1_left 2 (some .int) (rmL 1) D cA o h [.ref o, .int node] F G (m_lR F node) F G := by
  refine tm_ofi (by decide) rfl (Nat.le_of_ble_eq_true rfl) ?_
  intro p e s m below meth c A ls C T hr hlk hl
  have hx := C.1
  have hb := C.2.1
  have hl : lv_has ls 2 [(0, .ref o), (1, .int node)] := hl
  refine lv_aload_n hx hb dX1_left_0 rfl (lv_at hl 0 rfl) ?_
  refine lv_iload_n hx hb dX1_left_1 rfl (lv_at hl 1 rfl) ?_
  refine tm_calli C T (n := 1) (As := [.int node]) (rest := []) (mm_isJoint l D cA o h F G node) q277 q279 qs16 q280 rfl rfl (by decide +kernel) (by decide) rfl hl.1 (Nat.le_of_ble_eq_true rfl) (by decide) rfl dX1_left_2 (fun H locs T => ?_)
  refine lv_if_eq (tgt := 17) hx hb dX1_left_5 (by decide) (fun c5 => ?_) (fun c5 => ?_)
  · refine lv_iconst (v := -1) hx hb dX1_left_17 (by decide) ?_
    exact tm_iret C T hr hlk (by simp [m_lR, c5]) rfl dX1_left_18
  · have hin := m_isJoint_in c5
    refine lv_aload_n hx hb dX1_left_8 rfl (lv_at hl 0 rfl) ?_
    refine tm_get C T 4 (by decide) tml4 rfl (v := .ref (h 4)) rfl dX1_left_9 ?_
    refine lv_iload_n hx hb dX1_left_12 rfl (lv_at hl 1 rfl) ?_
    refine tm_iald C T 4 _ _ _ tma4 tmt4 (by assumption) (v := F 4 (ix node)) rfl dX1_left_13 ?_
    refine lv_goto (tgt := 18) hx hb dX1_left_14 (by decide) ?_
    exact tm_iret C T hr hlk (by simp [m_lR, c5]) rfl dX1_left_18
theorem mm_right (l : Launch) (D : va_G) (cA : Nat → ClassId) (o : Nat) (h : Nat → Nat) (F : xF) (G : xG) (node : Int32) : tmMi l yX1_right cX1_right 2 (some .int) (rmL 1) D cA o h [.ref o, .int node] F G (m_rR F node) F G := by
  refine tm_ofi (by decide) rfl (Nat.le_of_ble_eq_true rfl) ?_
  intro p e s m below meth c A ls C T hr hlk hl
  have hx := C.1
  have hb := C.2.1
  have hl : lv_has ls 2 [(0, .ref o), (1, .int node)] := hl
  refine lv_aload_n hx hb dX1_right_0 rfl (lv_at hl 0 rfl) ?_
  refine lv_iload_n hx hb dX1_right_1 rfl (lv_at hl 1 rfl) ?_
  refine tm_calli C T (n := 1) (As := [.int node]) (rest := []) (mm_isJoint l D cA o h F G node) q277 q279 qs16 q280 rfl rfl (by decide +kernel) (by decide) rfl hl.1 (Nat.le_of_ble_eq_true rfl) (by decide) rfl dX1_right_2 (fun H locs T => ?_)
  refine lv_if_eq (tgt := 17) hx hb dX1_right_5 (by decide) (fun c5 => ?_) (fun c5 => ?_)
  · refine lv_iconst (v := -1) hx hb dX1_right_17 (by decide) ?_
    exact tm_iret C T hr hlk (by simp [m_rR, c5]) rfl dX1_right_18
  · have hin := m_isJoint_in c5
    refine lv_aload_n hx hb dX1_right_8 rfl (lv_at hl 0 rfl) ?_
    refine tm_get C T 5 (by decide) tml5 rfl (v := .ref (h 5)) rfl dX1_right_9 ?_
    refine lv_iload_n hx hb dX1_right_12 rfl (lv_at hl 1 rfl) ?_
    refine tm_iald C T 5 _ _ _ tma5 tmt5 (by assumption) (v := F 5 (ix node)) rfl dX1_right_13 ?_
    refine lv_goto (tgt := 18) hx hb dX1_right_14 (by decide) ?_
    exact tm_iret C T hr hlk (by simp [m_rR, c5]) rfl dX1_right_18
end
section
set_option maxRecDepth 100000
set_option maxHeartbeats 400000
theorem mm_evaluate (l : Launch) (D : va_G) (cA : Nat → ClassId) (o : Nat) (h : Nat → Nat) (F : xF) (G : xG) (hok : okEv F) : tmMv l yX1_evaluate cX1_evaluate 3 (rmL 1) D cA o h [.ref o] F G (m_ev F) G := by
  refine tm_ofv (by decide) rfl (Nat.le_of_ble_eq_true rfl) ?_
  intro p e s m below meth c A ls C T hr hlk hl
  have hx := C.1
  have hb := C.2.1
  have hl : lv_has ls 3 [(0, .ref o)] := hl
  refine lv_iconst (v := 0) hx hb dX1_evaluate_0 (by decide) ?_
  refine lv_istore_n (lv' := [(1, .int (0 : Int32)), (0, .ref o)]) hx hb dX1_evaluate_1 rfl hl (by decide) rfl (fun ls hl => ?_)
  refine lx_loop (pc := 2) (fun n ls H locs => ∃ (j : Nat) (F1 : xF), (j + n = 32) ∧ (j ≤ 31) ∧ (F1 = lpN m_eiB j F) ∧ tmT D cA o h A s.heap F1 G H locs ∧ lv_has ls 3 [(1, .int (nI j)), (0, .ref o)]) ?_ ?_ (32) ?_
  · rintro ls H locs ⟨j, F1, h1, h2, h3, T, hl⟩
    omega
  · rintro n ih2 ls H locs ⟨j, F1, h1, h2, h3, T, hl⟩
    refine lv_iload_n hx hb dX1_evaluate_2 rfl (lv_at hl 0 rfl) ?_
    refine lv_bipush (v := 31) hx hb dX1_evaluate_3 (by decide) ?_
    refine lv_icmp_ge (tgt := 55) hx hb dX1_evaluate_5 (by decide) (fun c5 => ?_) (fun c5 => ?_)
    · have c5 := (nI_leI (a := 31) (b := j) (by omega) (by omega)).mp c5
      obtain ⟨F0, hF0⟩ : ∃ F0, F0 = lpN m_eiB 31 F := ⟨_, rfl⟩
      rw [h3, show j = 31 by omega, ← hF0] at T
      refine lv_iconst (v := 0) hx hb dX1_evaluate_55 (by decide) ?_
      refine lv_istore_n (lv' := [(1, .int (0 : Int32)), (0, .ref o)]) hx hb dX1_evaluate_56 rfl hl (by decide) rfl (fun ls hl => ?_)
      refine lx_loop (pc := 57) (fun n ls H locs => ∃ (r : Nat) (F1 : xF), (r + n = 32) ∧ (r ≤ 31) ∧ (F1 = lpN (fun _ F => m_er F) r (lpN m_eiB 31 F)) ∧ tmT D cA o h A s.heap F1 G H locs ∧ lv_has ls 3 [(1, .int (nI r)), (0, .ref o)]) ?_ ?_ (32) ?_
      · rintro ls H locs ⟨r, F1, h1, h2, h3, T, hl⟩
        omega
      · rintro n ih57 ls H locs ⟨r, F1, h1, h2, h3, T, hl⟩
        refine lv_iload_n hx hb dX1_evaluate_57 rfl (lv_at hl 0 rfl) ?_
        refine lv_bipush (v := 31) hx hb dX1_evaluate_58 (by decide) ?_
        refine lv_icmp_ge (tgt := 173) hx hb dX1_evaluate_60 (by decide) (fun c60 => ?_) (fun c60 => ?_)
        · have c60 := (nI_leI (a := 31) (b := r) (by omega) (by omega)).mp c60
          exact tm_vret C T hr hlk (by unfold m_ev; rw [h3, show r = 31 by omega]) dX1_evaluate_173
        · have c60 : ¬ 31 ≤ r := fun hq_ => c60 ((nI_leI (a := 31) (b := r) (by omega) (by omega)).mpr hq_)
          refine lv_iconst (v := 0) hx hb dX1_evaluate_63 (by decide) ?_
          refine lv_istore_n (lv' := [(2, .int (0 : Int32)), (1, .int (nI r)), (0, .ref o)]) hx hb dX1_evaluate_64 rfl hl (by decide) rfl (fun ls hl => ?_)
          refine lx_loop (pc := 65) (fun n ls H locs => ∃ (q : Nat) (F2 : xF), (q + n = 32) ∧ (q ≤ 31) ∧ (F2 = lpN m_enB q F1) ∧ tmT D cA o h A s.heap F2 G H locs ∧ lv_has ls 3 [(2, .int (nI q)), (1, .int (nI r)), (0, .ref o)]) ?_ ?_ (32) ?_
          · rintro ls H locs ⟨q, F2, g1, g2, g3, T, hl⟩
            omega
          · rintro n ih65 ls H locs ⟨q, F2, g1, g2, g3, T, hl⟩
            refine lv_iload_n hx hb dX1_evaluate_65 rfl (lv_at hl 0 rfl) ?_
            refine lv_bipush (v := 31) hx hb dX1_evaluate_66 (by decide) ?_
            refine lv_icmp_ge (tgt := 167) hx hb dX1_evaluate_68 (by decide) (fun c68 => ?_) (fun c68 => ?_)
            · have c68 := (nI_leI (a := 31) (b := q) (by omega) (by omega)).mp c68
              refine lv_iinc (v := nI (r + 1)) (lv' := [(1, .int (nI (r + 1))), (2, .int (nI q)), (0, .ref o)]) hx hb dX1_evaluate_167 hl (k := 1) rfl (tx_inc1 r) (by decide) rfl (fun ls hl => ?_)
              refine lv_goto (tgt := 57) hx hb dX1_evaluate_170 (by decide) ?_
              exact ih57 _ _ _ ⟨r + 1, F2, by omega, by omega, (by rw [lpN_succ, ← h3]; show F2 = m_er F1; unfold m_er; rw [g3, show q = 31 by omega]), T, lv_sub hl [0, 2] rfl⟩
            · have c68 : ¬ 31 ≤ q := fun hq_ => c68 ((nI_leI (a := 31) (b := q) (by omega) (by omega)).mpr hq_)
              refine lv_aload_n hx hb dX1_evaluate_71 rfl (lv_at hl 2 rfl) ?_
              refine tm_get C T 0 (by decide) tml0 rfl (v := .ref (h 0)) rfl dX1_evaluate_72 ?_
              refine lv_iload_n hx hb dX1_evaluate_75 rfl (lv_at hl 0 rfl) ?_
              refine tm_zaldN C T 0 _ _ _ tma0 tmt0 (by decide) (by omega) (v := F2 0 q) rfl dX1_evaluate_76 ?_
              refine lv_if_eq (tgt := 161) hx hb dX1_evaluate_77 (by decide) (fun c77 => ?_) (fun c77 => ?_)
              · refine lv_iinc (v := nI (q + 1)) (lv' := [(2, .int (nI (q + 1))), (1, .int (nI r)), (0, .ref o)]) hx hb dX1_evaluate_161 hl (k := 0) rfl (tx_inc1 q) (by decide) rfl (fun ls hl => ?_)
                refine lv_goto (tgt := 65) hx hb dX1_evaluate_164 (by decide) ?_
                have e1 : m_enB q F2 = F2 := by unfold m_enB; simp [c77]
                exact ih65 _ _ _ ⟨q + 1, m_enB q F2, by omega, by omega, by rw [lpN_succ, ← g3], by rw [e1]; exact T, lv_sub hl [0, 1, 2] rfl⟩
              · refine lv_aload_n hx hb dX1_evaluate_80 rfl (lv_at hl 2 rfl) ?_
                refine tm_get C T 1 (by decide) tml1 rfl (v := .ref (h 1)) rfl dX1_evaluate_81 ?_
                refine lv_iload_n hx hb dX1_evaluate_84 rfl (lv_at hl 0 rfl) ?_
                refine tm_zaldN C T 1 _ _ _ tma1 tmt1 (by decide) (by omega) (v := F2 1 q) rfl dX1_evaluate_85 ?_
                refine lv_if_eq (tgt := 161) hx hb dX1_evaluate_86 (by decide) (fun c86 => ?_) (fun c86 => ?_)
                · refine lv_iinc (v := nI (q + 1)) (lv' := [(2, .int (nI (q + 1))), (1, .int (nI r)), (0, .ref o)]) hx hb dX1_evaluate_161 hl (k := 0) rfl (tx_inc1 q) (by decide) rfl (fun ls hl => ?_)
                  refine lv_goto (tgt := 65) hx hb dX1_evaluate_164 (by decide) ?_
                  have e1 : m_enB q F2 = F2 := by unfold m_enB; simp [c77, c86]
                  exact ih65 _ _ _ ⟨q + 1, m_enB q F2, by omega, by omega, by rw [lpN_succ, ← g3], by rw [e1]; exact T, lv_sub hl [0, 1, 2] rfl⟩
                · have kp : ∀ a, a ≠ 6 ∧ a ≠ 7 → F2 a = F a := fun a ha => by rw [g3, m_en_keep _ _ _ ha, h3, m_er_keep _ _ _ ha, m_ei_keep _ _ _ ha]
                  obtain ⟨ho4, ho5⟩ := okEv_of hok (kp 0 (by decide)) (kp 1 (by decide)) (kp 4 (by decide)) (kp 5 (by decide)) q (by omega) c77 c86
                  refine lv_aload_n hx hb dX1_evaluate_89 rfl (lv_at hl 2 rfl) ?_
                  refine tm_get C T 6 (by decide) tml6 rfl (v := .ref (h 6)) rfl dX1_evaluate_90 ?_
                  refine lv_aload_n hx hb dX1_evaluate_93 rfl (lv_at hl 2 rfl) ?_
                  refine tm_get C T 4 (by decide) tml4 rfl (v := .ref (h 4)) rfl dX1_evaluate_94 ?_
                  refine lv_iload_n hx hb dX1_evaluate_97 rfl (lv_at hl 0 rfl) ?_
                  refine tm_ialdN C T 4 _ _ _ tma4 tmt4 (by decide) (by omega) (v := F2 4 q) rfl dX1_evaluate_98 ?_
                  refine tm_zald C T 6 _ _ _ tma6 tmt6 (by assumption) (v := F2 6 (ix (F2 4 q))) rfl dX1_evaluate_99 ?_
                  refine lv_if_eq (tgt := 161) hx hb dX1_evaluate_100 (by decide) (fun c100 => ?_) (fun c100 => ?_)
                  · refine lv_iinc (v := nI (q + 1)) (lv' := [(2, .int (nI (q + 1))), (1, .int (nI r)), (0, .ref o)]) hx hb dX1_evaluate_161 hl (k := 0) rfl (tx_inc1 q) (by decide) rfl (fun ls hl => ?_)
                    refine lv_goto (tgt := 65) hx hb dX1_evaluate_164 (by decide) ?_
                    have e1 : m_enB q F2 = F2 := by unfold m_enB; simp [c77, c86, c100]
                    exact ih65 _ _ _ ⟨q + 1, m_enB q F2, by omega, by omega, by rw [lpN_succ, ← g3], by rw [e1]; exact T, lv_sub hl [0, 1, 2] rfl⟩
                  · refine lv_aload_n hx hb dX1_evaluate_103 rfl (lv_at hl 2 rfl) ?_
                    refine tm_get C T 6 (by decide) tml6 rfl (v := .ref (h 6)) rfl dX1_evaluate_104 ?_
                    refine lv_aload_n hx hb dX1_evaluate_107 rfl (lv_at hl 2 rfl) ?_
                    refine tm_get C T 5 (by decide) tml5 rfl (v := .ref (h 5)) rfl dX1_evaluate_108 ?_
                    refine lv_iload_n hx hb dX1_evaluate_111 rfl (lv_at hl 0 rfl) ?_
                    refine tm_ialdN C T 5 _ _ _ tma5 tmt5 (by decide) (by omega) (v := F2 5 q) rfl dX1_evaluate_112 ?_
                    refine tm_zald C T 6 _ _ _ tma6 tmt6 (by assumption) (v := F2 6 (ix (F2 5 q))) rfl dX1_evaluate_113 ?_
                    refine lv_if_eq (tgt := 161) hx hb dX1_evaluate_114 (by decide) (fun c114 => ?_) (fun c114 => ?_)
                    · refine lv_iinc (v := nI (q + 1)) (lv' := [(2, .int (nI (q + 1))), (1, .int (nI r)), (0, .ref o)]) hx hb dX1_evaluate_161 hl (k := 0) rfl (tx_inc1 q) (by decide) rfl (fun ls hl => ?_)
                      refine lv_goto (tgt := 65) hx hb dX1_evaluate_164 (by decide) ?_
                      have e1 : m_enB q F2 = F2 := by unfold m_enB; simp [c77, c86, c100, c114]
                      exact ih65 _ _ _ ⟨q + 1, m_enB q F2, by omega, by omega, by rw [lpN_succ, ← g3], by rw [e1]; exact T, lv_sub hl [0, 1, 2] rfl⟩
                    · refine lv_aload_n hx hb dX1_evaluate_117 rfl (lv_at hl 2 rfl) ?_
                      refine tm_get C T 7 (by decide) tml7 rfl (v := .ref (h 7)) rfl dX1_evaluate_118 ?_
                      refine lv_iload_n hx hb dX1_evaluate_121 rfl (lv_at hl 0 rfl) ?_
                      refine lv_aload_n hx hb dX1_evaluate_122 rfl (lv_at hl 2 rfl) ?_
                      refine tm_get C T 3 (by decide) tml3 rfl (v := .ref (h 3)) rfl dX1_evaluate_123 ?_
                      refine lv_iload_n hx hb dX1_evaluate_126 rfl (lv_at hl 0 rfl) ?_
                      refine tm_ialdN C T 3 _ _ _ tma3 tmt3 (by decide) (by omega) (v := F2 3 q) rfl dX1_evaluate_127 ?_
                      refine lv_aload_n hx hb dX1_evaluate_128 rfl (lv_at hl 2 rfl) ?_
                      refine tm_get C T 7 (by decide) tml7 rfl (v := .ref (h 7)) rfl dX1_evaluate_129 ?_
                      refine lv_aload_n hx hb dX1_evaluate_132 rfl (lv_at hl 2 rfl) ?_
                      refine tm_get C T 4 (by decide) tml4 rfl (v := .ref (h 4)) rfl dX1_evaluate_133 ?_
                      refine lv_iload_n hx hb dX1_evaluate_136 rfl (lv_at hl 0 rfl) ?_
                      refine tm_ialdN C T 4 _ _ _ tma4 tmt4 (by decide) (by omega) (v := F2 4 q) rfl dX1_evaluate_137 ?_
                      refine tm_iald C T 7 _ _ _ tma7 tmt7 (by assumption) (v := F2 7 (ix (F2 4 q))) rfl dX1_evaluate_138 ?_
                      refine lv_aload_n hx hb dX1_evaluate_139 rfl (lv_at hl 2 rfl) ?_
                      refine tm_get C T 7 (by decide) tml7 rfl (v := .ref (h 7)) rfl dX1_evaluate_140 ?_
                      refine lv_aload_n hx hb dX1_evaluate_143 rfl (lv_at hl 2 rfl) ?_
                      refine tm_get C T 5 (by decide) tml5 rfl (v := .ref (h 5)) rfl dX1_evaluate_144 ?_
                      refine lv_iload_n hx hb dX1_evaluate_147 rfl (lv_at hl 0 rfl) ?_
                      refine tm_ialdN C T 5 _ _ _ tma5 tmt5 (by decide) (by omega) (v := F2 5 q) rfl dX1_evaluate_148 ?_
                      refine tm_iald C T 7 _ _ _ tma7 tmt7 (by assumption) (v := F2 7 (ix (F2 5 q))) rfl dX1_evaluate_149 ?_
                      refine tm_scalli C T (n := 3) (As := [.int (F2 3 q), .int (F2 7 (ix (F2 4 q))), .int (F2 7 (ix (F2 5 q)))]) (rest := [.int (nI q), .ref (h 7)]) (mm_worked l D cA o h F2 G (F2 3 q) (F2 7 (ix (F2 4 q))) (F2 7 (ix (F2 5 q)))) q281 q282 q283 rfl rfl (by decide +kernel) (by decide) rfl hl.1 (Nat.le_of_ble_eq_true rfl) (by decide) rfl dX1_evaluate_150 (fun H locs T => ?_)
                      refine tm_iastN C T 7 _ _ _ tma7 tmt7 (by decide) (by omega) tms7 dX1_evaluate_153 (fun H locs T => ?_)
                      refine lv_aload_n hx hb dX1_evaluate_154 rfl (lv_at hl 2 rfl) ?_
                      refine tm_get C T 6 (by decide) tml6 rfl (v := .ref (h 6)) rfl dX1_evaluate_155 ?_
                      refine lv_iload_n hx hb dX1_evaluate_158 rfl (lv_at hl 0 rfl) ?_
                      refine lv_iconst (v := 1) hx hb dX1_evaluate_159 (by decide) ?_
                      refine tm_zastN C T 6 _ _ _ tma6 tmt6 (by decide) (by decide) (by omega) tms6 dX1_evaluate_160 (fun H locs T => ?_)
                      refine lv_iinc (v := nI (q + 1)) (lv' := [(2, .int (nI (q + 1))), (1, .int (nI r)), (0, .ref o)]) hx hb dX1_evaluate_161 hl (k := 0) rfl (tx_inc1 q) (by decide) rfl (fun ls hl => ?_)
                      refine lv_goto (tgt := 65) hx hb dX1_evaluate_164 (by decide) ?_
                      have e1 : m_enB q F2 = (fS (fS F2 7 q (p_calc (F2 3 q) (F2 7 (ix (F2 4 q))) (F2 7 (ix (F2 5 q))))) 6 q (1 : Int32)) := by unfold m_enB; simp [c77, c86, c100, c114]
                      exact ih65 _ _ _ ⟨q + 1, m_enB q F2, by omega, by omega, by rw [lpN_succ, ← g3], by rw [e1]; exact T, lv_sub hl [0, 1, 2] rfl⟩
          · exact ⟨0, F1, rfl, by decide, rfl, T, lv_sub hl [0, 1, 2] rfl⟩
      · exact ⟨0, F0, rfl, by decide, (by rw [lpN_zero]; exact hF0), T, lv_sub hl [0, 1] rfl⟩
    · have c5 : ¬ 31 ≤ j := fun hq_ => c5 ((nI_leI (a := 31) (b := j) (by omega) (by omega)).mpr hq_)
      refine lv_aload_n hx hb dX1_evaluate_8 rfl (lv_at hl 1 rfl) ?_
      refine tm_get C T 6 (by decide) tml6 rfl (v := .ref (h 6)) rfl dX1_evaluate_9 ?_
      refine lv_iload_n hx hb dX1_evaluate_12 rfl (lv_at hl 0 rfl) ?_
      refine lx_join (J := 36) (rest := [.int (nI j), .ref (h 6)]) (m_kn F1 j) (fun kn hkn => ?_) (fun K13_36 => ?_)
      · subst hkn
        refine tm_zastN C T 6 _ _ _ tma6 tmt6 (by decide) (m_kn_b _ _) (by omega) tms6 dX1_evaluate_36 (fun H locs T => ?_)
        refine lv_aload_n hx hb dX1_evaluate_37 rfl (lv_at hl 1 rfl) ?_
        refine tm_get C T 7 (by decide) tml7 rfl (v := .ref (h 7)) rfl dX1_evaluate_38 ?_
        refine lv_iload_n hx hb dX1_evaluate_41 rfl (lv_at hl 0 rfl) ?_
        refine lv_aload_n hx hb dX1_evaluate_42 rfl (lv_at hl 1 rfl) ?_
        refine tm_get C T 2 (by decide) tml2 rfl (v := .ref (h 2)) rfl dX1_evaluate_43 ?_
        refine lv_iload_n hx hb dX1_evaluate_46 rfl (lv_at hl 0 rfl) ?_
        refine tm_ialdN C T 2 _ _ _ tma2 tmt2 (by decide) (by omega) (v := F1 2 j) rfl dX1_evaluate_47 ?_
        refine tm_iastN C T 7 _ _ _ tma7 tmt7 (by decide) (by omega) tms7 dX1_evaluate_48 (fun H locs T => ?_)
        refine lv_iinc (v := nI (j + 1)) (lv' := [(1, .int (nI (j + 1))), (0, .ref o)]) hx hb dX1_evaluate_49 hl (k := 0) rfl (tx_inc1 j) (by decide) rfl (fun ls hl => ?_)
        refine lv_goto (tgt := 2) hx hb dX1_evaluate_52 (by decide) ?_
        exact ih2 _ _ _ ⟨j + 1, _, by omega, by omega, (by rw [lpN_succ, ← h3]; rfl), T, lv_sub hl [0, 1] rfl⟩
      · refine lv_aload_n hx hb dX1_evaluate_13 rfl (lv_at hl 1 rfl) ?_
        refine tm_get C T 0 (by decide) tml0 rfl (v := .ref (h 0)) rfl dX1_evaluate_14 ?_
        refine lv_iload_n hx hb dX1_evaluate_17 rfl (lv_at hl 0 rfl) ?_
        refine tm_zaldN C T 0 _ _ _ tma0 tmt0 (by decide) (by omega) (v := F1 0 j) rfl dX1_evaluate_18 ?_
        refine lv_if_eq (tgt := 35) hx hb dX1_evaluate_19 (by decide) (fun c19 => ?_) (fun c19 => ?_)
        · refine lv_iconst (v := 0) hx hb dX1_evaluate_35 (by decide) ?_
          exact K13_36 _ (by simp [m_kn, c19])
        · refine lv_aload_n hx hb dX1_evaluate_22 rfl (lv_at hl 1 rfl) ?_
          refine tm_get C T 1 (by decide) tml1 rfl (v := .ref (h 1)) rfl dX1_evaluate_23 ?_
          refine lv_iload_n hx hb dX1_evaluate_26 rfl (lv_at hl 0 rfl) ?_
          refine tm_zaldN C T 1 _ _ _ tma1 tmt1 (by decide) (by omega) (v := F1 1 j) rfl dX1_evaluate_27 ?_
          refine lv_if_ne (tgt := 35) hx hb dX1_evaluate_28 (by decide) (fun c28 => ?_) (fun c28 => ?_)
          · refine lv_iconst (v := 0) hx hb dX1_evaluate_35 (by decide) ?_
            exact K13_36 _ (by simp [m_kn, c19, c28])
          · refine lv_iconst (v := 1) hx hb dX1_evaluate_31 (by decide) ?_
            refine lv_goto (tgt := 36) hx hb dX1_evaluate_32 (by decide) ?_
            exact K13_36 _ (by simp [m_kn, c19, c28])
  · exact ⟨0, F, rfl, by decide, rfl, T, lv_sub hl [0, 1] rfl⟩
theorem mm_value (l : Launch) (D : va_G) (cA : Nat → ClassId) (o : Nat) (h : Nat → Nat) (F : xF) (G : xG) (node : Int32) (hok : okEv F) : tmMi l yX1_value cX1_value 2 (some .int) (rmL 2) D cA o h [.ref o, .int node] F G (m_vaR F node) (m_vaF F node) G := by
  refine tm_ofi (by decide) rfl (Nat.le_of_ble_eq_true rfl) ?_
  intro p e s m below meth c A ls C T hr hlk hl
  have hx := C.1
  have hb := C.2.1
  have hl : lv_has ls 2 [(0, .ref o), (1, .int node)] := hl
  refine lv_aload_n hx hb dX1_value_0 rfl (lv_at hl 0 rfl) ?_
  refine lv_iload_n hx hb dX1_value_1 rfl (lv_at hl 1 rfl) ?_
  refine tm_calli C T (n := 1) (As := [.int node]) (rest := []) (mm_isLeaf l D cA o h F G node) q261 q263 qs13 q264 rfl rfl (by decide +kernel) (by decide) rfl hl.1 (Nat.le_of_ble_eq_true rfl) (by decide) rfl dX1_value_2 (fun H locs T => ?_)
  refine lv_if_ne (tgt := 18) hx hb dX1_value_5 (by decide) (fun c5 => ?_) (fun c5 => ?_)
  · have hin := m_isLeaf_in c5
    refine lv_aload_n hx hb dX1_value_18 rfl (lv_at hl 0 rfl) ?_
    refine tm_callv C T (n := 0) (As := []) (rest := []) (mm_evaluate l D cA o h F G hok) q300 q302 qs17 q303 rfl rfl (by decide +kernel) (by decide) rfl hl.1 (Nat.le_of_ble_eq_true rfl) (by decide) rfl dX1_value_19 (fun H locs T => ?_)
    refine lv_aload_n hx hb dX1_value_22 rfl (lv_at hl 0 rfl) ?_
    refine tm_get C T 7 (by decide) tml7 rfl (v := .ref (h 7)) rfl dX1_value_23 ?_
    refine lv_iload_n hx hb dX1_value_26 rfl (lv_at hl 1 rfl) ?_
    refine tm_iald C T 7 _ _ _ tma7 tmt7 (by assumption) (v := (m_ev F) 7 (ix node)) rfl dX1_value_27 ?_
    exact tm_iret C T hr hlk (by rw [show m_vaR F node = _ from if_neg c5]) (by rw [show m_vaF F node = _ from if_neg c5]) dX1_value_28
  · refine lv_aload_n hx hb dX1_value_8 rfl (lv_at hl 0 rfl) ?_
    refine lv_iload_n hx hb dX1_value_9 rfl (lv_at hl 1 rfl) ?_
    refine tm_calli C T (n := 1) (As := [.int node]) (rest := []) (mm_isJoint l D cA o h F G node) q277 q279 qs16 q280 rfl rfl (by decide +kernel) (by decide) rfl hl.1 (Nat.le_of_ble_eq_true rfl) (by decide) rfl dX1_value_10 (fun H locs T => ?_)
    refine lv_if_ne (tgt := 18) hx hb dX1_value_13 (by decide) (fun c13 => ?_) (fun c13 => ?_)
    · have hin := m_isJoint_in c13
      refine lv_aload_n hx hb dX1_value_18 rfl (lv_at hl 0 rfl) ?_
      refine tm_callv C T (n := 0) (As := []) (rest := []) (mm_evaluate l D cA o h F G hok) q300 q302 qs17 q303 rfl rfl (by decide +kernel) (by decide) rfl hl.1 (Nat.le_of_ble_eq_true rfl) (by decide) rfl dX1_value_19 (fun H locs T => ?_)
      refine lv_aload_n hx hb dX1_value_22 rfl (lv_at hl 0 rfl) ?_
      refine tm_get C T 7 (by decide) tml7 rfl (v := .ref (h 7)) rfl dX1_value_23 ?_
      refine lv_iload_n hx hb dX1_value_26 rfl (lv_at hl 1 rfl) ?_
      refine tm_iald C T 7 _ _ _ tma7 tmt7 (by assumption) (v := (m_ev F) 7 (ix node)) rfl dX1_value_27 ?_
      exact tm_iret C T hr hlk (by rw [show m_vaR F node = _ from (if_pos c5).trans (if_neg c13)]) (by rw [show m_vaF F node = _ from (if_pos c5).trans (if_neg c13)]) dX1_value_28
    · refine lv_iconst (v := 0) hx hb dX1_value_16 (by decide) ?_
      exact tm_iret C T hr hlk (by rw [show m_vaR F node = _ from (if_pos c5).trans (if_pos c13)]) (by rw [show m_vaF F node = _ from (if_pos c5).trans (if_pos c13)]) dX1_value_17
theorem mm_slope (l : Launch) (D : va_G) (cA : Nat → ClassId) (o : Nat) (h : Nat → Nat) (F : xF) (G : xG) (node : Int32) (hok : okEv F) : tmMi l yX1_slope cX1_slope 4 (some .int) (rmL 3) D cA o h [.ref o, .int node] F G (m_slR F node) (m_slS F node) G := by
  refine tm_ofi (by decide) rfl (Nat.le_of_ble_eq_true rfl) ?_
  intro p e s m below meth c A ls C T hr hlk hl
  have hx := C.1
  have hb := C.2.1
  have hl : lv_has ls 4 [(0, .ref o), (1, .int node)] := hl
  refine lv_aload_n hx hb dX1_slope_0 rfl (lv_at hl 0 rfl) ?_
  refine lv_iload_n hx hb dX1_slope_1 rfl (lv_at hl 1 rfl) ?_
  refine tm_calli C T (n := 1) (As := [.int node]) (rest := []) (mm_isLeaf l D cA o h F G node) q261 q263 qs13 q264 rfl rfl (by decide +kernel) (by decide) rfl hl.1 (Nat.le_of_ble_eq_true rfl) (by decide) rfl dX1_slope_2 (fun H locs T => ?_)
  refine lv_if_ne (tgt := 10) hx hb dX1_slope_5 (by decide) (fun c5 => ?_) (fun c5 => ?_)
  · have hin := m_isLeaf_in c5
    refine lv_aload_n hx hb dX1_slope_10 rfl (lv_at hl 0 rfl) ?_
    refine lv_iconst (v := 0) hx hb dX1_slope_11 (by decide) ?_
    refine tm_calli C T (n := 1) (As := [.int (0 : Int32)]) (rest := []) (mm_value l D cA o h F G 0 hok) q308 q297 q298 q299 rfl rfl (by decide +kernel) (by decide) rfl hl.1 (Nat.le_of_ble_eq_true rfl) (by decide) rfl dX1_slope_12 (fun H locs T => ?_)
    refine lv_istore_n (lv' := [(2, .int (m_vaR F 0)), (0, .ref o), (1, .int node)]) hx hb dX1_slope_15 rfl hl (by decide) rfl (fun ls hl => ?_)
    refine lv_aload_n hx hb dX1_slope_16 rfl (lv_at hl 1 rfl) ?_
    refine tm_get C T 2 (by decide) tml2 rfl (v := .ref (h 2)) rfl dX1_slope_17 ?_
    refine lv_iload_n hx hb dX1_slope_20 rfl (lv_at hl 2 rfl) ?_
    refine lv_dup2_11 hx hb dX1_slope_21 rfl rfl ?_
    refine tm_iald C T 2 _ _ _ tma2 tmt2 (by assumption) (v := (m_vaF F 0) 2 (ix node)) rfl dX1_slope_22 ?_
    refine lv_iconst (v := 1) hx hb dX1_slope_23 (by decide) ?_
    refine lv_iadd hx hb dX1_slope_24 ?_
    refine tm_iast C T 2 _ _ _ tma2 tmt2 (by assumption) tms2 dX1_slope_25 (fun H locs T => ?_)
    refine lv_aload_n hx hb dX1_slope_26 rfl (lv_at hl 1 rfl) ?_
    refine lv_iconst (v := 0) hx hb dX1_slope_27 (by decide) ?_
    refine tm_calli C T (n := 1) (As := [.int (0 : Int32)]) (rest := []) (mm_value l D cA o h (m_sl1 F node) G 0 (okEv_sl1 node hok)) q308 q297 q298 q299 rfl rfl (by decide +kernel) (by decide) rfl hl.1 (Nat.le_of_ble_eq_true rfl) (by decide) rfl dX1_slope_28 (fun H locs T => ?_)
    refine lv_istore_n (lv' := [(3, .int (m_vaR (m_sl1 F node) 0)), (2, .int (m_vaR F 0)), (0, .ref o), (1, .int node)]) hx hb dX1_slope_31 rfl hl (by decide) rfl (fun ls hl => ?_)
    refine lv_aload_n hx hb dX1_slope_32 rfl (lv_at hl 2 rfl) ?_
    refine tm_get C T 2 (by decide) tml2 rfl (v := .ref (h 2)) rfl dX1_slope_33 ?_
    refine lv_iload_n hx hb dX1_slope_36 rfl (lv_at hl 3 rfl) ?_
    refine lv_dup2_11 hx hb dX1_slope_37 rfl rfl ?_
    refine tm_iald C T 2 _ _ _ tma2 tmt2 (by assumption) (v := (m_vaF (m_sl1 F node) 0) 2 (ix node)) rfl dX1_slope_38 ?_
    refine lv_iconst (v := 1) hx hb dX1_slope_39 (by decide) ?_
    refine lv_isub hx hb dX1_slope_40 ?_
    refine tm_iast C T 2 _ _ _ tma2 tmt2 (by assumption) tms2 dX1_slope_41 (fun H locs T => ?_)
    refine lv_iload_n hx hb dX1_slope_42 rfl (lv_at hl 0 rfl) ?_
    refine lv_iload_n hx hb dX1_slope_43 rfl (lv_at hl 1 rfl) ?_
    refine lv_isub hx hb dX1_slope_44 ?_
    exact tm_iret C T hr hlk (by rw [show m_slR F node = _ from if_neg c5]) (by rw [show m_slS F node = _ from if_neg c5]; rfl) dX1_slope_45
  · refine lv_iconst (v := 0) hx hb dX1_slope_8 (by decide) ?_
    exact tm_iret C T hr hlk (by rw [show m_slR F node = _ from if_pos c5]) (by rw [show m_slS F node = _ from if_pos c5]) dX1_slope_9
end
section
set_option maxRecDepth 100000
set_option maxHeartbeats 1000000
def tmFs0 : List Value := [.null, .null, .null, .null, .null, .null, .null, .null]
def tmX1 : xF := fS (fun _ _ => 0) 0 0 1
def tmRC : Room := { frames := 1, cells := 8, slots := 248, locals := 12 }
/-- the constructor: the object gets its arrays, all 0 but the first place of the first -/
theorem tm_init (l : Launch) (D : va_G) (o sz : Nat) : Met l yX1_init (ws_ yX1_init cX1_init 1 none) tmRC (va_Pc [.ref o] (fun U => U.heap.size = sz ∧ va_P D vwCl [(o, .inr (1, tmFs0))] U.heap ∧ va_K D vwCl [] U ∧ va_D (fun _ => True) [(o, .inr (1, tmFs0))])) (va_Qv (fun (_ : (Nat → ClassId) × (Nat → Nat)) => True) (fun u t => va_P D vwCl (tmW u.1 o u.2 tmX1 (fun _ => 0)) t.heap ∧ va_K D vwCl (tmTy u.1) t ∧ va_D (va_A [(o, .inr (1, tmFs0))] sz) (tmW u.1 o u.2 tmX1 (fun _ => 0))) (va_A [(o, .inr (1, tmFs0))] sz)) 8 248 (va_A [(o, .inr (1, tmFs0))] sz) := by
  refine Met.ofW (cc := cX1_init) (maxL := 1) (ret := none) (by decide) rfl ?_
  intro p e s m args below meth c s₁ B hml hv
  obtain ⟨rfl, hsz, hP, hK, hD0⟩ := hv
  have hx := B.exec
  have hb := B.bytes
  have hr := B.returns
  have hts := atoms_spec (ws := ws_ yX1_init cX1_init 1 none) B.pre
  have hts : ∀ w ∈ lw_all, w.before _ s = true := fun w h => hts w (List.mem_cons_of_mem _ h)
  have hown : s.vm.findClass RX1 = some m.cls := findClass_of_methodNamed B.named
  have hlk := B.notSynchronized
  have hin : meth.name = "<init>" := (name_of_methodNamed B.named B.method).1
  subst hsz
  have hD := hD0.self (sz := s.heap.size)
  generalize hAe : va_A [(o, .inr (1, tmFs0))] s.heap.size = A at hD ⊢
  have hA : ∀ q : Nat, s.heap.size ≤ q → A q := fun q h => by rw [← hAe]; exact Or.inr h
  have hS : va_S A s.heap s.heap [] := va_S.rf
  have hl := lv_entry ([.ref o]) (n := 1) (Nat.le_of_ble_eq_true rfl)
  rw [lg_entry_eq]
  generalize (lg_sl ([.ref o]) ++ List.replicate (1 - (lg_sl ([.ref o])).length) Slot.unset).toArray = ls at hl ⊢
  have hl : lv_has ls 1 [(0, .ref o)] := hl
  refine lv_aload_n hx hb dX1_init_0 rfl (lv_at hl 0 rfl) ?_
  refine W.objInit hx hb hown (hts _ q231) (hts _ q27) (hts _ q28) rfl (by rw [hml]; exact hl.1) rfl dX1_init_1 (Nat.le_of_ble_eq_true rfl) (Nat.le_of_ble_eq_true rfl) ?_
  refine W.eq (g2 := F0 m 4 ls []) rfl ?_
  have hP : va_P D vwCl [(o, .inr (1, [.null, .null, .null, .null, .null, .null, .null, .null]))] s.heap := hP
  have hD : va_D A [(o, .inr (1, [.null, .null, .null, .null, .null, .null, .null, .null]))] := hD
  refine lv_aload_n hx hb dX1_init_4 rfl (lv_at hl 0 rfl) ?_
  refine lv_bipush (v := 31) hx hb dX1_init_5 (by decide) ?_
  refine va_newa (a0 := (31, .inl (fun _ => 0))) (atype := .boolean) (ty := .boolean) hx hb (hts _ q130) rfl hK hP hD hS hA (fun _ => rfl) (by decide) (by decide) (by decide) (by decide) (by decide) dX1_init_7 (fun q_0 c_0 H hK hP hD hS => ?_)
  refine W.widen (k := 1) (n := 31) (by decide) (by decide) ?_
  have hP : va_P D vwCl [(o, .inr (1, [.null, .null, .null, .null, .null, .null, .null, .null])), (q_0, .inl (c_0, 31, .inl (fun _ => 0)))] H := hP
  have hD : va_D A [(o, .inr (1, [.null, .null, .null, .null, .null, .null, .null, .null])), (q_0, .inl (c_0, 31, .inl (fun _ => 0)))] := hD
  have hK : va_K D vwCl [(c_0, .boolean)] s := hK
  refine va_putF (D := D) (ci := 1) (v := .ref q_0) (ty := .array .boolean) (C := RX1) (T := TX1) (N := 8) hx hb hts in_X1 tyX1 tyX1_ok nmX1 hown hK hP hD hS 0 rfl rfl 0 (by decide) (hts _ tml0) (fun _ h9 => h9) rfl hin rfl (by decide +kernel) rfl rfl (Nat.le_of_ble_eq_true rfl) dX1_init_9 (fun H locs hP hD hS => ?_)
  have hP : va_P D vwCl [(o, .inr (1, [.ref q_0, .null, .null, .null, .null, .null, .null, .null])), (q_0, .inl (c_0, 31, .inl (fun _ => 0)))] H := hP
  have hD : va_D A [(o, .inr (1, [.ref q_0, .null, .null, .null, .null, .null, .null, .null])), (q_0, .inl (c_0, 31, .inl (fun _ => 0)))] := hD
  refine lv_aload_n hx hb dX1_init_12 rfl (lv_at hl 0 rfl) ?_
  refine lv_bipush (v := 31) hx hb dX1_init_13 (by decide) ?_
  refine va_newa (a0 := (31, .inl (fun _ => 0))) (atype := .boolean) (ty := .boolean) hx hb (hts _ q130) rfl hK hP hD hS hA (fun _ => rfl) (by decide) (by decide) (by decide) (by decide) (by decide) dX1_init_15 (fun q_1 c_1 H hK hP hD hS => ?_)
  refine W.widen (k := 2) (n := 62) (by decide) (by decide) ?_
  have hP : va_P D vwCl [(o, .inr (1, [.ref q_0, .null, .null, .null, .null, .null, .null, .null])), (q_0, .inl (c_0, 31, .inl (fun _ => 0))), (q_1, .inl (c_1, 31, .inl (fun _ => 0)))] H := hP
  have hD : va_D A [(o, .inr (1, [.ref q_0, .null, .null, .null, .null, .null, .null, .null])), (q_0, .inl (c_0, 31, .inl (fun _ => 0))), (q_1, .inl (c_1, 31, .inl (fun _ => 0)))] := hD
  have hK : va_K D vwCl [(c_0, .boolean), (c_1, .boolean)] s := hK
  refine va_putF (D := D) (ci := 1) (v := .ref q_1) (ty := .array .boolean) (C := RX1) (T := TX1) (N := 8) hx hb hts in_X1 tyX1 tyX1_ok nmX1 hown hK hP hD hS 0 rfl rfl 1 (by decide) (hts _ tml1) (fun _ h9 => h9) rfl hin rfl (by decide +kernel) rfl rfl (Nat.le_of_ble_eq_true rfl) dX1_init_17 (fun H locs hP hD hS => ?_)
  have hP : va_P D vwCl [(o, .inr (1, [.ref q_0, .ref q_1, .null, .null, .null, .null, .null, .null])), (q_0, .inl (c_0, 31, .inl (fun _ => 0))), (q_1, .inl (c_1, 31, .inl (fun _ => 0)))] H := hP
  have hD : va_D A [(o, .inr (1, [.ref q_0, .ref q_1, .null, .null, .null, .null, .null, .null])), (q_0, .inl (c_0, 31, .inl (fun _ => 0))), (q_1, .inl (c_1, 31, .inl (fun _ => 0)))] := hD
  refine lv_aload_n hx hb dX1_init_20 rfl (lv_at hl 0 rfl) ?_
  refine lv_bipush (v := 31) hx hb dX1_init_21 (by decide) ?_
  refine va_newa (a0 := (31, .inl (fun _ => 0))) (atype := .int) (ty := .int) hx hb (hts _ q129) rfl hK hP hD hS hA (fun _ => rfl) (by decide) (by decide) (by decide) (by decide) (by decide) dX1_init_23 (fun q_2 c_2 H hK hP hD hS => ?_)
  refine W.widen (k := 3) (n := 93) (by decide) (by decide) ?_
  have hP : va_P D vwCl [(o, .inr (1, [.ref q_0, .ref q_1, .null, .null, .null, .null, .null, .null])), (q_0, .inl (c_0, 31, .inl (fun _ => 0))), (q_1, .inl (c_1, 31, .inl (fun _ => 0))), (q_2, .inl (c_2, 31, .inl (fun _ => 0)))] H := hP
  have hD : va_D A [(o, .inr (1, [.ref q_0, .ref q_1, .null, .null, .null, .null, .null, .null])), (q_0, .inl (c_0, 31, .inl (fun _ => 0))), (q_1, .inl (c_1, 31, .inl (fun _ => 0))), (q_2, .inl (c_2, 31, .inl (fun _ => 0)))] := hD
  have hK : va_K D vwCl [(c_0, .boolean), (c_1, .boolean), (c_2, .int)] s := hK
  refine va_putF (D := D) (ci := 1) (v := .ref q_2) (ty := .array .int) (C := RX1) (T := TX1) (N := 8) hx hb hts in_X1 tyX1 tyX1_ok nmX1 hown hK hP hD hS 0 rfl rfl 2 (by decide) (hts _ tml2) (fun _ h9 => h9) rfl hin rfl (by decide +kernel) rfl rfl (Nat.le_of_ble_eq_true rfl) dX1_init_25 (fun H locs hP hD hS => ?_)
  have hP : va_P D vwCl [(o, .inr (1, [.ref q_0, .ref q_1, .ref q_2, .null, .null, .null, .null, .null])), (q_0, .inl (c_0, 31, .inl (fun _ => 0))), (q_1, .inl (c_1, 31, .inl (fun _ => 0))), (q_2, .inl (c_2, 31, .inl (fun _ => 0)))] H := hP
  have hD : va_D A [(o, .inr (1, [.ref q_0, .ref q_1, .ref q_2, .null, .null, .null, .null, .null])), (q_0, .inl (c_0, 31, .inl (fun _ => 0))), (q_1, .inl (c_1, 31, .inl (fun _ => 0))), (q_2, .inl (c_2, 31, .inl (fun _ => 0)))] := hD
  refine lv_aload_n hx hb dX1_init_28 rfl (lv_at hl 0 rfl) ?_
  refine lv_bipush (v := 31) hx hb dX1_init_29 (by decide) ?_
  refine va_newa (a0 := (31, .inl (fun _ => 0))) (atype := .int) (ty := .int) hx hb (hts _ q129) rfl hK hP hD hS hA (fun _ => rfl) (by decide) (by decide) (by decide) (by decide) (by decide) dX1_init_31 (fun q_3 c_3 H hK hP hD hS => ?_)
  refine W.widen (k := 4) (n := 124) (by decide) (by decide) ?_
  have hP : va_P D vwCl [(o, .inr (1, [.ref q_0, .ref q_1, .ref q_2, .null, .null, .null, .null, .null])), (q_0, .inl (c_0, 31, .inl (fun _ => 0))), (q_1, .inl (c_1, 31, .inl (fun _ => 0))), (q_2, .inl (c_2, 31, .inl (fun _ => 0))), (q_3, .inl (c_3, 31, .inl (fun _ => 0)))] H := hP
  have hD : va_D A [(o, .inr (1, [.ref q_0, .ref q_1, .ref q_2, .null, .null, .null, .null, .null])), (q_0, .inl (c_0, 31, .inl (fun _ => 0))), (q_1, .inl (c_1, 31, .inl (fun _ => 0))), (q_2, .inl (c_2, 31, .inl (fun _ => 0))), (q_3, .inl (c_3, 31, .inl (fun _ => 0)))] := hD
  have hK : va_K D vwCl [(c_0, .boolean), (c_1, .boolean), (c_2, .int), (c_3, .int)] s := hK
  refine va_putF (D := D) (ci := 1) (v := .ref q_3) (ty := .array .int) (C := RX1) (T := TX1) (N := 8) hx hb hts in_X1 tyX1 tyX1_ok nmX1 hown hK hP hD hS 0 rfl rfl 3 (by decide) (hts _ tml3) (fun _ h9 => h9) rfl hin rfl (by decide +kernel) rfl rfl (Nat.le_of_ble_eq_true rfl) dX1_init_33 (fun H locs hP hD hS => ?_)
  have hP : va_P D vwCl [(o, .inr (1, [.ref q_0, .ref q_1, .ref q_2, .ref q_3, .null, .null, .null, .null])), (q_0, .inl (c_0, 31, .inl (fun _ => 0))), (q_1, .inl (c_1, 31, .inl (fun _ => 0))), (q_2, .inl (c_2, 31, .inl (fun _ => 0))), (q_3, .inl (c_3, 31, .inl (fun _ => 0)))] H := hP
  have hD : va_D A [(o, .inr (1, [.ref q_0, .ref q_1, .ref q_2, .ref q_3, .null, .null, .null, .null])), (q_0, .inl (c_0, 31, .inl (fun _ => 0))), (q_1, .inl (c_1, 31, .inl (fun _ => 0))), (q_2, .inl (c_2, 31, .inl (fun _ => 0))), (q_3, .inl (c_3, 31, .inl (fun _ => 0)))] := hD
  refine lv_aload_n hx hb dX1_init_36 rfl (lv_at hl 0 rfl) ?_
  refine lv_bipush (v := 31) hx hb dX1_init_37 (by decide) ?_
  refine va_newa (a0 := (31, .inl (fun _ => 0))) (atype := .int) (ty := .int) hx hb (hts _ q129) rfl hK hP hD hS hA (fun _ => rfl) (by decide) (by decide) (by decide) (by decide) (by decide) dX1_init_39 (fun q_4 c_4 H hK hP hD hS => ?_)
  refine W.widen (k := 5) (n := 155) (by decide) (by decide) ?_
  have hP : va_P D vwCl [(o, .inr (1, [.ref q_0, .ref q_1, .ref q_2, .ref q_3, .null, .null, .null, .null])), (q_0, .inl (c_0, 31, .inl (fun _ => 0))), (q_1, .inl (c_1, 31, .inl (fun _ => 0))), (q_2, .inl (c_2, 31, .inl (fun _ => 0))), (q_3, .inl (c_3, 31, .inl (fun _ => 0))), (q_4, .inl (c_4, 31, .inl (fun _ => 0)))] H := hP
  have hD : va_D A [(o, .inr (1, [.ref q_0, .ref q_1, .ref q_2, .ref q_3, .null, .null, .null, .null])), (q_0, .inl (c_0, 31, .inl (fun _ => 0))), (q_1, .inl (c_1, 31, .inl (fun _ => 0))), (q_2, .inl (c_2, 31, .inl (fun _ => 0))), (q_3, .inl (c_3, 31, .inl (fun _ => 0))), (q_4, .inl (c_4, 31, .inl (fun _ => 0)))] := hD
  have hK : va_K D vwCl [(c_0, .boolean), (c_1, .boolean), (c_2, .int), (c_3, .int), (c_4, .int)] s := hK
  refine va_putF (D := D) (ci := 1) (v := .ref q_4) (ty := .array .int) (C := RX1) (T := TX1) (N := 8) hx hb hts in_X1 tyX1 tyX1_ok nmX1 hown hK hP hD hS 0 rfl rfl 4 (by decide) (hts _ tml4) (fun _ h9 => h9) rfl hin rfl (by decide +kernel) rfl rfl (Nat.le_of_ble_eq_true rfl) dX1_init_41 (fun H locs hP hD hS => ?_)
  have hP : va_P D vwCl [(o, .inr (1, [.ref q_0, .ref q_1, .ref q_2, .ref q_3, .ref q_4, .null, .null, .null])), (q_0, .inl (c_0, 31, .inl (fun _ => 0))), (q_1, .inl (c_1, 31, .inl (fun _ => 0))), (q_2, .inl (c_2, 31, .inl (fun _ => 0))), (q_3, .inl (c_3, 31, .inl (fun _ => 0))), (q_4, .inl (c_4, 31, .inl (fun _ => 0)))] H := hP
  have hD : va_D A [(o, .inr (1, [.ref q_0, .ref q_1, .ref q_2, .ref q_3, .ref q_4, .null, .null, .null])), (q_0, .inl (c_0, 31, .inl (fun _ => 0))), (q_1, .inl (c_1, 31, .inl (fun _ => 0))), (q_2, .inl (c_2, 31, .inl (fun _ => 0))), (q_3, .inl (c_3, 31, .inl (fun _ => 0))), (q_4, .inl (c_4, 31, .inl (fun _ => 0)))] := hD
  refine lv_aload_n hx hb dX1_init_44 rfl (lv_at hl 0 rfl) ?_
  refine lv_bipush (v := 31) hx hb dX1_init_45 (by decide) ?_
  refine va_newa (a0 := (31, .inl (fun _ => 0))) (atype := .int) (ty := .int) hx hb (hts _ q129) rfl hK hP hD hS hA (fun _ => rfl) (by decide) (by decide) (by decide) (by decide) (by decide) dX1_init_47 (fun q_5 c_5 H hK hP hD hS => ?_)
  refine W.widen (k := 6) (n := 186) (by decide) (by decide) ?_
  have hP : va_P D vwCl [(o, .inr (1, [.ref q_0, .ref q_1, .ref q_2, .ref q_3, .ref q_4, .null, .null, .null])), (q_0, .inl (c_0, 31, .inl (fun _ => 0))), (q_1, .inl (c_1, 31, .inl (fun _ => 0))), (q_2, .inl (c_2, 31, .inl (fun _ => 0))), (q_3, .inl (c_3, 31, .inl (fun _ => 0))), (q_4, .inl (c_4, 31, .inl (fun _ => 0))), (q_5, .inl (c_5, 31, .inl (fun _ => 0)))] H := hP
  have hD : va_D A [(o, .inr (1, [.ref q_0, .ref q_1, .ref q_2, .ref q_3, .ref q_4, .null, .null, .null])), (q_0, .inl (c_0, 31, .inl (fun _ => 0))), (q_1, .inl (c_1, 31, .inl (fun _ => 0))), (q_2, .inl (c_2, 31, .inl (fun _ => 0))), (q_3, .inl (c_3, 31, .inl (fun _ => 0))), (q_4, .inl (c_4, 31, .inl (fun _ => 0))), (q_5, .inl (c_5, 31, .inl (fun _ => 0)))] := hD
  have hK : va_K D vwCl [(c_0, .boolean), (c_1, .boolean), (c_2, .int), (c_3, .int), (c_4, .int), (c_5, .int)] s := hK
  refine va_putF (D := D) (ci := 1) (v := .ref q_5) (ty := .array .int) (C := RX1) (T := TX1) (N := 8) hx hb hts in_X1 tyX1 tyX1_ok nmX1 hown hK hP hD hS 0 rfl rfl 5 (by decide) (hts _ tml5) (fun _ h9 => h9) rfl hin rfl (by decide +kernel) rfl rfl (Nat.le_of_ble_eq_true rfl) dX1_init_49 (fun H locs hP hD hS => ?_)
  have hP : va_P D vwCl [(o, .inr (1, [.ref q_0, .ref q_1, .ref q_2, .ref q_3, .ref q_4, .ref q_5, .null, .null])), (q_0, .inl (c_0, 31, .inl (fun _ => 0))), (q_1, .inl (c_1, 31, .inl (fun _ => 0))), (q_2, .inl (c_2, 31, .inl (fun _ => 0))), (q_3, .inl (c_3, 31, .inl (fun _ => 0))), (q_4, .inl (c_4, 31, .inl (fun _ => 0))), (q_5, .inl (c_5, 31, .inl (fun _ => 0)))] H := hP
  have hD : va_D A [(o, .inr (1, [.ref q_0, .ref q_1, .ref q_2, .ref q_3, .ref q_4, .ref q_5, .null, .null])), (q_0, .inl (c_0, 31, .inl (fun _ => 0))), (q_1, .inl (c_1, 31, .inl (fun _ => 0))), (q_2, .inl (c_2, 31, .inl (fun _ => 0))), (q_3, .inl (c_3, 31, .inl (fun _ => 0))), (q_4, .inl (c_4, 31, .inl (fun _ => 0))), (q_5, .inl (c_5, 31, .inl (fun _ => 0)))] := hD
  refine lv_aload_n hx hb dX1_init_52 rfl (lv_at hl 0 rfl) ?_
  refine lv_bipush (v := 31) hx hb dX1_init_53 (by decide) ?_
  refine va_newa (a0 := (31, .inl (fun _ => 0))) (atype := .boolean) (ty := .boolean) hx hb (hts _ q130) rfl hK hP hD hS hA (fun _ => rfl) (by decide) (by decide) (by decide) (by decide) (by decide) dX1_init_55 (fun q_6 c_6 H hK hP hD hS => ?_)
  refine W.widen (k := 7) (n := 217) (by decide) (by decide) ?_
  have hP : va_P D vwCl [(o, .inr (1, [.ref q_0, .ref q_1, .ref q_2, .ref q_3, .ref q_4, .ref q_5, .null, .null])), (q_0, .inl (c_0, 31, .inl (fun _ => 0))), (q_1, .inl (c_1, 31, .inl (fun _ => 0))), (q_2, .inl (c_2, 31, .inl (fun _ => 0))), (q_3, .inl (c_3, 31, .inl (fun _ => 0))), (q_4, .inl (c_4, 31, .inl (fun _ => 0))), (q_5, .inl (c_5, 31, .inl (fun _ => 0))), (q_6, .inl (c_6, 31, .inl (fun _ => 0)))] H := hP
  have hD : va_D A [(o, .inr (1, [.ref q_0, .ref q_1, .ref q_2, .ref q_3, .ref q_4, .ref q_5, .null, .null])), (q_0, .inl (c_0, 31, .inl (fun _ => 0))), (q_1, .inl (c_1, 31, .inl (fun _ => 0))), (q_2, .inl (c_2, 31, .inl (fun _ => 0))), (q_3, .inl (c_3, 31, .inl (fun _ => 0))), (q_4, .inl (c_4, 31, .inl (fun _ => 0))), (q_5, .inl (c_5, 31, .inl (fun _ => 0))), (q_6, .inl (c_6, 31, .inl (fun _ => 0)))] := hD
  have hK : va_K D vwCl [(c_0, .boolean), (c_1, .boolean), (c_2, .int), (c_3, .int), (c_4, .int), (c_5, .int), (c_6, .boolean)] s := hK
  refine va_putF (D := D) (ci := 1) (v := .ref q_6) (ty := .array .boolean) (C := RX1) (T := TX1) (N := 8) hx hb hts in_X1 tyX1 tyX1_ok nmX1 hown hK hP hD hS 0 rfl rfl 6 (by decide) (hts _ tml6) (fun _ h9 => h9) rfl hin rfl (by decide +kernel) rfl rfl (Nat.le_of_ble_eq_true rfl) dX1_init_57 (fun H locs hP hD hS => ?_)
  have hP : va_P D vwCl [(o, .inr (1, [.ref q_0, .ref q_1, .ref q_2, .ref q_3, .ref q_4, .ref q_5, .ref q_6, .null])), (q_0, .inl (c_0, 31, .inl (fun _ => 0))), (q_1, .inl (c_1, 31, .inl (fun _ => 0))), (q_2, .inl (c_2, 31, .inl (fun _ => 0))), (q_3, .inl (c_3, 31, .inl (fun _ => 0))), (q_4, .inl (c_4, 31, .inl (fun _ => 0))), (q_5, .inl (c_5, 31, .inl (fun _ => 0))), (q_6, .inl (c_6, 31, .inl (fun _ => 0)))] H := hP
  have hD : va_D A [(o, .inr (1, [.ref q_0, .ref q_1, .ref q_2, .ref q_3, .ref q_4, .ref q_5, .ref q_6, .null])), (q_0, .inl (c_0, 31, .inl (fun _ => 0))), (q_1, .inl (c_1, 31, .inl (fun _ => 0))), (q_2, .inl (c_2, 31, .inl (fun _ => 0))), (q_3, .inl (c_3, 31, .inl (fun _ => 0))), (q_4, .inl (c_4, 31, .inl (fun _ => 0))), (q_5, .inl (c_5, 31, .inl (fun _ => 0))), (q_6, .inl (c_6, 31, .inl (fun _ => 0)))] := hD
  refine lv_aload_n hx hb dX1_init_60 rfl (lv_at hl 0 rfl) ?_
  refine lv_bipush (v := 31) hx hb dX1_init_61 (by decide) ?_
  refine va_newa (a0 := (31, .inl (fun _ => 0))) (atype := .int) (ty := .int) hx hb (hts _ q129) rfl hK hP hD hS hA (fun _ => rfl) (by decide) (by decide) (by decide) (by decide) (by decide) dX1_init_63 (fun q_7 c_7 H hK hP hD hS => ?_)
  refine W.widen (k := 8) (n := 248) (by decide) (by decide) ?_
  have hP : va_P D vwCl [(o, .inr (1, [.ref q_0, .ref q_1, .ref q_2, .ref q_3, .ref q_4, .ref q_5, .ref q_6, .null])), (q_0, .inl (c_0, 31, .inl (fun _ => 0))), (q_1, .inl (c_1, 31, .inl (fun _ => 0))), (q_2, .inl (c_2, 31, .inl (fun _ => 0))), (q_3, .inl (c_3, 31, .inl (fun _ => 0))), (q_4, .inl (c_4, 31, .inl (fun _ => 0))), (q_5, .inl (c_5, 31, .inl (fun _ => 0))), (q_6, .inl (c_6, 31, .inl (fun _ => 0))), (q_7, .inl (c_7, 31, .inl (fun _ => 0)))] H := hP
  have hD : va_D A [(o, .inr (1, [.ref q_0, .ref q_1, .ref q_2, .ref q_3, .ref q_4, .ref q_5, .ref q_6, .null])), (q_0, .inl (c_0, 31, .inl (fun _ => 0))), (q_1, .inl (c_1, 31, .inl (fun _ => 0))), (q_2, .inl (c_2, 31, .inl (fun _ => 0))), (q_3, .inl (c_3, 31, .inl (fun _ => 0))), (q_4, .inl (c_4, 31, .inl (fun _ => 0))), (q_5, .inl (c_5, 31, .inl (fun _ => 0))), (q_6, .inl (c_6, 31, .inl (fun _ => 0))), (q_7, .inl (c_7, 31, .inl (fun _ => 0)))] := hD
  have hK : va_K D vwCl [(c_0, .boolean), (c_1, .boolean), (c_2, .int), (c_3, .int), (c_4, .int), (c_5, .int), (c_6, .boolean), (c_7, .int)] s := hK
  refine va_putF (D := D) (ci := 1) (v := .ref q_7) (ty := .array .int) (C := RX1) (T := TX1) (N := 8) hx hb hts in_X1 tyX1 tyX1_ok nmX1 hown hK hP hD hS 0 rfl rfl 7 (by decide) (hts _ tml7) (fun _ h9 => h9) rfl hin rfl (by decide +kernel) rfl rfl (Nat.le_of_ble_eq_true rfl) dX1_init_65 (fun H locs hP hD hS => ?_)
  have hP : va_P D vwCl [(o, .inr (1, [.ref q_0, .ref q_1, .ref q_2, .ref q_3, .ref q_4, .ref q_5, .ref q_6, .ref q_7])), (q_0, .inl (c_0, 31, .inl (fun _ => 0))), (q_1, .inl (c_1, 31, .inl (fun _ => 0))), (q_2, .inl (c_2, 31, .inl (fun _ => 0))), (q_3, .inl (c_3, 31, .inl (fun _ => 0))), (q_4, .inl (c_4, 31, .inl (fun _ => 0))), (q_5, .inl (c_5, 31, .inl (fun _ => 0))), (q_6, .inl (c_6, 31, .inl (fun _ => 0))), (q_7, .inl (c_7, 31, .inl (fun _ => 0)))] H := hP
  have hD : va_D A [(o, .inr (1, [.ref q_0, .ref q_1, .ref q_2, .ref q_3, .ref q_4, .ref q_5, .ref q_6, .ref q_7])), (q_0, .inl (c_0, 31, .inl (fun _ => 0))), (q_1, .inl (c_1, 31, .inl (fun _ => 0))), (q_2, .inl (c_2, 31, .inl (fun _ => 0))), (q_3, .inl (c_3, 31, .inl (fun _ => 0))), (q_4, .inl (c_4, 31, .inl (fun _ => 0))), (q_5, .inl (c_5, 31, .inl (fun _ => 0))), (q_6, .inl (c_6, 31, .inl (fun _ => 0))), (q_7, .inl (c_7, 31, .inl (fun _ => 0)))] := hD
  obtain ⟨h, hh⟩ : ∃ h : Nat → Nat, h = (fun k => if k = 0 then q_0 else if k = 1 then q_1 else if k = 2 then q_2 else if k = 3 then q_3 else if k = 4 then q_4 else if k = 5 then q_5 else if k = 6 then q_6 else if k = 7 then q_7 else  0) := ⟨_, rfl⟩
  obtain ⟨cA, hc⟩ : ∃ cA : Nat → ClassId, cA = (fun k => if k = 0 then c_0 else if k = 1 then c_1 else if k = 2 then c_2 else if k = 3 then c_3 else if k = 4 then c_4 else if k = 5 then c_5 else if k = 6 then c_6 else if k = 7 then c_7 else  c_0) := ⟨_, rfl⟩
  have hP : va_P D vwCl (tmW cA o h (fun _ _ => 0) (fun _ => 0)) H := by subst hh hc; exact hP
  have hD : va_D A (tmW cA o h (fun _ _ => 0) (fun _ => 0)) := by subst hh hc; exact hD
  have hK : va_K D vwCl (tmTy cA) s := by subst hc; exact hK
  have C : tmC p c cX1_init 1 s m _ D cA A := ⟨hx, hb, hml, hown, hts, hK, hA⟩
  have T : tmT D cA o h A s.heap (fun _ _ => 0) (fun _ => 0) H locs := ⟨hP, hD, hS⟩
  refine lv_aload_n hx hb dX1_init_68 rfl (lv_at hl 0 rfl) ?_
  refine tm_get C T 0 (by decide) tml0 rfl (v := .ref (h 0)) rfl dX1_init_69 ?_
  refine lv_iconst (v := 0) hx hb dX1_init_72 (by decide) ?_
  refine lv_iconst (v := 1) hx hb dX1_init_73 (by decide) ?_
  refine tm_zastN C T 0 _ _ _ tma0 tmt0 (by decide) (i := 0) (by decide) (by decide) tms0 dX1_init_74 (fun H locs T => ?_)
  exact W.vret hx hb hr (fun t ht hW => ⟨⟨(cA, h), rfl, trivial, by rw [ht]; exact T.1, va_K.moved hW.alike hK, T.2.1⟩, T.2.2.F ht⟩) T.2.2.2.2 dX1_init_75 hlk
def tkFs0 : List Value := [.null, .null, .null, .null, .null, .int 0, .null, .null, .null, .null, .int 0, .int 0, .null, .null, .null, .null, .null, .null, .null, .int 0, .int 0, .null, .null, .null, .null, .null, .null, .null, .null, .int 0, .int 0, .int 0, .int 0]
def tkX1 : xF := fS (fun _ _ => 0) 0 0 1
def tkRC : Room := { frames := 1, cells := 24, slots := 693, locals := 12 }
/-- the constructor: the object gets its arrays, all 0 but the first place of the first -/
theorem tk_init (l : Launch) (D : va_G) (o sz : Nat) : Met l yX0_init (ws_ yX0_init cX0_init 1 none) tkRC (va_Pc [.ref o] (fun U => U.heap.size = sz ∧ va_P D vwCl [(o, .inr (0, tkFs0))] U.heap ∧ va_K D vwCl [] U ∧ va_D (fun _ => True) [(o, .inr (0, tkFs0))])) (va_Qv (fun (_ : (Nat → ClassId) × (Nat → Nat)) => True) (fun u t => va_P D vwCl (tkW u.1 o u.2 tkX1 (fun _ => 0)) t.heap ∧ va_K D vwCl (tkTy u.1) t ∧ va_D (va_A [(o, .inr (0, tkFs0))] sz) (tkW u.1 o u.2 tkX1 (fun _ => 0))) (va_A [(o, .inr (0, tkFs0))] sz)) 24 693 (va_A [(o, .inr (0, tkFs0))] sz) := by
  refine Met.ofW (cc := cX0_init) (maxL := 1) (ret := none) (by decide) rfl ?_
  intro p e s m args below meth c s₁ B hml hv
  obtain ⟨rfl, hsz, hP, hK, hD0⟩ := hv
  have hx := B.exec
  have hb := B.bytes
  have hr := B.returns
  have hts := atoms_spec (ws := ws_ yX0_init cX0_init 1 none) B.pre
  have hts : ∀ w ∈ lw_all, w.before _ s = true := fun w h => hts w (List.mem_cons_of_mem _ h)
  have hown : s.vm.findClass RX0 = some m.cls := findClass_of_methodNamed B.named
  have hlk := B.notSynchronized
  have hin : meth.name = "<init>" := (name_of_methodNamed B.named B.method).1
  subst hsz
  have hD := hD0.self (sz := s.heap.size)
  generalize hAe : va_A [(o, .inr (0, tkFs0))] s.heap.size = A at hD ⊢
  have hA : ∀ q : Nat, s.heap.size ≤ q → A q := fun q h => by rw [← hAe]; exact Or.inr h
  have hS : va_S A s.heap s.heap [] := va_S.rf
  have hl := lv_entry ([.ref o]) (n := 1) (Nat.le_of_ble_eq_true rfl)
  rw [lg_entry_eq]
  generalize (lg_sl ([.ref o]) ++ List.replicate (1 - (lg_sl ([.ref o])).length) Slot.unset).toArray = ls at hl ⊢
  have hl : lv_has ls 1 [(0, .ref o)] := hl
  refine lv_aload_n hx hb dX0_init_0 rfl (lv_at hl 0 rfl) ?_
  refine W.objInit hx hb hown (hts _ q26) (hts _ q27) (hts _ q28) rfl (by rw [hml]; exact hl.1) rfl dX0_init_1 (Nat.le_of_ble_eq_true rfl) (Nat.le_of_ble_eq_true rfl) ?_
  refine W.eq (g2 := F0 m 4 ls []) rfl ?_
  have hP : va_P D vwCl [(o, .inr (0, [.null, .null, .null, .null, .null, .int 0, .null, .null, .null, .null, .int 0, .int 0, .null, .null, .null, .null, .null, .null, .null, .int 0, .int 0, .null, .null, .null, .null, .null, .null, .null, .null, .int 0, .int 0, .int 0, .int 0]))] s.heap := hP
  have hD : va_D A [(o, .inr (0, [.null, .null, .null, .null, .null, .int 0, .null, .null, .null, .null, .int 0, .int 0, .null, .null, .null, .null, .null, .null, .null, .int 0, .int 0, .null, .null, .null, .null, .null, .null, .null, .null, .int 0, .int 0, .int 0, .int 0]))] := hD
  refine lv_aload_n hx hb dX0_init_4 rfl (lv_at hl 0 rfl) ?_
  refine lv_bipush (v := 31) hx hb dX0_init_5 (by decide) ?_
  refine va_newa (a0 := (31, .inl (fun _ => 0))) (atype := .int) (ty := .int) hx hb (hts _ q129) rfl hK hP hD hS hA (fun _ => rfl) (by decide) (by decide) (by decide) (by decide) (by decide) dX0_init_7 (fun q_0 c_0 H hK hP hD hS => ?_)
  refine W.widen (k := 1) (n := 31) (by decide) (by decide) ?_
  have hP : va_P D vwCl [(o, .inr (0, [.null, .null, .null, .null, .null, .int 0, .null, .null, .null, .null, .int 0, .int 0, .null, .null, .null, .null, .null, .null, .null, .int 0, .int 0, .null, .null, .null, .null, .null, .null, .null, .null, .int 0, .int 0, .int 0, .int 0])), (q_0, .inl (c_0, 31, .inl (fun _ => 0)))] H := hP
  have hD : va_D A [(o, .inr (0, [.null, .null, .null, .null, .null, .int 0, .null, .null, .null, .null, .int 0, .int 0, .null, .null, .null, .null, .null, .null, .null, .int 0, .int 0, .null, .null, .null, .null, .null, .null, .null, .null, .int 0, .int 0, .int 0, .int 0])), (q_0, .inl (c_0, 31, .inl (fun _ => 0)))] := hD
  have hK : va_K D vwCl [(c_0, .int)] s := hK
  refine va_putF (D := D) (ci := 0) (v := .ref q_0) (ty := .array .int) (C := RX0) (T := TX0) (N := 33) hx hb hts in_X0 tyX0 tyX0_ok nmX0 hown hK hP hD hS 0 rfl rfl 0 (by decide) (hts _ tkl0) (fun _ h9 => h9) rfl hin rfl (by decide +kernel) rfl rfl (Nat.le_of_ble_eq_true rfl) dX0_init_9 (fun H locs hP hD hS => ?_)
  have hP : va_P D vwCl [(o, .inr (0, [.ref q_0, .null, .null, .null, .null, .int 0, .null, .null, .null, .null, .int 0, .int 0, .null, .null, .null, .null, .null, .null, .null, .int 0, .int 0, .null, .null, .null, .null, .null, .null, .null, .null, .int 0, .int 0, .int 0, .int 0])), (q_0, .inl (c_0, 31, .inl (fun _ => 0)))] H := hP
  have hD : va_D A [(o, .inr (0, [.ref q_0, .null, .null, .null, .null, .int 0, .null, .null, .null, .null, .int 0, .int 0, .null, .null, .null, .null, .null, .null, .null, .int 0, .int 0, .null, .null, .null, .null, .null, .null, .null, .null, .int 0, .int 0, .int 0, .int 0])), (q_0, .inl (c_0, 31, .inl (fun _ => 0)))] := hD
  refine lv_aload_n hx hb dX0_init_12 rfl (lv_at hl 0 rfl) ?_
  refine lv_bipush (v := 31) hx hb dX0_init_13 (by decide) ?_
  refine va_newa (a0 := (31, .inl (fun _ => 0))) (atype := .int) (ty := .int) hx hb (hts _ q129) rfl hK hP hD hS hA (fun _ => rfl) (by decide) (by decide) (by decide) (by decide) (by decide) dX0_init_15 (fun q_1 c_1 H hK hP hD hS => ?_)
  refine W.widen (k := 2) (n := 62) (by decide) (by decide) ?_
  have hP : va_P D vwCl [(o, .inr (0, [.ref q_0, .null, .null, .null, .null, .int 0, .null, .null, .null, .null, .int 0, .int 0, .null, .null, .null, .null, .null, .null, .null, .int 0, .int 0, .null, .null, .null, .null, .null, .null, .null, .null, .int 0, .int 0, .int 0, .int 0])), (q_0, .inl (c_0, 31, .inl (fun _ => 0))), (q_1, .inl (c_1, 31, .inl (fun _ => 0)))] H := hP
  have hD : va_D A [(o, .inr (0, [.ref q_0, .null, .null, .null, .null, .int 0, .null, .null, .null, .null, .int 0, .int 0, .null, .null, .null, .null, .null, .null, .null, .int 0, .int 0, .null, .null, .null, .null, .null, .null, .null, .null, .int 0, .int 0, .int 0, .int 0])), (q_0, .inl (c_0, 31, .inl (fun _ => 0))), (q_1, .inl (c_1, 31, .inl (fun _ => 0)))] := hD
  have hK : va_K D vwCl [(c_0, .int), (c_1, .int)] s := hK
  refine va_putF (D := D) (ci := 0) (v := .ref q_1) (ty := .array .int) (C := RX0) (T := TX0) (N := 33) hx hb hts in_X0 tyX0 tyX0_ok nmX0 hown hK hP hD hS 0 rfl rfl 1 (by decide) (hts _ tkl1) (fun _ h9 => h9) rfl hin rfl (by decide +kernel) rfl rfl (Nat.le_of_ble_eq_true rfl) dX0_init_17 (fun H locs hP hD hS => ?_)
  have hP : va_P D vwCl [(o, .inr (0, [.ref q_0, .ref q_1, .null, .null, .null, .int 0, .null, .null, .null, .null, .int 0, .int 0, .null, .null, .null, .null, .null, .null, .null, .int 0, .int 0, .null, .null, .null, .null, .null, .null, .null, .null, .int 0, .int 0, .int 0, .int 0])), (q_0, .inl (c_0, 31, .inl (fun _ => 0))), (q_1, .inl (c_1, 31, .inl (fun _ => 0)))] H := hP
  have hD : va_D A [(o, .inr (0, [.ref q_0, .ref q_1, .null, .null, .null, .int 0, .null, .null, .null, .null, .int 0, .int 0, .null, .null, .null, .null, .null, .null, .null, .int 0, .int 0, .null, .null, .null, .null, .null, .null, .null, .null, .int 0, .int 0, .int 0, .int 0])), (q_0, .inl (c_0, 31, .inl (fun _ => 0))), (q_1, .inl (c_1, 31, .inl (fun _ => 0)))] := hD
  refine lv_aload_n hx hb dX0_init_20 rfl (lv_at hl 0 rfl) ?_
  refine lv_bipush (v := 31) hx hb dX0_init_21 (by decide) ?_
  refine va_newa (a0 := (31, .inl (fun _ => 0))) (atype := .int) (ty := .int) hx hb (hts _ q129) rfl hK hP hD hS hA (fun _ => rfl) (by decide) (by decide) (by decide) (by decide) (by decide) dX0_init_23 (fun q_2 c_2 H hK hP hD hS => ?_)
  refine W.widen (k := 3) (n := 93) (by decide) (by decide) ?_
  have hP : va_P D vwCl [(o, .inr (0, [.ref q_0, .ref q_1, .null, .null, .null, .int 0, .null, .null, .null, .null, .int 0, .int 0, .null, .null, .null, .null, .null, .null, .null, .int 0, .int 0, .null, .null, .null, .null, .null, .null, .null, .null, .int 0, .int 0, .int 0, .int 0])), (q_0, .inl (c_0, 31, .inl (fun _ => 0))), (q_1, .inl (c_1, 31, .inl (fun _ => 0))), (q_2, .inl (c_2, 31, .inl (fun _ => 0)))] H := hP
  have hD : va_D A [(o, .inr (0, [.ref q_0, .ref q_1, .null, .null, .null, .int 0, .null, .null, .null, .null, .int 0, .int 0, .null, .null, .null, .null, .null, .null, .null, .int 0, .int 0, .null, .null, .null, .null, .null, .null, .null, .null, .int 0, .int 0, .int 0, .int 0])), (q_0, .inl (c_0, 31, .inl (fun _ => 0))), (q_1, .inl (c_1, 31, .inl (fun _ => 0))), (q_2, .inl (c_2, 31, .inl (fun _ => 0)))] := hD
  have hK : va_K D vwCl [(c_0, .int), (c_1, .int), (c_2, .int)] s := hK
  refine va_putF (D := D) (ci := 0) (v := .ref q_2) (ty := .array .int) (C := RX0) (T := TX0) (N := 33) hx hb hts in_X0 tyX0 tyX0_ok nmX0 hown hK hP hD hS 0 rfl rfl 2 (by decide) (hts _ tkl2) (fun _ h9 => h9) rfl hin rfl (by decide +kernel) rfl rfl (Nat.le_of_ble_eq_true rfl) dX0_init_25 (fun H locs hP hD hS => ?_)
  have hP : va_P D vwCl [(o, .inr (0, [.ref q_0, .ref q_1, .ref q_2, .null, .null, .int 0, .null, .null, .null, .null, .int 0, .int 0, .null, .null, .null, .null, .null, .null, .null, .int 0, .int 0, .null, .null, .null, .null, .null, .null, .null, .null, .int 0, .int 0, .int 0, .int 0])), (q_0, .inl (c_0, 31, .inl (fun _ => 0))), (q_1, .inl (c_1, 31, .inl (fun _ => 0))), (q_2, .inl (c_2, 31, .inl (fun _ => 0)))] H := hP
  have hD : va_D A [(o, .inr (0, [.ref q_0, .ref q_1, .ref q_2, .null, .null, .int 0, .null, .null, .null, .null, .int 0, .int 0, .null, .null, .null, .null, .null, .null, .null, .int 0, .int 0, .null, .null, .null, .null, .null, .null, .null, .null, .int 0, .int 0, .int 0, .int 0])), (q_0, .inl (c_0, 31, .inl (fun _ => 0))), (q_1, .inl (c_1, 31, .inl (fun _ => 0))), (q_2, .inl (c_2, 31, .inl (fun _ => 0)))] := hD
  refine lv_aload_n hx hb dX0_init_28 rfl (lv_at hl 0 rfl) ?_
  refine lv_bipush (v := 31) hx hb dX0_init_29 (by decide) ?_
  refine va_newa (a0 := (31, .inl (fun _ => 0))) (atype := .int) (ty := .int) hx hb (hts _ q129) rfl hK hP hD hS hA (fun _ => rfl) (by decide) (by decide) (by decide) (by decide) (by decide) dX0_init_31 (fun q_3 c_3 H hK hP hD hS => ?_)
  refine W.widen (k := 4) (n := 124) (by decide) (by decide) ?_
  have hP : va_P D vwCl [(o, .inr (0, [.ref q_0, .ref q_1, .ref q_2, .null, .null, .int 0, .null, .null, .null, .null, .int 0, .int 0, .null, .null, .null, .null, .null, .null, .null, .int 0, .int 0, .null, .null, .null, .null, .null, .null, .null, .null, .int 0, .int 0, .int 0, .int 0])), (q_0, .inl (c_0, 31, .inl (fun _ => 0))), (q_1, .inl (c_1, 31, .inl (fun _ => 0))), (q_2, .inl (c_2, 31, .inl (fun _ => 0))), (q_3, .inl (c_3, 31, .inl (fun _ => 0)))] H := hP
  have hD : va_D A [(o, .inr (0, [.ref q_0, .ref q_1, .ref q_2, .null, .null, .int 0, .null, .null, .null, .null, .int 0, .int 0, .null, .null, .null, .null, .null, .null, .null, .int 0, .int 0, .null, .null, .null, .null, .null, .null, .null, .null, .int 0, .int 0, .int 0, .int 0])), (q_0, .inl (c_0, 31, .inl (fun _ => 0))), (q_1, .inl (c_1, 31, .inl (fun _ => 0))), (q_2, .inl (c_2, 31, .inl (fun _ => 0))), (q_3, .inl (c_3, 31, .inl (fun _ => 0)))] := hD
  have hK : va_K D vwCl [(c_0, .int), (c_1, .int), (c_2, .int), (c_3, .int)] s := hK
  refine va_putF (D := D) (ci := 0) (v := .ref q_3) (ty := .array .int) (C := RX0) (T := TX0) (N := 33) hx hb hts in_X0 tyX0 tyX0_ok nmX0 hown hK hP hD hS 0 rfl rfl 3 (by decide) (hts _ tkl3) (fun _ h9 => h9) rfl hin rfl (by decide +kernel) rfl rfl (Nat.le_of_ble_eq_true rfl) dX0_init_33 (fun H locs hP hD hS => ?_)
  have hP : va_P D vwCl [(o, .inr (0, [.ref q_0, .ref q_1, .ref q_2, .ref q_3, .null, .int 0, .null, .null, .null, .null, .int 0, .int 0, .null, .null, .null, .null, .null, .null, .null, .int 0, .int 0, .null, .null, .null, .null, .null, .null, .null, .null, .int 0, .int 0, .int 0, .int 0])), (q_0, .inl (c_0, 31, .inl (fun _ => 0))), (q_1, .inl (c_1, 31, .inl (fun _ => 0))), (q_2, .inl (c_2, 31, .inl (fun _ => 0))), (q_3, .inl (c_3, 31, .inl (fun _ => 0)))] H := hP
  have hD : va_D A [(o, .inr (0, [.ref q_0, .ref q_1, .ref q_2, .ref q_3, .null, .int 0, .null, .null, .null, .null, .int 0, .int 0, .null, .null, .null, .null, .null, .null, .null, .int 0, .int 0, .null, .null, .null, .null, .null, .null, .null, .null, .int 0, .int 0, .int 0, .int 0])), (q_0, .inl (c_0, 31, .inl (fun _ => 0))), (q_1, .inl (c_1, 31, .inl (fun _ => 0))), (q_2, .inl (c_2, 31, .inl (fun _ => 0))), (q_3, .inl (c_3, 31, .inl (fun _ => 0)))] := hD
  refine lv_aload_n hx hb dX0_init_36 rfl (lv_at hl 0 rfl) ?_
  refine lv_bipush (v := 31) hx hb dX0_init_37 (by decide) ?_
  refine va_newa (a0 := (31, .inl (fun _ => 0))) (atype := .int) (ty := .int) hx hb (hts _ q129) rfl hK hP hD hS hA (fun _ => rfl) (by decide) (by decide) (by decide) (by decide) (by decide) dX0_init_39 (fun q_4 c_4 H hK hP hD hS => ?_)
  refine W.widen (k := 5) (n := 155) (by decide) (by decide) ?_
  have hP : va_P D vwCl [(o, .inr (0, [.ref q_0, .ref q_1, .ref q_2, .ref q_3, .null, .int 0, .null, .null, .null, .null, .int 0, .int 0, .null, .null, .null, .null, .null, .null, .null, .int 0, .int 0, .null, .null, .null, .null, .null, .null, .null, .null, .int 0, .int 0, .int 0, .int 0])), (q_0, .inl (c_0, 31, .inl (fun _ => 0))), (q_1, .inl (c_1, 31, .inl (fun _ => 0))), (q_2, .inl (c_2, 31, .inl (fun _ => 0))), (q_3, .inl (c_3, 31, .inl (fun _ => 0))), (q_4, .inl (c_4, 31, .inl (fun _ => 0)))] H := hP
  have hD : va_D A [(o, .inr (0, [.ref q_0, .ref q_1, .ref q_2, .ref q_3, .null, .int 0, .null, .null, .null, .null, .int 0, .int 0, .null, .null, .null, .null, .null, .null, .null, .int 0, .int 0, .null, .null, .null, .null, .null, .null, .null, .null, .int 0, .int 0, .int 0, .int 0])), (q_0, .inl (c_0, 31, .inl (fun _ => 0))), (q_1, .inl (c_1, 31, .inl (fun _ => 0))), (q_2, .inl (c_2, 31, .inl (fun _ => 0))), (q_3, .inl (c_3, 31, .inl (fun _ => 0))), (q_4, .inl (c_4, 31, .inl (fun _ => 0)))] := hD
  have hK : va_K D vwCl [(c_0, .int), (c_1, .int), (c_2, .int), (c_3, .int), (c_4, .int)] s := hK
  refine va_putF (D := D) (ci := 0) (v := .ref q_4) (ty := .array .int) (C := RX0) (T := TX0) (N := 33) hx hb hts in_X0 tyX0 tyX0_ok nmX0 hown hK hP hD hS 0 rfl rfl 4 (by decide) (hts _ tkl4) (fun _ h9 => h9) rfl hin rfl (by decide +kernel) rfl rfl (Nat.le_of_ble_eq_true rfl) dX0_init_41 (fun H locs hP hD hS => ?_)
  have hP : va_P D vwCl [(o, .inr (0, [.ref q_0, .ref q_1, .ref q_2, .ref q_3, .ref q_4, .int 0, .null, .null, .null, .null, .int 0, .int 0, .null, .null, .null, .null, .null, .null, .null, .int 0, .int 0, .null, .null, .null, .null, .null, .null, .null, .null, .int 0, .int 0, .int 0, .int 0])), (q_0, .inl (c_0, 31, .inl (fun _ => 0))), (q_1, .inl (c_1, 31, .inl (fun _ => 0))), (q_2, .inl (c_2, 31, .inl (fun _ => 0))), (q_3, .inl (c_3, 31, .inl (fun _ => 0))), (q_4, .inl (c_4, 31, .inl (fun _ => 0)))] H := hP
  have hD : va_D A [(o, .inr (0, [.ref q_0, .ref q_1, .ref q_2, .ref q_3, .ref q_4, .int 0, .null, .null, .null, .null, .int 0, .int 0, .null, .null, .null, .null, .null, .null, .null, .int 0, .int 0, .null, .null, .null, .null, .null, .null, .null, .null, .int 0, .int 0, .int 0, .int 0])), (q_0, .inl (c_0, 31, .inl (fun _ => 0))), (q_1, .inl (c_1, 31, .inl (fun _ => 0))), (q_2, .inl (c_2, 31, .inl (fun _ => 0))), (q_3, .inl (c_3, 31, .inl (fun _ => 0))), (q_4, .inl (c_4, 31, .inl (fun _ => 0)))] := hD
  refine lv_aload_n hx hb dX0_init_44 rfl (lv_at hl 0 rfl) ?_
  refine lv_bipush (v := 31) hx hb dX0_init_45 (by decide) ?_
  refine va_newa (a0 := (31, .inl (fun _ => 0))) (atype := .int) (ty := .int) hx hb (hts _ q129) rfl hK hP hD hS hA (fun _ => rfl) (by decide) (by decide) (by decide) (by decide) (by decide) dX0_init_47 (fun q_6 c_6 H hK hP hD hS => ?_)
  refine W.widen (k := 6) (n := 186) (by decide) (by decide) ?_
  have hP : va_P D vwCl [(o, .inr (0, [.ref q_0, .ref q_1, .ref q_2, .ref q_3, .ref q_4, .int 0, .null, .null, .null, .null, .int 0, .int 0, .null, .null, .null, .null, .null, .null, .null, .int 0, .int 0, .null, .null, .null, .null, .null, .null, .null, .null, .int 0, .int 0, .int 0, .int 0])), (q_0, .inl (c_0, 31, .inl (fun _ => 0))), (q_1, .inl (c_1, 31, .inl (fun _ => 0))), (q_2, .inl (c_2, 31, .inl (fun _ => 0))), (q_3, .inl (c_3, 31, .inl (fun _ => 0))), (q_4, .inl (c_4, 31, .inl (fun _ => 0))), (q_6, .inl (c_6, 31, .inl (fun _ => 0)))] H := hP
  have hD : va_D A [(o, .inr (0, [.ref q_0, .ref q_1, .ref q_2, .ref q_3, .ref q_4, .int 0, .null, .null, .null, .null, .int 0, .int 0, .null, .null, .null, .null, .null, .null, .null, .int 0, .int 0, .null, .null, .null, .null, .null, .null, .null, .null, .int 0, .int 0, .int 0, .int 0])), (q_0, .inl (c_0, 31, .inl (fun _ => 0))), (q_1, .inl (c_1, 31, .inl (fun _ => 0))), (q_2, .inl (c_2, 31, .inl (fun _ => 0))), (q_3, .inl (c_3, 31, .inl (fun _ => 0))), (q_4, .inl (c_4, 31, .inl (fun _ => 0))), (q_6, .inl (c_6, 31, .inl (fun _ => 0)))] := hD
  have hK : va_K D vwCl [(c_0, .int), (c_1, .int), (c_2, .int), (c_3, .int), (c_4, .int), (c_6, .int)] s := hK
  refine va_putF (D := D) (ci := 0) (v := .ref q_6) (ty := .array .int) (C := RX0) (T := TX0) (N := 33) hx hb hts in_X0 tyX0 tyX0_ok nmX0 hown hK hP hD hS 0 rfl rfl 6 (by decide) (hts _ tkl6) (fun _ h9 => h9) rfl hin rfl (by decide +kernel) rfl rfl (Nat.le_of_ble_eq_true rfl) dX0_init_49 (fun H locs hP hD hS => ?_)
  have hP : va_P D vwCl [(o, .inr (0, [.ref q_0, .ref q_1, .ref q_2, .ref q_3, .ref q_4, .int 0, .ref q_6, .null, .null, .null, .int 0, .int 0, .null, .null, .null, .null, .null, .null, .null, .int 0, .int 0, .null, .null, .null, .null, .null, .null, .null, .null, .int 0, .int 0, .int 0, .int 0])), (q_0, .inl (c_0, 31, .inl (fun _ => 0))), (q_1, .inl (c_1, 31, .inl (fun _ => 0))), (q_2, .inl (c_2, 31, .inl (fun _ => 0))), (q_3, .inl (c_3, 31, .inl (fun _ => 0))), (q_4, .inl (c_4, 31, .inl (fun _ => 0))), (q_6, .inl (c_6, 31, .inl (fun _ => 0)))] H := hP
  have hD : va_D A [(o, .inr (0, [.ref q_0, .ref q_1, .ref q_2, .ref q_3, .ref q_4, .int 0, .ref q_6, .null, .null, .null, .int 0, .int 0, .null, .null, .null, .null, .null, .null, .null, .int 0, .int 0, .null, .null, .null, .null, .null, .null, .null, .null, .int 0, .int 0, .int 0, .int 0])), (q_0, .inl (c_0, 31, .inl (fun _ => 0))), (q_1, .inl (c_1, 31, .inl (fun _ => 0))), (q_2, .inl (c_2, 31, .inl (fun _ => 0))), (q_3, .inl (c_3, 31, .inl (fun _ => 0))), (q_4, .inl (c_4, 31, .inl (fun _ => 0))), (q_6, .inl (c_6, 31, .inl (fun _ => 0)))] := hD
  refine lv_aload_n hx hb dX0_init_52 rfl (lv_at hl 0 rfl) ?_
  refine lv_bipush (v := 31) hx hb dX0_init_53 (by decide) ?_
  refine va_newa (a0 := (31, .inl (fun _ => 0))) (atype := .int) (ty := .int) hx hb (hts _ q129) rfl hK hP hD hS hA (fun _ => rfl) (by decide) (by decide) (by decide) (by decide) (by decide) dX0_init_55 (fun q_7 c_7 H hK hP hD hS => ?_)
  refine W.widen (k := 7) (n := 217) (by decide) (by decide) ?_
  have hP : va_P D vwCl [(o, .inr (0, [.ref q_0, .ref q_1, .ref q_2, .ref q_3, .ref q_4, .int 0, .ref q_6, .null, .null, .null, .int 0, .int 0, .null, .null, .null, .null, .null, .null, .null, .int 0, .int 0, .null, .null, .null, .null, .null, .null, .null, .null, .int 0, .int 0, .int 0, .int 0])), (q_0, .inl (c_0, 31, .inl (fun _ => 0))), (q_1, .inl (c_1, 31, .inl (fun _ => 0))), (q_2, .inl (c_2, 31, .inl (fun _ => 0))), (q_3, .inl (c_3, 31, .inl (fun _ => 0))), (q_4, .inl (c_4, 31, .inl (fun _ => 0))), (q_6, .inl (c_6, 31, .inl (fun _ => 0))), (q_7, .inl (c_7, 31, .inl (fun _ => 0)))] H := hP
  have hD : va_D A [(o, .inr (0, [.ref q_0, .ref q_1, .ref q_2, .ref q_3, .ref q_4, .int 0, .ref q_6, .null, .null, .null, .int 0, .int 0, .null, .null, .null, .null, .null, .null, .null, .int 0, .int 0, .null, .null, .null, .null, .null, .null, .null, .null, .int 0, .int 0, .int 0, .int 0])), (q_0, .inl (c_0, 31, .inl (fun _ => 0))), (q_1, .inl (c_1, 31, .inl (fun _ => 0))), (q_2, .inl (c_2, 31, .inl (fun _ => 0))), (q_3, .inl (c_3, 31, .inl (fun _ => 0))), (q_4, .inl (c_4, 31, .inl (fun _ => 0))), (q_6, .inl (c_6, 31, .inl (fun _ => 0))), (q_7, .inl (c_7, 31, .inl (fun _ => 0)))] := hD
  have hK : va_K D vwCl [(c_0, .int), (c_1, .int), (c_2, .int), (c_3, .int), (c_4, .int), (c_6, .int), (c_7, .int)] s := hK
  refine va_putF (D := D) (ci := 0) (v := .ref q_7) (ty := .array .int) (C := RX0) (T := TX0) (N := 33) hx hb hts in_X0 tyX0 tyX0_ok nmX0 hown hK hP hD hS 0 rfl rfl 7 (by decide) (hts _ tkl7) (fun _ h9 => h9) rfl hin rfl (by decide +kernel) rfl rfl (Nat.le_of_ble_eq_true rfl) dX0_init_57 (fun H locs hP hD hS => ?_)
  have hP : va_P D vwCl [(o, .inr (0, [.ref q_0, .ref q_1, .ref q_2, .ref q_3, .ref q_4, .int 0, .ref q_6, .ref q_7, .null, .null, .int 0, .int 0, .null, .null, .null, .null, .null, .null, .null, .int 0, .int 0, .null, .null, .null, .null, .null, .null, .null, .null, .int 0, .int 0, .int 0, .int 0])), (q_0, .inl (c_0, 31, .inl (fun _ => 0))), (q_1, .inl (c_1, 31, .inl (fun _ => 0))), (q_2, .inl (c_2, 31, .inl (fun _ => 0))), (q_3, .inl (c_3, 31, .inl (fun _ => 0))), (q_4, .inl (c_4, 31, .inl (fun _ => 0))), (q_6, .inl (c_6, 31, .inl (fun _ => 0))), (q_7, .inl (c_7, 31, .inl (fun _ => 0)))] H := hP
  have hD : va_D A [(o, .inr (0, [.ref q_0, .ref q_1, .ref q_2, .ref q_3, .ref q_4, .int 0, .ref q_6, .ref q_7, .null, .null, .int 0, .int 0, .null, .null, .null, .null, .null, .null, .null, .int 0, .int 0, .null, .null, .null, .null, .null, .null, .null, .null, .int 0, .int 0, .int 0, .int 0])), (q_0, .inl (c_0, 31, .inl (fun _ => 0))), (q_1, .inl (c_1, 31, .inl (fun _ => 0))), (q_2, .inl (c_2, 31, .inl (fun _ => 0))), (q_3, .inl (c_3, 31, .inl (fun _ => 0))), (q_4, .inl (c_4, 31, .inl (fun _ => 0))), (q_6, .inl (c_6, 31, .inl (fun _ => 0))), (q_7, .inl (c_7, 31, .inl (fun _ => 0)))] := hD
  refine lv_aload_n hx hb dX0_init_60 rfl (lv_at hl 0 rfl) ?_
  refine lv_bipush (v := 31) hx hb dX0_init_61 (by decide) ?_
  refine va_newa (a0 := (31, .inl (fun _ => 0))) (atype := .int) (ty := .int) hx hb (hts _ q129) rfl hK hP hD hS hA (fun _ => rfl) (by decide) (by decide) (by decide) (by decide) (by decide) dX0_init_63 (fun q_8 c_8 H hK hP hD hS => ?_)
  refine W.widen (k := 8) (n := 248) (by decide) (by decide) ?_
  have hP : va_P D vwCl [(o, .inr (0, [.ref q_0, .ref q_1, .ref q_2, .ref q_3, .ref q_4, .int 0, .ref q_6, .ref q_7, .null, .null, .int 0, .int 0, .null, .null, .null, .null, .null, .null, .null, .int 0, .int 0, .null, .null, .null, .null, .null, .null, .null, .null, .int 0, .int 0, .int 0, .int 0])), (q_0, .inl (c_0, 31, .inl (fun _ => 0))), (q_1, .inl (c_1, 31, .inl (fun _ => 0))), (q_2, .inl (c_2, 31, .inl (fun _ => 0))), (q_3, .inl (c_3, 31, .inl (fun _ => 0))), (q_4, .inl (c_4, 31, .inl (fun _ => 0))), (q_6, .inl (c_6, 31, .inl (fun _ => 0))), (q_7, .inl (c_7, 31, .inl (fun _ => 0))), (q_8, .inl (c_8, 31, .inl (fun _ => 0)))] H := hP
  have hD : va_D A [(o, .inr (0, [.ref q_0, .ref q_1, .ref q_2, .ref q_3, .ref q_4, .int 0, .ref q_6, .ref q_7, .null, .null, .int 0, .int 0, .null, .null, .null, .null, .null, .null, .null, .int 0, .int 0, .null, .null, .null, .null, .null, .null, .null, .null, .int 0, .int 0, .int 0, .int 0])), (q_0, .inl (c_0, 31, .inl (fun _ => 0))), (q_1, .inl (c_1, 31, .inl (fun _ => 0))), (q_2, .inl (c_2, 31, .inl (fun _ => 0))), (q_3, .inl (c_3, 31, .inl (fun _ => 0))), (q_4, .inl (c_4, 31, .inl (fun _ => 0))), (q_6, .inl (c_6, 31, .inl (fun _ => 0))), (q_7, .inl (c_7, 31, .inl (fun _ => 0))), (q_8, .inl (c_8, 31, .inl (fun _ => 0)))] := hD
  have hK : va_K D vwCl [(c_0, .int), (c_1, .int), (c_2, .int), (c_3, .int), (c_4, .int), (c_6, .int), (c_7, .int), (c_8, .int)] s := hK
  refine va_putF (D := D) (ci := 0) (v := .ref q_8) (ty := .array .int) (C := RX0) (T := TX0) (N := 33) hx hb hts in_X0 tyX0 tyX0_ok nmX0 hown hK hP hD hS 0 rfl rfl 8 (by decide) (hts _ tkl8) (fun _ h9 => h9) rfl hin rfl (by decide +kernel) rfl rfl (Nat.le_of_ble_eq_true rfl) dX0_init_65 (fun H locs hP hD hS => ?_)
  have hP : va_P D vwCl [(o, .inr (0, [.ref q_0, .ref q_1, .ref q_2, .ref q_3, .ref q_4, .int 0, .ref q_6, .ref q_7, .ref q_8, .null, .int 0, .int 0, .null, .null, .null, .null, .null, .null, .null, .int 0, .int 0, .null, .null, .null, .null, .null, .null, .null, .null, .int 0, .int 0, .int 0, .int 0])), (q_0, .inl (c_0, 31, .inl (fun _ => 0))), (q_1, .inl (c_1, 31, .inl (fun _ => 0))), (q_2, .inl (c_2, 31, .inl (fun _ => 0))), (q_3, .inl (c_3, 31, .inl (fun _ => 0))), (q_4, .inl (c_4, 31, .inl (fun _ => 0))), (q_6, .inl (c_6, 31, .inl (fun _ => 0))), (q_7, .inl (c_7, 31, .inl (fun _ => 0))), (q_8, .inl (c_8, 31, .inl (fun _ => 0)))] H := hP
  have hD : va_D A [(o, .inr (0, [.ref q_0, .ref q_1, .ref q_2, .ref q_3, .ref q_4, .int 0, .ref q_6, .ref q_7, .ref q_8, .null, .int 0, .int 0, .null, .null, .null, .null, .null, .null, .null, .int 0, .int 0, .null, .null, .null, .null, .null, .null, .null, .null, .int 0, .int 0, .int 0, .int 0])), (q_0, .inl (c_0, 31, .inl (fun _ => 0))), (q_1, .inl (c_1, 31, .inl (fun _ => 0))), (q_2, .inl (c_2, 31, .inl (fun _ => 0))), (q_3, .inl (c_3, 31, .inl (fun _ => 0))), (q_4, .inl (c_4, 31, .inl (fun _ => 0))), (q_6, .inl (c_6, 31, .inl (fun _ => 0))), (q_7, .inl (c_7, 31, .inl (fun _ => 0))), (q_8, .inl (c_8, 31, .inl (fun _ => 0)))] := hD
  refine lv_aload_n hx hb dX0_init_68 rfl (lv_at hl 0 rfl) ?_
  refine lv_bipush (v := 31) hx hb dX0_init_69 (by decide) ?_
  refine va_newa (a0 := (31, .inl (fun _ => 0))) (atype := .int) (ty := .int) hx hb (hts _ q129) rfl hK hP hD hS hA (fun _ => rfl) (by decide) (by decide) (by decide) (by decide) (by decide) dX0_init_71 (fun q_9 c_9 H hK hP hD hS => ?_)
  refine W.widen (k := 9) (n := 279) (by decide) (by decide) ?_
  have hP : va_P D vwCl [(o, .inr (0, [.ref q_0, .ref q_1, .ref q_2, .ref q_3, .ref q_4, .int 0, .ref q_6, .ref q_7, .ref q_8, .null, .int 0, .int 0, .null, .null, .null, .null, .null, .null, .null, .int 0, .int 0, .null, .null, .null, .null, .null, .null, .null, .null, .int 0, .int 0, .int 0, .int 0])), (q_0, .inl (c_0, 31, .inl (fun _ => 0))), (q_1, .inl (c_1, 31, .inl (fun _ => 0))), (q_2, .inl (c_2, 31, .inl (fun _ => 0))), (q_3, .inl (c_3, 31, .inl (fun _ => 0))), (q_4, .inl (c_4, 31, .inl (fun _ => 0))), (q_6, .inl (c_6, 31, .inl (fun _ => 0))), (q_7, .inl (c_7, 31, .inl (fun _ => 0))), (q_8, .inl (c_8, 31, .inl (fun _ => 0))), (q_9, .inl (c_9, 31, .inl (fun _ => 0)))] H := hP
  have hD : va_D A [(o, .inr (0, [.ref q_0, .ref q_1, .ref q_2, .ref q_3, .ref q_4, .int 0, .ref q_6, .ref q_7, .ref q_8, .null, .int 0, .int 0, .null, .null, .null, .null, .null, .null, .null, .int 0, .int 0, .null, .null, .null, .null, .null, .null, .null, .null, .int 0, .int 0, .int 0, .int 0])), (q_0, .inl (c_0, 31, .inl (fun _ => 0))), (q_1, .inl (c_1, 31, .inl (fun _ => 0))), (q_2, .inl (c_2, 31, .inl (fun _ => 0))), (q_3, .inl (c_3, 31, .inl (fun _ => 0))), (q_4, .inl (c_4, 31, .inl (fun _ => 0))), (q_6, .inl (c_6, 31, .inl (fun _ => 0))), (q_7, .inl (c_7, 31, .inl (fun _ => 0))), (q_8, .inl (c_8, 31, .inl (fun _ => 0))), (q_9, .inl (c_9, 31, .inl (fun _ => 0)))] := hD
  have hK : va_K D vwCl [(c_0, .int), (c_1, .int), (c_2, .int), (c_3, .int), (c_4, .int), (c_6, .int), (c_7, .int), (c_8, .int), (c_9, .int)] s := hK
  refine va_putF (D := D) (ci := 0) (v := .ref q_9) (ty := .array .int) (C := RX0) (T := TX0) (N := 33) hx hb hts in_X0 tyX0 tyX0_ok nmX0 hown hK hP hD hS 0 rfl rfl 9 (by decide) (hts _ tkl9) (fun _ h9 => h9) rfl hin rfl (by decide +kernel) rfl rfl (Nat.le_of_ble_eq_true rfl) dX0_init_73 (fun H locs hP hD hS => ?_)
  have hP : va_P D vwCl [(o, .inr (0, [.ref q_0, .ref q_1, .ref q_2, .ref q_3, .ref q_4, .int 0, .ref q_6, .ref q_7, .ref q_8, .ref q_9, .int 0, .int 0, .null, .null, .null, .null, .null, .null, .null, .int 0, .int 0, .null, .null, .null, .null, .null, .null, .null, .null, .int 0, .int 0, .int 0, .int 0])), (q_0, .inl (c_0, 31, .inl (fun _ => 0))), (q_1, .inl (c_1, 31, .inl (fun _ => 0))), (q_2, .inl (c_2, 31, .inl (fun _ => 0))), (q_3, .inl (c_3, 31, .inl (fun _ => 0))), (q_4, .inl (c_4, 31, .inl (fun _ => 0))), (q_6, .inl (c_6, 31, .inl (fun _ => 0))), (q_7, .inl (c_7, 31, .inl (fun _ => 0))), (q_8, .inl (c_8, 31, .inl (fun _ => 0))), (q_9, .inl (c_9, 31, .inl (fun _ => 0)))] H := hP
  have hD : va_D A [(o, .inr (0, [.ref q_0, .ref q_1, .ref q_2, .ref q_3, .ref q_4, .int 0, .ref q_6, .ref q_7, .ref q_8, .ref q_9, .int 0, .int 0, .null, .null, .null, .null, .null, .null, .null, .int 0, .int 0, .null, .null, .null, .null, .null, .null, .null, .null, .int 0, .int 0, .int 0, .int 0])), (q_0, .inl (c_0, 31, .inl (fun _ => 0))), (q_1, .inl (c_1, 31, .inl (fun _ => 0))), (q_2, .inl (c_2, 31, .inl (fun _ => 0))), (q_3, .inl (c_3, 31, .inl (fun _ => 0))), (q_4, .inl (c_4, 31, .inl (fun _ => 0))), (q_6, .inl (c_6, 31, .inl (fun _ => 0))), (q_7, .inl (c_7, 31, .inl (fun _ => 0))), (q_8, .inl (c_8, 31, .inl (fun _ => 0))), (q_9, .inl (c_9, 31, .inl (fun _ => 0)))] := hD
  refine lv_aload_n hx hb dX0_init_76 rfl (lv_at hl 0 rfl) ?_
  refine lv_bipush (v := 16) hx hb dX0_init_77 (by decide) ?_
  refine va_newa (a0 := (16, .inl (fun _ => 0))) (atype := .int) (ty := .int) hx hb (hts _ q129) rfl hK hP hD hS hA (fun _ => rfl) (by decide) (by decide) (by decide) (by decide) (by decide) dX0_init_79 (fun q_12 c_12 H hK hP hD hS => ?_)
  refine W.widen (k := 10) (n := 295) (by decide) (by decide) ?_
  have hP : va_P D vwCl [(o, .inr (0, [.ref q_0, .ref q_1, .ref q_2, .ref q_3, .ref q_4, .int 0, .ref q_6, .ref q_7, .ref q_8, .ref q_9, .int 0, .int 0, .null, .null, .null, .null, .null, .null, .null, .int 0, .int 0, .null, .null, .null, .null, .null, .null, .null, .null, .int 0, .int 0, .int 0, .int 0])), (q_0, .inl (c_0, 31, .inl (fun _ => 0))), (q_1, .inl (c_1, 31, .inl (fun _ => 0))), (q_2, .inl (c_2, 31, .inl (fun _ => 0))), (q_3, .inl (c_3, 31, .inl (fun _ => 0))), (q_4, .inl (c_4, 31, .inl (fun _ => 0))), (q_6, .inl (c_6, 31, .inl (fun _ => 0))), (q_7, .inl (c_7, 31, .inl (fun _ => 0))), (q_8, .inl (c_8, 31, .inl (fun _ => 0))), (q_9, .inl (c_9, 31, .inl (fun _ => 0))), (q_12, .inl (c_12, 16, .inl (fun _ => 0)))] H := hP
  have hD : va_D A [(o, .inr (0, [.ref q_0, .ref q_1, .ref q_2, .ref q_3, .ref q_4, .int 0, .ref q_6, .ref q_7, .ref q_8, .ref q_9, .int 0, .int 0, .null, .null, .null, .null, .null, .null, .null, .int 0, .int 0, .null, .null, .null, .null, .null, .null, .null, .null, .int 0, .int 0, .int 0, .int 0])), (q_0, .inl (c_0, 31, .inl (fun _ => 0))), (q_1, .inl (c_1, 31, .inl (fun _ => 0))), (q_2, .inl (c_2, 31, .inl (fun _ => 0))), (q_3, .inl (c_3, 31, .inl (fun _ => 0))), (q_4, .inl (c_4, 31, .inl (fun _ => 0))), (q_6, .inl (c_6, 31, .inl (fun _ => 0))), (q_7, .inl (c_7, 31, .inl (fun _ => 0))), (q_8, .inl (c_8, 31, .inl (fun _ => 0))), (q_9, .inl (c_9, 31, .inl (fun _ => 0))), (q_12, .inl (c_12, 16, .inl (fun _ => 0)))] := hD
  have hK : va_K D vwCl [(c_0, .int), (c_1, .int), (c_2, .int), (c_3, .int), (c_4, .int), (c_6, .int), (c_7, .int), (c_8, .int), (c_9, .int), (c_12, .int)] s := hK
  refine va_putF (D := D) (ci := 0) (v := .ref q_12) (ty := .array .int) (C := RX0) (T := TX0) (N := 33) hx hb hts in_X0 tyX0 tyX0_ok nmX0 hown hK hP hD hS 0 rfl rfl 12 (by decide) (hts _ tkl12) (fun _ h9 => h9) rfl hin rfl (by decide +kernel) rfl rfl (Nat.le_of_ble_eq_true rfl) dX0_init_81 (fun H locs hP hD hS => ?_)
  have hP : va_P D vwCl [(o, .inr (0, [.ref q_0, .ref q_1, .ref q_2, .ref q_3, .ref q_4, .int 0, .ref q_6, .ref q_7, .ref q_8, .ref q_9, .int 0, .int 0, .ref q_12, .null, .null, .null, .null, .null, .null, .int 0, .int 0, .null, .null, .null, .null, .null, .null, .null, .null, .int 0, .int 0, .int 0, .int 0])), (q_0, .inl (c_0, 31, .inl (fun _ => 0))), (q_1, .inl (c_1, 31, .inl (fun _ => 0))), (q_2, .inl (c_2, 31, .inl (fun _ => 0))), (q_3, .inl (c_3, 31, .inl (fun _ => 0))), (q_4, .inl (c_4, 31, .inl (fun _ => 0))), (q_6, .inl (c_6, 31, .inl (fun _ => 0))), (q_7, .inl (c_7, 31, .inl (fun _ => 0))), (q_8, .inl (c_8, 31, .inl (fun _ => 0))), (q_9, .inl (c_9, 31, .inl (fun _ => 0))), (q_12, .inl (c_12, 16, .inl (fun _ => 0)))] H := hP
  have hD : va_D A [(o, .inr (0, [.ref q_0, .ref q_1, .ref q_2, .ref q_3, .ref q_4, .int 0, .ref q_6, .ref q_7, .ref q_8, .ref q_9, .int 0, .int 0, .ref q_12, .null, .null, .null, .null, .null, .null, .int 0, .int 0, .null, .null, .null, .null, .null, .null, .null, .null, .int 0, .int 0, .int 0, .int 0])), (q_0, .inl (c_0, 31, .inl (fun _ => 0))), (q_1, .inl (c_1, 31, .inl (fun _ => 0))), (q_2, .inl (c_2, 31, .inl (fun _ => 0))), (q_3, .inl (c_3, 31, .inl (fun _ => 0))), (q_4, .inl (c_4, 31, .inl (fun _ => 0))), (q_6, .inl (c_6, 31, .inl (fun _ => 0))), (q_7, .inl (c_7, 31, .inl (fun _ => 0))), (q_8, .inl (c_8, 31, .inl (fun _ => 0))), (q_9, .inl (c_9, 31, .inl (fun _ => 0))), (q_12, .inl (c_12, 16, .inl (fun _ => 0)))] := hD
  refine lv_aload_n hx hb dX0_init_84 rfl (lv_at hl 0 rfl) ?_
  refine lv_bipush (v := 32) hx hb dX0_init_85 (by decide) ?_
  refine va_newa (a0 := (32, .inl (fun _ => 0))) (atype := .int) (ty := .int) hx hb (hts _ q129) rfl hK hP hD hS hA (fun _ => rfl) (by decide) (by decide) (by decide) (by decide) (by decide) dX0_init_87 (fun q_13 c_13 H hK hP hD hS => ?_)
  refine W.widen (k := 11) (n := 327) (by decide) (by decide) ?_
  have hP : va_P D vwCl [(o, .inr (0, [.ref q_0, .ref q_1, .ref q_2, .ref q_3, .ref q_4, .int 0, .ref q_6, .ref q_7, .ref q_8, .ref q_9, .int 0, .int 0, .ref q_12, .null, .null, .null, .null, .null, .null, .int 0, .int 0, .null, .null, .null, .null, .null, .null, .null, .null, .int 0, .int 0, .int 0, .int 0])), (q_0, .inl (c_0, 31, .inl (fun _ => 0))), (q_1, .inl (c_1, 31, .inl (fun _ => 0))), (q_2, .inl (c_2, 31, .inl (fun _ => 0))), (q_3, .inl (c_3, 31, .inl (fun _ => 0))), (q_4, .inl (c_4, 31, .inl (fun _ => 0))), (q_6, .inl (c_6, 31, .inl (fun _ => 0))), (q_7, .inl (c_7, 31, .inl (fun _ => 0))), (q_8, .inl (c_8, 31, .inl (fun _ => 0))), (q_9, .inl (c_9, 31, .inl (fun _ => 0))), (q_12, .inl (c_12, 16, .inl (fun _ => 0))), (q_13, .inl (c_13, 32, .inl (fun _ => 0)))] H := hP
  have hD : va_D A [(o, .inr (0, [.ref q_0, .ref q_1, .ref q_2, .ref q_3, .ref q_4, .int 0, .ref q_6, .ref q_7, .ref q_8, .ref q_9, .int 0, .int 0, .ref q_12, .null, .null, .null, .null, .null, .null, .int 0, .int 0, .null, .null, .null, .null, .null, .null, .null, .null, .int 0, .int 0, .int 0, .int 0])), (q_0, .inl (c_0, 31, .inl (fun _ => 0))), (q_1, .inl (c_1, 31, .inl (fun _ => 0))), (q_2, .inl (c_2, 31, .inl (fun _ => 0))), (q_3, .inl (c_3, 31, .inl (fun _ => 0))), (q_4, .inl (c_4, 31, .inl (fun _ => 0))), (q_6, .inl (c_6, 31, .inl (fun _ => 0))), (q_7, .inl (c_7, 31, .inl (fun _ => 0))), (q_8, .inl (c_8, 31, .inl (fun _ => 0))), (q_9, .inl (c_9, 31, .inl (fun _ => 0))), (q_12, .inl (c_12, 16, .inl (fun _ => 0))), (q_13, .inl (c_13, 32, .inl (fun _ => 0)))] := hD
  have hK : va_K D vwCl [(c_0, .int), (c_1, .int), (c_2, .int), (c_3, .int), (c_4, .int), (c_6, .int), (c_7, .int), (c_8, .int), (c_9, .int), (c_12, .int), (c_13, .int)] s := hK
  refine va_putF (D := D) (ci := 0) (v := .ref q_13) (ty := .array .int) (C := RX0) (T := TX0) (N := 33) hx hb hts in_X0 tyX0 tyX0_ok nmX0 hown hK hP hD hS 0 rfl rfl 13 (by decide) (hts _ tkl13) (fun _ h9 => h9) rfl hin rfl (by decide +kernel) rfl rfl (Nat.le_of_ble_eq_true rfl) dX0_init_89 (fun H locs hP hD hS => ?_)
  have hP : va_P D vwCl [(o, .inr (0, [.ref q_0, .ref q_1, .ref q_2, .ref q_3, .ref q_4, .int 0, .ref q_6, .ref q_7, .ref q_8, .ref q_9, .int 0, .int 0, .ref q_12, .ref q_13, .null, .null, .null, .null, .null, .int 0, .int 0, .null, .null, .null, .null, .null, .null, .null, .null, .int 0, .int 0, .int 0, .int 0])), (q_0, .inl (c_0, 31, .inl (fun _ => 0))), (q_1, .inl (c_1, 31, .inl (fun _ => 0))), (q_2, .inl (c_2, 31, .inl (fun _ => 0))), (q_3, .inl (c_3, 31, .inl (fun _ => 0))), (q_4, .inl (c_4, 31, .inl (fun _ => 0))), (q_6, .inl (c_6, 31, .inl (fun _ => 0))), (q_7, .inl (c_7, 31, .inl (fun _ => 0))), (q_8, .inl (c_8, 31, .inl (fun _ => 0))), (q_9, .inl (c_9, 31, .inl (fun _ => 0))), (q_12, .inl (c_12, 16, .inl (fun _ => 0))), (q_13, .inl (c_13, 32, .inl (fun _ => 0)))] H := hP
  have hD : va_D A [(o, .inr (0, [.ref q_0, .ref q_1, .ref q_2, .ref q_3, .ref q_4, .int 0, .ref q_6, .ref q_7, .ref q_8, .ref q_9, .int 0, .int 0, .ref q_12, .ref q_13, .null, .null, .null, .null, .null, .int 0, .int 0, .null, .null, .null, .null, .null, .null, .null, .null, .int 0, .int 0, .int 0, .int 0])), (q_0, .inl (c_0, 31, .inl (fun _ => 0))), (q_1, .inl (c_1, 31, .inl (fun _ => 0))), (q_2, .inl (c_2, 31, .inl (fun _ => 0))), (q_3, .inl (c_3, 31, .inl (fun _ => 0))), (q_4, .inl (c_4, 31, .inl (fun _ => 0))), (q_6, .inl (c_6, 31, .inl (fun _ => 0))), (q_7, .inl (c_7, 31, .inl (fun _ => 0))), (q_8, .inl (c_8, 31, .inl (fun _ => 0))), (q_9, .inl (c_9, 31, .inl (fun _ => 0))), (q_12, .inl (c_12, 16, .inl (fun _ => 0))), (q_13, .inl (c_13, 32, .inl (fun _ => 0)))] := hD
  refine lv_aload_n hx hb dX0_init_92 rfl (lv_at hl 0 rfl) ?_
  refine lv_bipush (v := 46) hx hb dX0_init_93 (by decide) ?_
  refine va_newa (a0 := (46, .inl (fun _ => 0))) (atype := .int) (ty := .int) hx hb (hts _ q129) rfl hK hP hD hS hA (fun _ => rfl) (by decide) (by decide) (by decide) (by decide) (by decide) dX0_init_95 (fun q_14 c_14 H hK hP hD hS => ?_)
  refine W.widen (k := 12) (n := 373) (by decide) (by decide) ?_
  have hP : va_P D vwCl [(o, .inr (0, [.ref q_0, .ref q_1, .ref q_2, .ref q_3, .ref q_4, .int 0, .ref q_6, .ref q_7, .ref q_8, .ref q_9, .int 0, .int 0, .ref q_12, .ref q_13, .null, .null, .null, .null, .null, .int 0, .int 0, .null, .null, .null, .null, .null, .null, .null, .null, .int 0, .int 0, .int 0, .int 0])), (q_0, .inl (c_0, 31, .inl (fun _ => 0))), (q_1, .inl (c_1, 31, .inl (fun _ => 0))), (q_2, .inl (c_2, 31, .inl (fun _ => 0))), (q_3, .inl (c_3, 31, .inl (fun _ => 0))), (q_4, .inl (c_4, 31, .inl (fun _ => 0))), (q_6, .inl (c_6, 31, .inl (fun _ => 0))), (q_7, .inl (c_7, 31, .inl (fun _ => 0))), (q_8, .inl (c_8, 31, .inl (fun _ => 0))), (q_9, .inl (c_9, 31, .inl (fun _ => 0))), (q_12, .inl (c_12, 16, .inl (fun _ => 0))), (q_13, .inl (c_13, 32, .inl (fun _ => 0))), (q_14, .inl (c_14, 46, .inl (fun _ => 0)))] H := hP
  have hD : va_D A [(o, .inr (0, [.ref q_0, .ref q_1, .ref q_2, .ref q_3, .ref q_4, .int 0, .ref q_6, .ref q_7, .ref q_8, .ref q_9, .int 0, .int 0, .ref q_12, .ref q_13, .null, .null, .null, .null, .null, .int 0, .int 0, .null, .null, .null, .null, .null, .null, .null, .null, .int 0, .int 0, .int 0, .int 0])), (q_0, .inl (c_0, 31, .inl (fun _ => 0))), (q_1, .inl (c_1, 31, .inl (fun _ => 0))), (q_2, .inl (c_2, 31, .inl (fun _ => 0))), (q_3, .inl (c_3, 31, .inl (fun _ => 0))), (q_4, .inl (c_4, 31, .inl (fun _ => 0))), (q_6, .inl (c_6, 31, .inl (fun _ => 0))), (q_7, .inl (c_7, 31, .inl (fun _ => 0))), (q_8, .inl (c_8, 31, .inl (fun _ => 0))), (q_9, .inl (c_9, 31, .inl (fun _ => 0))), (q_12, .inl (c_12, 16, .inl (fun _ => 0))), (q_13, .inl (c_13, 32, .inl (fun _ => 0))), (q_14, .inl (c_14, 46, .inl (fun _ => 0)))] := hD
  have hK : va_K D vwCl [(c_0, .int), (c_1, .int), (c_2, .int), (c_3, .int), (c_4, .int), (c_6, .int), (c_7, .int), (c_8, .int), (c_9, .int), (c_12, .int), (c_13, .int), (c_14, .int)] s := hK
  refine va_putF (D := D) (ci := 0) (v := .ref q_14) (ty := .array .int) (C := RX0) (T := TX0) (N := 33) hx hb hts in_X0 tyX0 tyX0_ok nmX0 hown hK hP hD hS 0 rfl rfl 14 (by decide) (hts _ tkl14) (fun _ h9 => h9) rfl hin rfl (by decide +kernel) rfl rfl (Nat.le_of_ble_eq_true rfl) dX0_init_97 (fun H locs hP hD hS => ?_)
  have hP : va_P D vwCl [(o, .inr (0, [.ref q_0, .ref q_1, .ref q_2, .ref q_3, .ref q_4, .int 0, .ref q_6, .ref q_7, .ref q_8, .ref q_9, .int 0, .int 0, .ref q_12, .ref q_13, .ref q_14, .null, .null, .null, .null, .int 0, .int 0, .null, .null, .null, .null, .null, .null, .null, .null, .int 0, .int 0, .int 0, .int 0])), (q_0, .inl (c_0, 31, .inl (fun _ => 0))), (q_1, .inl (c_1, 31, .inl (fun _ => 0))), (q_2, .inl (c_2, 31, .inl (fun _ => 0))), (q_3, .inl (c_3, 31, .inl (fun _ => 0))), (q_4, .inl (c_4, 31, .inl (fun _ => 0))), (q_6, .inl (c_6, 31, .inl (fun _ => 0))), (q_7, .inl (c_7, 31, .inl (fun _ => 0))), (q_8, .inl (c_8, 31, .inl (fun _ => 0))), (q_9, .inl (c_9, 31, .inl (fun _ => 0))), (q_12, .inl (c_12, 16, .inl (fun _ => 0))), (q_13, .inl (c_13, 32, .inl (fun _ => 0))), (q_14, .inl (c_14, 46, .inl (fun _ => 0)))] H := hP
  have hD : va_D A [(o, .inr (0, [.ref q_0, .ref q_1, .ref q_2, .ref q_3, .ref q_4, .int 0, .ref q_6, .ref q_7, .ref q_8, .ref q_9, .int 0, .int 0, .ref q_12, .ref q_13, .ref q_14, .null, .null, .null, .null, .int 0, .int 0, .null, .null, .null, .null, .null, .null, .null, .null, .int 0, .int 0, .int 0, .int 0])), (q_0, .inl (c_0, 31, .inl (fun _ => 0))), (q_1, .inl (c_1, 31, .inl (fun _ => 0))), (q_2, .inl (c_2, 31, .inl (fun _ => 0))), (q_3, .inl (c_3, 31, .inl (fun _ => 0))), (q_4, .inl (c_4, 31, .inl (fun _ => 0))), (q_6, .inl (c_6, 31, .inl (fun _ => 0))), (q_7, .inl (c_7, 31, .inl (fun _ => 0))), (q_8, .inl (c_8, 31, .inl (fun _ => 0))), (q_9, .inl (c_9, 31, .inl (fun _ => 0))), (q_12, .inl (c_12, 16, .inl (fun _ => 0))), (q_13, .inl (c_13, 32, .inl (fun _ => 0))), (q_14, .inl (c_14, 46, .inl (fun _ => 0)))] := hD
  refine lv_aload_n hx hb dX0_init_100 rfl (lv_at hl 0 rfl) ?_
  refine lv_bipush (v := 46) hx hb dX0_init_101 (by decide) ?_
  refine va_newa (a0 := (46, .inl (fun _ => 0))) (atype := .int) (ty := .int) hx hb (hts _ q129) rfl hK hP hD hS hA (fun _ => rfl) (by decide) (by decide) (by decide) (by decide) (by decide) dX0_init_103 (fun q_15 c_15 H hK hP hD hS => ?_)
  refine W.widen (k := 13) (n := 419) (by decide) (by decide) ?_
  have hP : va_P D vwCl [(o, .inr (0, [.ref q_0, .ref q_1, .ref q_2, .ref q_3, .ref q_4, .int 0, .ref q_6, .ref q_7, .ref q_8, .ref q_9, .int 0, .int 0, .ref q_12, .ref q_13, .ref q_14, .null, .null, .null, .null, .int 0, .int 0, .null, .null, .null, .null, .null, .null, .null, .null, .int 0, .int 0, .int 0, .int 0])), (q_0, .inl (c_0, 31, .inl (fun _ => 0))), (q_1, .inl (c_1, 31, .inl (fun _ => 0))), (q_2, .inl (c_2, 31, .inl (fun _ => 0))), (q_3, .inl (c_3, 31, .inl (fun _ => 0))), (q_4, .inl (c_4, 31, .inl (fun _ => 0))), (q_6, .inl (c_6, 31, .inl (fun _ => 0))), (q_7, .inl (c_7, 31, .inl (fun _ => 0))), (q_8, .inl (c_8, 31, .inl (fun _ => 0))), (q_9, .inl (c_9, 31, .inl (fun _ => 0))), (q_12, .inl (c_12, 16, .inl (fun _ => 0))), (q_13, .inl (c_13, 32, .inl (fun _ => 0))), (q_14, .inl (c_14, 46, .inl (fun _ => 0))), (q_15, .inl (c_15, 46, .inl (fun _ => 0)))] H := hP
  have hD : va_D A [(o, .inr (0, [.ref q_0, .ref q_1, .ref q_2, .ref q_3, .ref q_4, .int 0, .ref q_6, .ref q_7, .ref q_8, .ref q_9, .int 0, .int 0, .ref q_12, .ref q_13, .ref q_14, .null, .null, .null, .null, .int 0, .int 0, .null, .null, .null, .null, .null, .null, .null, .null, .int 0, .int 0, .int 0, .int 0])), (q_0, .inl (c_0, 31, .inl (fun _ => 0))), (q_1, .inl (c_1, 31, .inl (fun _ => 0))), (q_2, .inl (c_2, 31, .inl (fun _ => 0))), (q_3, .inl (c_3, 31, .inl (fun _ => 0))), (q_4, .inl (c_4, 31, .inl (fun _ => 0))), (q_6, .inl (c_6, 31, .inl (fun _ => 0))), (q_7, .inl (c_7, 31, .inl (fun _ => 0))), (q_8, .inl (c_8, 31, .inl (fun _ => 0))), (q_9, .inl (c_9, 31, .inl (fun _ => 0))), (q_12, .inl (c_12, 16, .inl (fun _ => 0))), (q_13, .inl (c_13, 32, .inl (fun _ => 0))), (q_14, .inl (c_14, 46, .inl (fun _ => 0))), (q_15, .inl (c_15, 46, .inl (fun _ => 0)))] := hD
  have hK : va_K D vwCl [(c_0, .int), (c_1, .int), (c_2, .int), (c_3, .int), (c_4, .int), (c_6, .int), (c_7, .int), (c_8, .int), (c_9, .int), (c_12, .int), (c_13, .int), (c_14, .int), (c_15, .int)] s := hK
  refine va_putF (D := D) (ci := 0) (v := .ref q_15) (ty := .array .int) (C := RX0) (T := TX0) (N := 33) hx hb hts in_X0 tyX0 tyX0_ok nmX0 hown hK hP hD hS 0 rfl rfl 15 (by decide) (hts _ tkl15) (fun _ h9 => h9) rfl hin rfl (by decide +kernel) rfl rfl (Nat.le_of_ble_eq_true rfl) dX0_init_105 (fun H locs hP hD hS => ?_)
  have hP : va_P D vwCl [(o, .inr (0, [.ref q_0, .ref q_1, .ref q_2, .ref q_3, .ref q_4, .int 0, .ref q_6, .ref q_7, .ref q_8, .ref q_9, .int 0, .int 0, .ref q_12, .ref q_13, .ref q_14, .ref q_15, .null, .null, .null, .int 0, .int 0, .null, .null, .null, .null, .null, .null, .null, .null, .int 0, .int 0, .int 0, .int 0])), (q_0, .inl (c_0, 31, .inl (fun _ => 0))), (q_1, .inl (c_1, 31, .inl (fun _ => 0))), (q_2, .inl (c_2, 31, .inl (fun _ => 0))), (q_3, .inl (c_3, 31, .inl (fun _ => 0))), (q_4, .inl (c_4, 31, .inl (fun _ => 0))), (q_6, .inl (c_6, 31, .inl (fun _ => 0))), (q_7, .inl (c_7, 31, .inl (fun _ => 0))), (q_8, .inl (c_8, 31, .inl (fun _ => 0))), (q_9, .inl (c_9, 31, .inl (fun _ => 0))), (q_12, .inl (c_12, 16, .inl (fun _ => 0))), (q_13, .inl (c_13, 32, .inl (fun _ => 0))), (q_14, .inl (c_14, 46, .inl (fun _ => 0))), (q_15, .inl (c_15, 46, .inl (fun _ => 0)))] H := hP
  have hD : va_D A [(o, .inr (0, [.ref q_0, .ref q_1, .ref q_2, .ref q_3, .ref q_4, .int 0, .ref q_6, .ref q_7, .ref q_8, .ref q_9, .int 0, .int 0, .ref q_12, .ref q_13, .ref q_14, .ref q_15, .null, .null, .null, .int 0, .int 0, .null, .null, .null, .null, .null, .null, .null, .null, .int 0, .int 0, .int 0, .int 0])), (q_0, .inl (c_0, 31, .inl (fun _ => 0))), (q_1, .inl (c_1, 31, .inl (fun _ => 0))), (q_2, .inl (c_2, 31, .inl (fun _ => 0))), (q_3, .inl (c_3, 31, .inl (fun _ => 0))), (q_4, .inl (c_4, 31, .inl (fun _ => 0))), (q_6, .inl (c_6, 31, .inl (fun _ => 0))), (q_7, .inl (c_7, 31, .inl (fun _ => 0))), (q_8, .inl (c_8, 31, .inl (fun _ => 0))), (q_9, .inl (c_9, 31, .inl (fun _ => 0))), (q_12, .inl (c_12, 16, .inl (fun _ => 0))), (q_13, .inl (c_13, 32, .inl (fun _ => 0))), (q_14, .inl (c_14, 46, .inl (fun _ => 0))), (q_15, .inl (c_15, 46, .inl (fun _ => 0)))] := hD
  refine lv_aload_n hx hb dX0_init_108 rfl (lv_at hl 0 rfl) ?_
  refine lv_bipush (v := 46) hx hb dX0_init_109 (by decide) ?_
  refine va_newa (a0 := (46, .inl (fun _ => 0))) (atype := .int) (ty := .int) hx hb (hts _ q129) rfl hK hP hD hS hA (fun _ => rfl) (by decide) (by decide) (by decide) (by decide) (by decide) dX0_init_111 (fun q_16 c_16 H hK hP hD hS => ?_)
  refine W.widen (k := 14) (n := 465) (by decide) (by decide) ?_
  have hP : va_P D vwCl [(o, .inr (0, [.ref q_0, .ref q_1, .ref q_2, .ref q_3, .ref q_4, .int 0, .ref q_6, .ref q_7, .ref q_8, .ref q_9, .int 0, .int 0, .ref q_12, .ref q_13, .ref q_14, .ref q_15, .null, .null, .null, .int 0, .int 0, .null, .null, .null, .null, .null, .null, .null, .null, .int 0, .int 0, .int 0, .int 0])), (q_0, .inl (c_0, 31, .inl (fun _ => 0))), (q_1, .inl (c_1, 31, .inl (fun _ => 0))), (q_2, .inl (c_2, 31, .inl (fun _ => 0))), (q_3, .inl (c_3, 31, .inl (fun _ => 0))), (q_4, .inl (c_4, 31, .inl (fun _ => 0))), (q_6, .inl (c_6, 31, .inl (fun _ => 0))), (q_7, .inl (c_7, 31, .inl (fun _ => 0))), (q_8, .inl (c_8, 31, .inl (fun _ => 0))), (q_9, .inl (c_9, 31, .inl (fun _ => 0))), (q_12, .inl (c_12, 16, .inl (fun _ => 0))), (q_13, .inl (c_13, 32, .inl (fun _ => 0))), (q_14, .inl (c_14, 46, .inl (fun _ => 0))), (q_15, .inl (c_15, 46, .inl (fun _ => 0))), (q_16, .inl (c_16, 46, .inl (fun _ => 0)))] H := hP
  have hD : va_D A [(o, .inr (0, [.ref q_0, .ref q_1, .ref q_2, .ref q_3, .ref q_4, .int 0, .ref q_6, .ref q_7, .ref q_8, .ref q_9, .int 0, .int 0, .ref q_12, .ref q_13, .ref q_14, .ref q_15, .null, .null, .null, .int 0, .int 0, .null, .null, .null, .null, .null, .null, .null, .null, .int 0, .int 0, .int 0, .int 0])), (q_0, .inl (c_0, 31, .inl (fun _ => 0))), (q_1, .inl (c_1, 31, .inl (fun _ => 0))), (q_2, .inl (c_2, 31, .inl (fun _ => 0))), (q_3, .inl (c_3, 31, .inl (fun _ => 0))), (q_4, .inl (c_4, 31, .inl (fun _ => 0))), (q_6, .inl (c_6, 31, .inl (fun _ => 0))), (q_7, .inl (c_7, 31, .inl (fun _ => 0))), (q_8, .inl (c_8, 31, .inl (fun _ => 0))), (q_9, .inl (c_9, 31, .inl (fun _ => 0))), (q_12, .inl (c_12, 16, .inl (fun _ => 0))), (q_13, .inl (c_13, 32, .inl (fun _ => 0))), (q_14, .inl (c_14, 46, .inl (fun _ => 0))), (q_15, .inl (c_15, 46, .inl (fun _ => 0))), (q_16, .inl (c_16, 46, .inl (fun _ => 0)))] := hD
  have hK : va_K D vwCl [(c_0, .int), (c_1, .int), (c_2, .int), (c_3, .int), (c_4, .int), (c_6, .int), (c_7, .int), (c_8, .int), (c_9, .int), (c_12, .int), (c_13, .int), (c_14, .int), (c_15, .int), (c_16, .int)] s := hK
  refine va_putF (D := D) (ci := 0) (v := .ref q_16) (ty := .array .int) (C := RX0) (T := TX0) (N := 33) hx hb hts in_X0 tyX0 tyX0_ok nmX0 hown hK hP hD hS 0 rfl rfl 16 (by decide) (hts _ tkl16) (fun _ h9 => h9) rfl hin rfl (by decide +kernel) rfl rfl (Nat.le_of_ble_eq_true rfl) dX0_init_113 (fun H locs hP hD hS => ?_)
  have hP : va_P D vwCl [(o, .inr (0, [.ref q_0, .ref q_1, .ref q_2, .ref q_3, .ref q_4, .int 0, .ref q_6, .ref q_7, .ref q_8, .ref q_9, .int 0, .int 0, .ref q_12, .ref q_13, .ref q_14, .ref q_15, .ref q_16, .null, .null, .int 0, .int 0, .null, .null, .null, .null, .null, .null, .null, .null, .int 0, .int 0, .int 0, .int 0])), (q_0, .inl (c_0, 31, .inl (fun _ => 0))), (q_1, .inl (c_1, 31, .inl (fun _ => 0))), (q_2, .inl (c_2, 31, .inl (fun _ => 0))), (q_3, .inl (c_3, 31, .inl (fun _ => 0))), (q_4, .inl (c_4, 31, .inl (fun _ => 0))), (q_6, .inl (c_6, 31, .inl (fun _ => 0))), (q_7, .inl (c_7, 31, .inl (fun _ => 0))), (q_8, .inl (c_8, 31, .inl (fun _ => 0))), (q_9, .inl (c_9, 31, .inl (fun _ => 0))), (q_12, .inl (c_12, 16, .inl (fun _ => 0))), (q_13, .inl (c_13, 32, .inl (fun _ => 0))), (q_14, .inl (c_14, 46, .inl (fun _ => 0))), (q_15, .inl (c_15, 46, .inl (fun _ => 0))), (q_16, .inl (c_16, 46, .inl (fun _ => 0)))] H := hP
  have hD : va_D A [(o, .inr (0, [.ref q_0, .ref q_1, .ref q_2, .ref q_3, .ref q_4, .int 0, .ref q_6, .ref q_7, .ref q_8, .ref q_9, .int 0, .int 0, .ref q_12, .ref q_13, .ref q_14, .ref q_15, .ref q_16, .null, .null, .int 0, .int 0, .null, .null, .null, .null, .null, .null, .null, .null, .int 0, .int 0, .int 0, .int 0])), (q_0, .inl (c_0, 31, .inl (fun _ => 0))), (q_1, .inl (c_1, 31, .inl (fun _ => 0))), (q_2, .inl (c_2, 31, .inl (fun _ => 0))), (q_3, .inl (c_3, 31, .inl (fun _ => 0))), (q_4, .inl (c_4, 31, .inl (fun _ => 0))), (q_6, .inl (c_6, 31, .inl (fun _ => 0))), (q_7, .inl (c_7, 31, .inl (fun _ => 0))), (q_8, .inl (c_8, 31, .inl (fun _ => 0))), (q_9, .inl (c_9, 31, .inl (fun _ => 0))), (q_12, .inl (c_12, 16, .inl (fun _ => 0))), (q_13, .inl (c_13, 32, .inl (fun _ => 0))), (q_14, .inl (c_14, 46, .inl (fun _ => 0))), (q_15, .inl (c_15, 46, .inl (fun _ => 0))), (q_16, .inl (c_16, 46, .inl (fun _ => 0)))] := hD
  refine lv_aload_n hx hb dX0_init_116 rfl (lv_at hl 0 rfl) ?_
  refine lv_bipush (v := 46) hx hb dX0_init_117 (by decide) ?_
  refine va_newa (a0 := (46, .inl (fun _ => 0))) (atype := .int) (ty := .int) hx hb (hts _ q129) rfl hK hP hD hS hA (fun _ => rfl) (by decide) (by decide) (by decide) (by decide) (by decide) dX0_init_119 (fun q_17 c_17 H hK hP hD hS => ?_)
  refine W.widen (k := 15) (n := 511) (by decide) (by decide) ?_
  have hP : va_P D vwCl [(o, .inr (0, [.ref q_0, .ref q_1, .ref q_2, .ref q_3, .ref q_4, .int 0, .ref q_6, .ref q_7, .ref q_8, .ref q_9, .int 0, .int 0, .ref q_12, .ref q_13, .ref q_14, .ref q_15, .ref q_16, .null, .null, .int 0, .int 0, .null, .null, .null, .null, .null, .null, .null, .null, .int 0, .int 0, .int 0, .int 0])), (q_0, .inl (c_0, 31, .inl (fun _ => 0))), (q_1, .inl (c_1, 31, .inl (fun _ => 0))), (q_2, .inl (c_2, 31, .inl (fun _ => 0))), (q_3, .inl (c_3, 31, .inl (fun _ => 0))), (q_4, .inl (c_4, 31, .inl (fun _ => 0))), (q_6, .inl (c_6, 31, .inl (fun _ => 0))), (q_7, .inl (c_7, 31, .inl (fun _ => 0))), (q_8, .inl (c_8, 31, .inl (fun _ => 0))), (q_9, .inl (c_9, 31, .inl (fun _ => 0))), (q_12, .inl (c_12, 16, .inl (fun _ => 0))), (q_13, .inl (c_13, 32, .inl (fun _ => 0))), (q_14, .inl (c_14, 46, .inl (fun _ => 0))), (q_15, .inl (c_15, 46, .inl (fun _ => 0))), (q_16, .inl (c_16, 46, .inl (fun _ => 0))), (q_17, .inl (c_17, 46, .inl (fun _ => 0)))] H := hP
  have hD : va_D A [(o, .inr (0, [.ref q_0, .ref q_1, .ref q_2, .ref q_3, .ref q_4, .int 0, .ref q_6, .ref q_7, .ref q_8, .ref q_9, .int 0, .int 0, .ref q_12, .ref q_13, .ref q_14, .ref q_15, .ref q_16, .null, .null, .int 0, .int 0, .null, .null, .null, .null, .null, .null, .null, .null, .int 0, .int 0, .int 0, .int 0])), (q_0, .inl (c_0, 31, .inl (fun _ => 0))), (q_1, .inl (c_1, 31, .inl (fun _ => 0))), (q_2, .inl (c_2, 31, .inl (fun _ => 0))), (q_3, .inl (c_3, 31, .inl (fun _ => 0))), (q_4, .inl (c_4, 31, .inl (fun _ => 0))), (q_6, .inl (c_6, 31, .inl (fun _ => 0))), (q_7, .inl (c_7, 31, .inl (fun _ => 0))), (q_8, .inl (c_8, 31, .inl (fun _ => 0))), (q_9, .inl (c_9, 31, .inl (fun _ => 0))), (q_12, .inl (c_12, 16, .inl (fun _ => 0))), (q_13, .inl (c_13, 32, .inl (fun _ => 0))), (q_14, .inl (c_14, 46, .inl (fun _ => 0))), (q_15, .inl (c_15, 46, .inl (fun _ => 0))), (q_16, .inl (c_16, 46, .inl (fun _ => 0))), (q_17, .inl (c_17, 46, .inl (fun _ => 0)))] := hD
  have hK : va_K D vwCl [(c_0, .int), (c_1, .int), (c_2, .int), (c_3, .int), (c_4, .int), (c_6, .int), (c_7, .int), (c_8, .int), (c_9, .int), (c_12, .int), (c_13, .int), (c_14, .int), (c_15, .int), (c_16, .int), (c_17, .int)] s := hK
  refine va_putF (D := D) (ci := 0) (v := .ref q_17) (ty := .array .int) (C := RX0) (T := TX0) (N := 33) hx hb hts in_X0 tyX0 tyX0_ok nmX0 hown hK hP hD hS 0 rfl rfl 17 (by decide) (hts _ tkl17) (fun _ h9 => h9) rfl hin rfl (by decide +kernel) rfl rfl (Nat.le_of_ble_eq_true rfl) dX0_init_121 (fun H locs hP hD hS => ?_)
  have hP : va_P D vwCl [(o, .inr (0, [.ref q_0, .ref q_1, .ref q_2, .ref q_3, .ref q_4, .int 0, .ref q_6, .ref q_7, .ref q_8, .ref q_9, .int 0, .int 0, .ref q_12, .ref q_13, .ref q_14, .ref q_15, .ref q_16, .ref q_17, .null, .int 0, .int 0, .null, .null, .null, .null, .null, .null, .null, .null, .int 0, .int 0, .int 0, .int 0])), (q_0, .inl (c_0, 31, .inl (fun _ => 0))), (q_1, .inl (c_1, 31, .inl (fun _ => 0))), (q_2, .inl (c_2, 31, .inl (fun _ => 0))), (q_3, .inl (c_3, 31, .inl (fun _ => 0))), (q_4, .inl (c_4, 31, .inl (fun _ => 0))), (q_6, .inl (c_6, 31, .inl (fun _ => 0))), (q_7, .inl (c_7, 31, .inl (fun _ => 0))), (q_8, .inl (c_8, 31, .inl (fun _ => 0))), (q_9, .inl (c_9, 31, .inl (fun _ => 0))), (q_12, .inl (c_12, 16, .inl (fun _ => 0))), (q_13, .inl (c_13, 32, .inl (fun _ => 0))), (q_14, .inl (c_14, 46, .inl (fun _ => 0))), (q_15, .inl (c_15, 46, .inl (fun _ => 0))), (q_16, .inl (c_16, 46, .inl (fun _ => 0))), (q_17, .inl (c_17, 46, .inl (fun _ => 0)))] H := hP
  have hD : va_D A [(o, .inr (0, [.ref q_0, .ref q_1, .ref q_2, .ref q_3, .ref q_4, .int 0, .ref q_6, .ref q_7, .ref q_8, .ref q_9, .int 0, .int 0, .ref q_12, .ref q_13, .ref q_14, .ref q_15, .ref q_16, .ref q_17, .null, .int 0, .int 0, .null, .null, .null, .null, .null, .null, .null, .null, .int 0, .int 0, .int 0, .int 0])), (q_0, .inl (c_0, 31, .inl (fun _ => 0))), (q_1, .inl (c_1, 31, .inl (fun _ => 0))), (q_2, .inl (c_2, 31, .inl (fun _ => 0))), (q_3, .inl (c_3, 31, .inl (fun _ => 0))), (q_4, .inl (c_4, 31, .inl (fun _ => 0))), (q_6, .inl (c_6, 31, .inl (fun _ => 0))), (q_7, .inl (c_7, 31, .inl (fun _ => 0))), (q_8, .inl (c_8, 31, .inl (fun _ => 0))), (q_9, .inl (c_9, 31, .inl (fun _ => 0))), (q_12, .inl (c_12, 16, .inl (fun _ => 0))), (q_13, .inl (c_13, 32, .inl (fun _ => 0))), (q_14, .inl (c_14, 46, .inl (fun _ => 0))), (q_15, .inl (c_15, 46, .inl (fun _ => 0))), (q_16, .inl (c_16, 46, .inl (fun _ => 0))), (q_17, .inl (c_17, 46, .inl (fun _ => 0)))] := hD
  refine lv_aload_n hx hb dX0_init_124 rfl (lv_at hl 0 rfl) ?_
  refine lv_bipush (v := 46) hx hb dX0_init_125 (by decide) ?_
  refine va_newa (a0 := (46, .inl (fun _ => 0))) (atype := .boolean) (ty := .boolean) hx hb (hts _ q130) rfl hK hP hD hS hA (fun _ => rfl) (by decide) (by decide) (by decide) (by decide) (by decide) dX0_init_127 (fun q_18 c_18 H hK hP hD hS => ?_)
  refine W.widen (k := 16) (n := 557) (by decide) (by decide) ?_
  have hP : va_P D vwCl [(o, .inr (0, [.ref q_0, .ref q_1, .ref q_2, .ref q_3, .ref q_4, .int 0, .ref q_6, .ref q_7, .ref q_8, .ref q_9, .int 0, .int 0, .ref q_12, .ref q_13, .ref q_14, .ref q_15, .ref q_16, .ref q_17, .null, .int 0, .int 0, .null, .null, .null, .null, .null, .null, .null, .null, .int 0, .int 0, .int 0, .int 0])), (q_0, .inl (c_0, 31, .inl (fun _ => 0))), (q_1, .inl (c_1, 31, .inl (fun _ => 0))), (q_2, .inl (c_2, 31, .inl (fun _ => 0))), (q_3, .inl (c_3, 31, .inl (fun _ => 0))), (q_4, .inl (c_4, 31, .inl (fun _ => 0))), (q_6, .inl (c_6, 31, .inl (fun _ => 0))), (q_7, .inl (c_7, 31, .inl (fun _ => 0))), (q_8, .inl (c_8, 31, .inl (fun _ => 0))), (q_9, .inl (c_9, 31, .inl (fun _ => 0))), (q_12, .inl (c_12, 16, .inl (fun _ => 0))), (q_13, .inl (c_13, 32, .inl (fun _ => 0))), (q_14, .inl (c_14, 46, .inl (fun _ => 0))), (q_15, .inl (c_15, 46, .inl (fun _ => 0))), (q_16, .inl (c_16, 46, .inl (fun _ => 0))), (q_17, .inl (c_17, 46, .inl (fun _ => 0))), (q_18, .inl (c_18, 46, .inl (fun _ => 0)))] H := hP
  have hD : va_D A [(o, .inr (0, [.ref q_0, .ref q_1, .ref q_2, .ref q_3, .ref q_4, .int 0, .ref q_6, .ref q_7, .ref q_8, .ref q_9, .int 0, .int 0, .ref q_12, .ref q_13, .ref q_14, .ref q_15, .ref q_16, .ref q_17, .null, .int 0, .int 0, .null, .null, .null, .null, .null, .null, .null, .null, .int 0, .int 0, .int 0, .int 0])), (q_0, .inl (c_0, 31, .inl (fun _ => 0))), (q_1, .inl (c_1, 31, .inl (fun _ => 0))), (q_2, .inl (c_2, 31, .inl (fun _ => 0))), (q_3, .inl (c_3, 31, .inl (fun _ => 0))), (q_4, .inl (c_4, 31, .inl (fun _ => 0))), (q_6, .inl (c_6, 31, .inl (fun _ => 0))), (q_7, .inl (c_7, 31, .inl (fun _ => 0))), (q_8, .inl (c_8, 31, .inl (fun _ => 0))), (q_9, .inl (c_9, 31, .inl (fun _ => 0))), (q_12, .inl (c_12, 16, .inl (fun _ => 0))), (q_13, .inl (c_13, 32, .inl (fun _ => 0))), (q_14, .inl (c_14, 46, .inl (fun _ => 0))), (q_15, .inl (c_15, 46, .inl (fun _ => 0))), (q_16, .inl (c_16, 46, .inl (fun _ => 0))), (q_17, .inl (c_17, 46, .inl (fun _ => 0))), (q_18, .inl (c_18, 46, .inl (fun _ => 0)))] := hD
  have hK : va_K D vwCl [(c_0, .int), (c_1, .int), (c_2, .int), (c_3, .int), (c_4, .int), (c_6, .int), (c_7, .int), (c_8, .int), (c_9, .int), (c_12, .int), (c_13, .int), (c_14, .int), (c_15, .int), (c_16, .int), (c_17, .int), (c_18, .boolean)] s := hK
  refine va_putF (D := D) (ci := 0) (v := .ref q_18) (ty := .array .boolean) (C := RX0) (T := TX0) (N := 33) hx hb hts in_X0 tyX0 tyX0_ok nmX0 hown hK hP hD hS 0 rfl rfl 18 (by decide) (hts _ tkl18) (fun _ h9 => h9) rfl hin rfl (by decide +kernel) rfl rfl (Nat.le_of_ble_eq_true rfl) dX0_init_129 (fun H locs hP hD hS => ?_)
  have hP : va_P D vwCl [(o, .inr (0, [.ref q_0, .ref q_1, .ref q_2, .ref q_3, .ref q_4, .int 0, .ref q_6, .ref q_7, .ref q_8, .ref q_9, .int 0, .int 0, .ref q_12, .ref q_13, .ref q_14, .ref q_15, .ref q_16, .ref q_17, .ref q_18, .int 0, .int 0, .null, .null, .null, .null, .null, .null, .null, .null, .int 0, .int 0, .int 0, .int 0])), (q_0, .inl (c_0, 31, .inl (fun _ => 0))), (q_1, .inl (c_1, 31, .inl (fun _ => 0))), (q_2, .inl (c_2, 31, .inl (fun _ => 0))), (q_3, .inl (c_3, 31, .inl (fun _ => 0))), (q_4, .inl (c_4, 31, .inl (fun _ => 0))), (q_6, .inl (c_6, 31, .inl (fun _ => 0))), (q_7, .inl (c_7, 31, .inl (fun _ => 0))), (q_8, .inl (c_8, 31, .inl (fun _ => 0))), (q_9, .inl (c_9, 31, .inl (fun _ => 0))), (q_12, .inl (c_12, 16, .inl (fun _ => 0))), (q_13, .inl (c_13, 32, .inl (fun _ => 0))), (q_14, .inl (c_14, 46, .inl (fun _ => 0))), (q_15, .inl (c_15, 46, .inl (fun _ => 0))), (q_16, .inl (c_16, 46, .inl (fun _ => 0))), (q_17, .inl (c_17, 46, .inl (fun _ => 0))), (q_18, .inl (c_18, 46, .inl (fun _ => 0)))] H := hP
  have hD : va_D A [(o, .inr (0, [.ref q_0, .ref q_1, .ref q_2, .ref q_3, .ref q_4, .int 0, .ref q_6, .ref q_7, .ref q_8, .ref q_9, .int 0, .int 0, .ref q_12, .ref q_13, .ref q_14, .ref q_15, .ref q_16, .ref q_17, .ref q_18, .int 0, .int 0, .null, .null, .null, .null, .null, .null, .null, .null, .int 0, .int 0, .int 0, .int 0])), (q_0, .inl (c_0, 31, .inl (fun _ => 0))), (q_1, .inl (c_1, 31, .inl (fun _ => 0))), (q_2, .inl (c_2, 31, .inl (fun _ => 0))), (q_3, .inl (c_3, 31, .inl (fun _ => 0))), (q_4, .inl (c_4, 31, .inl (fun _ => 0))), (q_6, .inl (c_6, 31, .inl (fun _ => 0))), (q_7, .inl (c_7, 31, .inl (fun _ => 0))), (q_8, .inl (c_8, 31, .inl (fun _ => 0))), (q_9, .inl (c_9, 31, .inl (fun _ => 0))), (q_12, .inl (c_12, 16, .inl (fun _ => 0))), (q_13, .inl (c_13, 32, .inl (fun _ => 0))), (q_14, .inl (c_14, 46, .inl (fun _ => 0))), (q_15, .inl (c_15, 46, .inl (fun _ => 0))), (q_16, .inl (c_16, 46, .inl (fun _ => 0))), (q_17, .inl (c_17, 46, .inl (fun _ => 0))), (q_18, .inl (c_18, 46, .inl (fun _ => 0)))] := hD
  refine lv_aload_n hx hb dX0_init_132 rfl (lv_at hl 0 rfl) ?_
  refine lv_bipush (v := 15) hx hb dX0_init_133 (by decide) ?_
  refine va_newa (a0 := (15, .inl (fun _ => 0))) (atype := .int) (ty := .int) hx hb (hts _ q129) rfl hK hP hD hS hA (fun _ => rfl) (by decide) (by decide) (by decide) (by decide) (by decide) dX0_init_135 (fun q_21 c_21 H hK hP hD hS => ?_)
  refine W.widen (k := 17) (n := 572) (by decide) (by decide) ?_
  have hP : va_P D vwCl [(o, .inr (0, [.ref q_0, .ref q_1, .ref q_2, .ref q_3, .ref q_4, .int 0, .ref q_6, .ref q_7, .ref q_8, .ref q_9, .int 0, .int 0, .ref q_12, .ref q_13, .ref q_14, .ref q_15, .ref q_16, .ref q_17, .ref q_18, .int 0, .int 0, .null, .null, .null, .null, .null, .null, .null, .null, .int 0, .int 0, .int 0, .int 0])), (q_0, .inl (c_0, 31, .inl (fun _ => 0))), (q_1, .inl (c_1, 31, .inl (fun _ => 0))), (q_2, .inl (c_2, 31, .inl (fun _ => 0))), (q_3, .inl (c_3, 31, .inl (fun _ => 0))), (q_4, .inl (c_4, 31, .inl (fun _ => 0))), (q_6, .inl (c_6, 31, .inl (fun _ => 0))), (q_7, .inl (c_7, 31, .inl (fun _ => 0))), (q_8, .inl (c_8, 31, .inl (fun _ => 0))), (q_9, .inl (c_9, 31, .inl (fun _ => 0))), (q_12, .inl (c_12, 16, .inl (fun _ => 0))), (q_13, .inl (c_13, 32, .inl (fun _ => 0))), (q_14, .inl (c_14, 46, .inl (fun _ => 0))), (q_15, .inl (c_15, 46, .inl (fun _ => 0))), (q_16, .inl (c_16, 46, .inl (fun _ => 0))), (q_17, .inl (c_17, 46, .inl (fun _ => 0))), (q_18, .inl (c_18, 46, .inl (fun _ => 0))), (q_21, .inl (c_21, 15, .inl (fun _ => 0)))] H := hP
  have hD : va_D A [(o, .inr (0, [.ref q_0, .ref q_1, .ref q_2, .ref q_3, .ref q_4, .int 0, .ref q_6, .ref q_7, .ref q_8, .ref q_9, .int 0, .int 0, .ref q_12, .ref q_13, .ref q_14, .ref q_15, .ref q_16, .ref q_17, .ref q_18, .int 0, .int 0, .null, .null, .null, .null, .null, .null, .null, .null, .int 0, .int 0, .int 0, .int 0])), (q_0, .inl (c_0, 31, .inl (fun _ => 0))), (q_1, .inl (c_1, 31, .inl (fun _ => 0))), (q_2, .inl (c_2, 31, .inl (fun _ => 0))), (q_3, .inl (c_3, 31, .inl (fun _ => 0))), (q_4, .inl (c_4, 31, .inl (fun _ => 0))), (q_6, .inl (c_6, 31, .inl (fun _ => 0))), (q_7, .inl (c_7, 31, .inl (fun _ => 0))), (q_8, .inl (c_8, 31, .inl (fun _ => 0))), (q_9, .inl (c_9, 31, .inl (fun _ => 0))), (q_12, .inl (c_12, 16, .inl (fun _ => 0))), (q_13, .inl (c_13, 32, .inl (fun _ => 0))), (q_14, .inl (c_14, 46, .inl (fun _ => 0))), (q_15, .inl (c_15, 46, .inl (fun _ => 0))), (q_16, .inl (c_16, 46, .inl (fun _ => 0))), (q_17, .inl (c_17, 46, .inl (fun _ => 0))), (q_18, .inl (c_18, 46, .inl (fun _ => 0))), (q_21, .inl (c_21, 15, .inl (fun _ => 0)))] := hD
  have hK : va_K D vwCl [(c_0, .int), (c_1, .int), (c_2, .int), (c_3, .int), (c_4, .int), (c_6, .int), (c_7, .int), (c_8, .int), (c_9, .int), (c_12, .int), (c_13, .int), (c_14, .int), (c_15, .int), (c_16, .int), (c_17, .int), (c_18, .boolean), (c_21, .int)] s := hK
  refine va_putF (D := D) (ci := 0) (v := .ref q_21) (ty := .array .int) (C := RX0) (T := TX0) (N := 33) hx hb hts in_X0 tyX0 tyX0_ok nmX0 hown hK hP hD hS 0 rfl rfl 21 (by decide) (hts _ tkl21) (fun _ h9 => h9) rfl hin rfl (by decide +kernel) rfl rfl (Nat.le_of_ble_eq_true rfl) dX0_init_137 (fun H locs hP hD hS => ?_)
  have hP : va_P D vwCl [(o, .inr (0, [.ref q_0, .ref q_1, .ref q_2, .ref q_3, .ref q_4, .int 0, .ref q_6, .ref q_7, .ref q_8, .ref q_9, .int 0, .int 0, .ref q_12, .ref q_13, .ref q_14, .ref q_15, .ref q_16, .ref q_17, .ref q_18, .int 0, .int 0, .ref q_21, .null, .null, .null, .null, .null, .null, .null, .int 0, .int 0, .int 0, .int 0])), (q_0, .inl (c_0, 31, .inl (fun _ => 0))), (q_1, .inl (c_1, 31, .inl (fun _ => 0))), (q_2, .inl (c_2, 31, .inl (fun _ => 0))), (q_3, .inl (c_3, 31, .inl (fun _ => 0))), (q_4, .inl (c_4, 31, .inl (fun _ => 0))), (q_6, .inl (c_6, 31, .inl (fun _ => 0))), (q_7, .inl (c_7, 31, .inl (fun _ => 0))), (q_8, .inl (c_8, 31, .inl (fun _ => 0))), (q_9, .inl (c_9, 31, .inl (fun _ => 0))), (q_12, .inl (c_12, 16, .inl (fun _ => 0))), (q_13, .inl (c_13, 32, .inl (fun _ => 0))), (q_14, .inl (c_14, 46, .inl (fun _ => 0))), (q_15, .inl (c_15, 46, .inl (fun _ => 0))), (q_16, .inl (c_16, 46, .inl (fun _ => 0))), (q_17, .inl (c_17, 46, .inl (fun _ => 0))), (q_18, .inl (c_18, 46, .inl (fun _ => 0))), (q_21, .inl (c_21, 15, .inl (fun _ => 0)))] H := hP
  have hD : va_D A [(o, .inr (0, [.ref q_0, .ref q_1, .ref q_2, .ref q_3, .ref q_4, .int 0, .ref q_6, .ref q_7, .ref q_8, .ref q_9, .int 0, .int 0, .ref q_12, .ref q_13, .ref q_14, .ref q_15, .ref q_16, .ref q_17, .ref q_18, .int 0, .int 0, .ref q_21, .null, .null, .null, .null, .null, .null, .null, .int 0, .int 0, .int 0, .int 0])), (q_0, .inl (c_0, 31, .inl (fun _ => 0))), (q_1, .inl (c_1, 31, .inl (fun _ => 0))), (q_2, .inl (c_2, 31, .inl (fun _ => 0))), (q_3, .inl (c_3, 31, .inl (fun _ => 0))), (q_4, .inl (c_4, 31, .inl (fun _ => 0))), (q_6, .inl (c_6, 31, .inl (fun _ => 0))), (q_7, .inl (c_7, 31, .inl (fun _ => 0))), (q_8, .inl (c_8, 31, .inl (fun _ => 0))), (q_9, .inl (c_9, 31, .inl (fun _ => 0))), (q_12, .inl (c_12, 16, .inl (fun _ => 0))), (q_13, .inl (c_13, 32, .inl (fun _ => 0))), (q_14, .inl (c_14, 46, .inl (fun _ => 0))), (q_15, .inl (c_15, 46, .inl (fun _ => 0))), (q_16, .inl (c_16, 46, .inl (fun _ => 0))), (q_17, .inl (c_17, 46, .inl (fun _ => 0))), (q_18, .inl (c_18, 46, .inl (fun _ => 0))), (q_21, .inl (c_21, 15, .inl (fun _ => 0)))] := hD
  refine lv_aload_n hx hb dX0_init_140 rfl (lv_at hl 0 rfl) ?_
  refine lv_bipush (v := 15) hx hb dX0_init_141 (by decide) ?_
  refine va_newa (a0 := (15, .inl (fun _ => 0))) (atype := .int) (ty := .int) hx hb (hts _ q129) rfl hK hP hD hS hA (fun _ => rfl) (by decide) (by decide) (by decide) (by decide) (by decide) dX0_init_143 (fun q_22 c_22 H hK hP hD hS => ?_)
  refine W.widen (k := 18) (n := 587) (by decide) (by decide) ?_
  have hP : va_P D vwCl [(o, .inr (0, [.ref q_0, .ref q_1, .ref q_2, .ref q_3, .ref q_4, .int 0, .ref q_6, .ref q_7, .ref q_8, .ref q_9, .int 0, .int 0, .ref q_12, .ref q_13, .ref q_14, .ref q_15, .ref q_16, .ref q_17, .ref q_18, .int 0, .int 0, .ref q_21, .null, .null, .null, .null, .null, .null, .null, .int 0, .int 0, .int 0, .int 0])), (q_0, .inl (c_0, 31, .inl (fun _ => 0))), (q_1, .inl (c_1, 31, .inl (fun _ => 0))), (q_2, .inl (c_2, 31, .inl (fun _ => 0))), (q_3, .inl (c_3, 31, .inl (fun _ => 0))), (q_4, .inl (c_4, 31, .inl (fun _ => 0))), (q_6, .inl (c_6, 31, .inl (fun _ => 0))), (q_7, .inl (c_7, 31, .inl (fun _ => 0))), (q_8, .inl (c_8, 31, .inl (fun _ => 0))), (q_9, .inl (c_9, 31, .inl (fun _ => 0))), (q_12, .inl (c_12, 16, .inl (fun _ => 0))), (q_13, .inl (c_13, 32, .inl (fun _ => 0))), (q_14, .inl (c_14, 46, .inl (fun _ => 0))), (q_15, .inl (c_15, 46, .inl (fun _ => 0))), (q_16, .inl (c_16, 46, .inl (fun _ => 0))), (q_17, .inl (c_17, 46, .inl (fun _ => 0))), (q_18, .inl (c_18, 46, .inl (fun _ => 0))), (q_21, .inl (c_21, 15, .inl (fun _ => 0))), (q_22, .inl (c_22, 15, .inl (fun _ => 0)))] H := hP
  have hD : va_D A [(o, .inr (0, [.ref q_0, .ref q_1, .ref q_2, .ref q_3, .ref q_4, .int 0, .ref q_6, .ref q_7, .ref q_8, .ref q_9, .int 0, .int 0, .ref q_12, .ref q_13, .ref q_14, .ref q_15, .ref q_16, .ref q_17, .ref q_18, .int 0, .int 0, .ref q_21, .null, .null, .null, .null, .null, .null, .null, .int 0, .int 0, .int 0, .int 0])), (q_0, .inl (c_0, 31, .inl (fun _ => 0))), (q_1, .inl (c_1, 31, .inl (fun _ => 0))), (q_2, .inl (c_2, 31, .inl (fun _ => 0))), (q_3, .inl (c_3, 31, .inl (fun _ => 0))), (q_4, .inl (c_4, 31, .inl (fun _ => 0))), (q_6, .inl (c_6, 31, .inl (fun _ => 0))), (q_7, .inl (c_7, 31, .inl (fun _ => 0))), (q_8, .inl (c_8, 31, .inl (fun _ => 0))), (q_9, .inl (c_9, 31, .inl (fun _ => 0))), (q_12, .inl (c_12, 16, .inl (fun _ => 0))), (q_13, .inl (c_13, 32, .inl (fun _ => 0))), (q_14, .inl (c_14, 46, .inl (fun _ => 0))), (q_15, .inl (c_15, 46, .inl (fun _ => 0))), (q_16, .inl (c_16, 46, .inl (fun _ => 0))), (q_17, .inl (c_17, 46, .inl (fun _ => 0))), (q_18, .inl (c_18, 46, .inl (fun _ => 0))), (q_21, .inl (c_21, 15, .inl (fun _ => 0))), (q_22, .inl (c_22, 15, .inl (fun _ => 0)))] := hD
  have hK : va_K D vwCl [(c_0, .int), (c_1, .int), (c_2, .int), (c_3, .int), (c_4, .int), (c_6, .int), (c_7, .int), (c_8, .int), (c_9, .int), (c_12, .int), (c_13, .int), (c_14, .int), (c_15, .int), (c_16, .int), (c_17, .int), (c_18, .boolean), (c_21, .int), (c_22, .int)] s := hK
  refine va_putF (D := D) (ci := 0) (v := .ref q_22) (ty := .array .int) (C := RX0) (T := TX0) (N := 33) hx hb hts in_X0 tyX0 tyX0_ok nmX0 hown hK hP hD hS 0 rfl rfl 22 (by decide) (hts _ tkl22) (fun _ h9 => h9) rfl hin rfl (by decide +kernel) rfl rfl (Nat.le_of_ble_eq_true rfl) dX0_init_145 (fun H locs hP hD hS => ?_)
  have hP : va_P D vwCl [(o, .inr (0, [.ref q_0, .ref q_1, .ref q_2, .ref q_3, .ref q_4, .int 0, .ref q_6, .ref q_7, .ref q_8, .ref q_9, .int 0, .int 0, .ref q_12, .ref q_13, .ref q_14, .ref q_15, .ref q_16, .ref q_17, .ref q_18, .int 0, .int 0, .ref q_21, .ref q_22, .null, .null, .null, .null, .null, .null, .int 0, .int 0, .int 0, .int 0])), (q_0, .inl (c_0, 31, .inl (fun _ => 0))), (q_1, .inl (c_1, 31, .inl (fun _ => 0))), (q_2, .inl (c_2, 31, .inl (fun _ => 0))), (q_3, .inl (c_3, 31, .inl (fun _ => 0))), (q_4, .inl (c_4, 31, .inl (fun _ => 0))), (q_6, .inl (c_6, 31, .inl (fun _ => 0))), (q_7, .inl (c_7, 31, .inl (fun _ => 0))), (q_8, .inl (c_8, 31, .inl (fun _ => 0))), (q_9, .inl (c_9, 31, .inl (fun _ => 0))), (q_12, .inl (c_12, 16, .inl (fun _ => 0))), (q_13, .inl (c_13, 32, .inl (fun _ => 0))), (q_14, .inl (c_14, 46, .inl (fun _ => 0))), (q_15, .inl (c_15, 46, .inl (fun _ => 0))), (q_16, .inl (c_16, 46, .inl (fun _ => 0))), (q_17, .inl (c_17, 46, .inl (fun _ => 0))), (q_18, .inl (c_18, 46, .inl (fun _ => 0))), (q_21, .inl (c_21, 15, .inl (fun _ => 0))), (q_22, .inl (c_22, 15, .inl (fun _ => 0)))] H := hP
  have hD : va_D A [(o, .inr (0, [.ref q_0, .ref q_1, .ref q_2, .ref q_3, .ref q_4, .int 0, .ref q_6, .ref q_7, .ref q_8, .ref q_9, .int 0, .int 0, .ref q_12, .ref q_13, .ref q_14, .ref q_15, .ref q_16, .ref q_17, .ref q_18, .int 0, .int 0, .ref q_21, .ref q_22, .null, .null, .null, .null, .null, .null, .int 0, .int 0, .int 0, .int 0])), (q_0, .inl (c_0, 31, .inl (fun _ => 0))), (q_1, .inl (c_1, 31, .inl (fun _ => 0))), (q_2, .inl (c_2, 31, .inl (fun _ => 0))), (q_3, .inl (c_3, 31, .inl (fun _ => 0))), (q_4, .inl (c_4, 31, .inl (fun _ => 0))), (q_6, .inl (c_6, 31, .inl (fun _ => 0))), (q_7, .inl (c_7, 31, .inl (fun _ => 0))), (q_8, .inl (c_8, 31, .inl (fun _ => 0))), (q_9, .inl (c_9, 31, .inl (fun _ => 0))), (q_12, .inl (c_12, 16, .inl (fun _ => 0))), (q_13, .inl (c_13, 32, .inl (fun _ => 0))), (q_14, .inl (c_14, 46, .inl (fun _ => 0))), (q_15, .inl (c_15, 46, .inl (fun _ => 0))), (q_16, .inl (c_16, 46, .inl (fun _ => 0))), (q_17, .inl (c_17, 46, .inl (fun _ => 0))), (q_18, .inl (c_18, 46, .inl (fun _ => 0))), (q_21, .inl (c_21, 15, .inl (fun _ => 0))), (q_22, .inl (c_22, 15, .inl (fun _ => 0)))] := hD
  refine lv_aload_n hx hb dX0_init_148 rfl (lv_at hl 0 rfl) ?_
  refine lv_bipush (v := 15) hx hb dX0_init_149 (by decide) ?_
  refine va_newa (a0 := (15, .inl (fun _ => 0))) (atype := .int) (ty := .int) hx hb (hts _ q129) rfl hK hP hD hS hA (fun _ => rfl) (by decide) (by decide) (by decide) (by decide) (by decide) dX0_init_151 (fun q_23 c_23 H hK hP hD hS => ?_)
  refine W.widen (k := 19) (n := 602) (by decide) (by decide) ?_
  have hP : va_P D vwCl [(o, .inr (0, [.ref q_0, .ref q_1, .ref q_2, .ref q_3, .ref q_4, .int 0, .ref q_6, .ref q_7, .ref q_8, .ref q_9, .int 0, .int 0, .ref q_12, .ref q_13, .ref q_14, .ref q_15, .ref q_16, .ref q_17, .ref q_18, .int 0, .int 0, .ref q_21, .ref q_22, .null, .null, .null, .null, .null, .null, .int 0, .int 0, .int 0, .int 0])), (q_0, .inl (c_0, 31, .inl (fun _ => 0))), (q_1, .inl (c_1, 31, .inl (fun _ => 0))), (q_2, .inl (c_2, 31, .inl (fun _ => 0))), (q_3, .inl (c_3, 31, .inl (fun _ => 0))), (q_4, .inl (c_4, 31, .inl (fun _ => 0))), (q_6, .inl (c_6, 31, .inl (fun _ => 0))), (q_7, .inl (c_7, 31, .inl (fun _ => 0))), (q_8, .inl (c_8, 31, .inl (fun _ => 0))), (q_9, .inl (c_9, 31, .inl (fun _ => 0))), (q_12, .inl (c_12, 16, .inl (fun _ => 0))), (q_13, .inl (c_13, 32, .inl (fun _ => 0))), (q_14, .inl (c_14, 46, .inl (fun _ => 0))), (q_15, .inl (c_15, 46, .inl (fun _ => 0))), (q_16, .inl (c_16, 46, .inl (fun _ => 0))), (q_17, .inl (c_17, 46, .inl (fun _ => 0))), (q_18, .inl (c_18, 46, .inl (fun _ => 0))), (q_21, .inl (c_21, 15, .inl (fun _ => 0))), (q_22, .inl (c_22, 15, .inl (fun _ => 0))), (q_23, .inl (c_23, 15, .inl (fun _ => 0)))] H := hP
  have hD : va_D A [(o, .inr (0, [.ref q_0, .ref q_1, .ref q_2, .ref q_3, .ref q_4, .int 0, .ref q_6, .ref q_7, .ref q_8, .ref q_9, .int 0, .int 0, .ref q_12, .ref q_13, .ref q_14, .ref q_15, .ref q_16, .ref q_17, .ref q_18, .int 0, .int 0, .ref q_21, .ref q_22, .null, .null, .null, .null, .null, .null, .int 0, .int 0, .int 0, .int 0])), (q_0, .inl (c_0, 31, .inl (fun _ => 0))), (q_1, .inl (c_1, 31, .inl (fun _ => 0))), (q_2, .inl (c_2, 31, .inl (fun _ => 0))), (q_3, .inl (c_3, 31, .inl (fun _ => 0))), (q_4, .inl (c_4, 31, .inl (fun _ => 0))), (q_6, .inl (c_6, 31, .inl (fun _ => 0))), (q_7, .inl (c_7, 31, .inl (fun _ => 0))), (q_8, .inl (c_8, 31, .inl (fun _ => 0))), (q_9, .inl (c_9, 31, .inl (fun _ => 0))), (q_12, .inl (c_12, 16, .inl (fun _ => 0))), (q_13, .inl (c_13, 32, .inl (fun _ => 0))), (q_14, .inl (c_14, 46, .inl (fun _ => 0))), (q_15, .inl (c_15, 46, .inl (fun _ => 0))), (q_16, .inl (c_16, 46, .inl (fun _ => 0))), (q_17, .inl (c_17, 46, .inl (fun _ => 0))), (q_18, .inl (c_18, 46, .inl (fun _ => 0))), (q_21, .inl (c_21, 15, .inl (fun _ => 0))), (q_22, .inl (c_22, 15, .inl (fun _ => 0))), (q_23, .inl (c_23, 15, .inl (fun _ => 0)))] := hD
  have hK : va_K D vwCl [(c_0, .int), (c_1, .int), (c_2, .int), (c_3, .int), (c_4, .int), (c_6, .int), (c_7, .int), (c_8, .int), (c_9, .int), (c_12, .int), (c_13, .int), (c_14, .int), (c_15, .int), (c_16, .int), (c_17, .int), (c_18, .boolean), (c_21, .int), (c_22, .int), (c_23, .int)] s := hK
  refine va_putF (D := D) (ci := 0) (v := .ref q_23) (ty := .array .int) (C := RX0) (T := TX0) (N := 33) hx hb hts in_X0 tyX0 tyX0_ok nmX0 hown hK hP hD hS 0 rfl rfl 23 (by decide) (hts _ tkl23) (fun _ h9 => h9) rfl hin rfl (by decide +kernel) rfl rfl (Nat.le_of_ble_eq_true rfl) dX0_init_153 (fun H locs hP hD hS => ?_)
  have hP : va_P D vwCl [(o, .inr (0, [.ref q_0, .ref q_1, .ref q_2, .ref q_3, .ref q_4, .int 0, .ref q_6, .ref q_7, .ref q_8, .ref q_9, .int 0, .int 0, .ref q_12, .ref q_13, .ref q_14, .ref q_15, .ref q_16, .ref q_17, .ref q_18, .int 0, .int 0, .ref q_21, .ref q_22, .ref q_23, .null, .null, .null, .null, .null, .int 0, .int 0, .int 0, .int 0])), (q_0, .inl (c_0, 31, .inl (fun _ => 0))), (q_1, .inl (c_1, 31, .inl (fun _ => 0))), (q_2, .inl (c_2, 31, .inl (fun _ => 0))), (q_3, .inl (c_3, 31, .inl (fun _ => 0))), (q_4, .inl (c_4, 31, .inl (fun _ => 0))), (q_6, .inl (c_6, 31, .inl (fun _ => 0))), (q_7, .inl (c_7, 31, .inl (fun _ => 0))), (q_8, .inl (c_8, 31, .inl (fun _ => 0))), (q_9, .inl (c_9, 31, .inl (fun _ => 0))), (q_12, .inl (c_12, 16, .inl (fun _ => 0))), (q_13, .inl (c_13, 32, .inl (fun _ => 0))), (q_14, .inl (c_14, 46, .inl (fun _ => 0))), (q_15, .inl (c_15, 46, .inl (fun _ => 0))), (q_16, .inl (c_16, 46, .inl (fun _ => 0))), (q_17, .inl (c_17, 46, .inl (fun _ => 0))), (q_18, .inl (c_18, 46, .inl (fun _ => 0))), (q_21, .inl (c_21, 15, .inl (fun _ => 0))), (q_22, .inl (c_22, 15, .inl (fun _ => 0))), (q_23, .inl (c_23, 15, .inl (fun _ => 0)))] H := hP
  have hD : va_D A [(o, .inr (0, [.ref q_0, .ref q_1, .ref q_2, .ref q_3, .ref q_4, .int 0, .ref q_6, .ref q_7, .ref q_8, .ref q_9, .int 0, .int 0, .ref q_12, .ref q_13, .ref q_14, .ref q_15, .ref q_16, .ref q_17, .ref q_18, .int 0, .int 0, .ref q_21, .ref q_22, .ref q_23, .null, .null, .null, .null, .null, .int 0, .int 0, .int 0, .int 0])), (q_0, .inl (c_0, 31, .inl (fun _ => 0))), (q_1, .inl (c_1, 31, .inl (fun _ => 0))), (q_2, .inl (c_2, 31, .inl (fun _ => 0))), (q_3, .inl (c_3, 31, .inl (fun _ => 0))), (q_4, .inl (c_4, 31, .inl (fun _ => 0))), (q_6, .inl (c_6, 31, .inl (fun _ => 0))), (q_7, .inl (c_7, 31, .inl (fun _ => 0))), (q_8, .inl (c_8, 31, .inl (fun _ => 0))), (q_9, .inl (c_9, 31, .inl (fun _ => 0))), (q_12, .inl (c_12, 16, .inl (fun _ => 0))), (q_13, .inl (c_13, 32, .inl (fun _ => 0))), (q_14, .inl (c_14, 46, .inl (fun _ => 0))), (q_15, .inl (c_15, 46, .inl (fun _ => 0))), (q_16, .inl (c_16, 46, .inl (fun _ => 0))), (q_17, .inl (c_17, 46, .inl (fun _ => 0))), (q_18, .inl (c_18, 46, .inl (fun _ => 0))), (q_21, .inl (c_21, 15, .inl (fun _ => 0))), (q_22, .inl (c_22, 15, .inl (fun _ => 0))), (q_23, .inl (c_23, 15, .inl (fun _ => 0)))] := hD
  refine lv_aload_n hx hb dX0_init_156 rfl (lv_at hl 0 rfl) ?_
  refine lv_bipush (v := 15) hx hb dX0_init_157 (by decide) ?_
  refine va_newa (a0 := (15, .inl (fun _ => 0))) (atype := .boolean) (ty := .boolean) hx hb (hts _ q130) rfl hK hP hD hS hA (fun _ => rfl) (by decide) (by decide) (by decide) (by decide) (by decide) dX0_init_159 (fun q_24 c_24 H hK hP hD hS => ?_)
  refine W.widen (k := 20) (n := 617) (by decide) (by decide) ?_
  have hP : va_P D vwCl [(o, .inr (0, [.ref q_0, .ref q_1, .ref q_2, .ref q_3, .ref q_4, .int 0, .ref q_6, .ref q_7, .ref q_8, .ref q_9, .int 0, .int 0, .ref q_12, .ref q_13, .ref q_14, .ref q_15, .ref q_16, .ref q_17, .ref q_18, .int 0, .int 0, .ref q_21, .ref q_22, .ref q_23, .null, .null, .null, .null, .null, .int 0, .int 0, .int 0, .int 0])), (q_0, .inl (c_0, 31, .inl (fun _ => 0))), (q_1, .inl (c_1, 31, .inl (fun _ => 0))), (q_2, .inl (c_2, 31, .inl (fun _ => 0))), (q_3, .inl (c_3, 31, .inl (fun _ => 0))), (q_4, .inl (c_4, 31, .inl (fun _ => 0))), (q_6, .inl (c_6, 31, .inl (fun _ => 0))), (q_7, .inl (c_7, 31, .inl (fun _ => 0))), (q_8, .inl (c_8, 31, .inl (fun _ => 0))), (q_9, .inl (c_9, 31, .inl (fun _ => 0))), (q_12, .inl (c_12, 16, .inl (fun _ => 0))), (q_13, .inl (c_13, 32, .inl (fun _ => 0))), (q_14, .inl (c_14, 46, .inl (fun _ => 0))), (q_15, .inl (c_15, 46, .inl (fun _ => 0))), (q_16, .inl (c_16, 46, .inl (fun _ => 0))), (q_17, .inl (c_17, 46, .inl (fun _ => 0))), (q_18, .inl (c_18, 46, .inl (fun _ => 0))), (q_21, .inl (c_21, 15, .inl (fun _ => 0))), (q_22, .inl (c_22, 15, .inl (fun _ => 0))), (q_23, .inl (c_23, 15, .inl (fun _ => 0))), (q_24, .inl (c_24, 15, .inl (fun _ => 0)))] H := hP
  have hD : va_D A [(o, .inr (0, [.ref q_0, .ref q_1, .ref q_2, .ref q_3, .ref q_4, .int 0, .ref q_6, .ref q_7, .ref q_8, .ref q_9, .int 0, .int 0, .ref q_12, .ref q_13, .ref q_14, .ref q_15, .ref q_16, .ref q_17, .ref q_18, .int 0, .int 0, .ref q_21, .ref q_22, .ref q_23, .null, .null, .null, .null, .null, .int 0, .int 0, .int 0, .int 0])), (q_0, .inl (c_0, 31, .inl (fun _ => 0))), (q_1, .inl (c_1, 31, .inl (fun _ => 0))), (q_2, .inl (c_2, 31, .inl (fun _ => 0))), (q_3, .inl (c_3, 31, .inl (fun _ => 0))), (q_4, .inl (c_4, 31, .inl (fun _ => 0))), (q_6, .inl (c_6, 31, .inl (fun _ => 0))), (q_7, .inl (c_7, 31, .inl (fun _ => 0))), (q_8, .inl (c_8, 31, .inl (fun _ => 0))), (q_9, .inl (c_9, 31, .inl (fun _ => 0))), (q_12, .inl (c_12, 16, .inl (fun _ => 0))), (q_13, .inl (c_13, 32, .inl (fun _ => 0))), (q_14, .inl (c_14, 46, .inl (fun _ => 0))), (q_15, .inl (c_15, 46, .inl (fun _ => 0))), (q_16, .inl (c_16, 46, .inl (fun _ => 0))), (q_17, .inl (c_17, 46, .inl (fun _ => 0))), (q_18, .inl (c_18, 46, .inl (fun _ => 0))), (q_21, .inl (c_21, 15, .inl (fun _ => 0))), (q_22, .inl (c_22, 15, .inl (fun _ => 0))), (q_23, .inl (c_23, 15, .inl (fun _ => 0))), (q_24, .inl (c_24, 15, .inl (fun _ => 0)))] := hD
  have hK : va_K D vwCl [(c_0, .int), (c_1, .int), (c_2, .int), (c_3, .int), (c_4, .int), (c_6, .int), (c_7, .int), (c_8, .int), (c_9, .int), (c_12, .int), (c_13, .int), (c_14, .int), (c_15, .int), (c_16, .int), (c_17, .int), (c_18, .boolean), (c_21, .int), (c_22, .int), (c_23, .int), (c_24, .boolean)] s := hK
  refine va_putF (D := D) (ci := 0) (v := .ref q_24) (ty := .array .boolean) (C := RX0) (T := TX0) (N := 33) hx hb hts in_X0 tyX0 tyX0_ok nmX0 hown hK hP hD hS 0 rfl rfl 24 (by decide) (hts _ tkl24) (fun _ h9 => h9) rfl hin rfl (by decide +kernel) rfl rfl (Nat.le_of_ble_eq_true rfl) dX0_init_161 (fun H locs hP hD hS => ?_)
  have hP : va_P D vwCl [(o, .inr (0, [.ref q_0, .ref q_1, .ref q_2, .ref q_3, .ref q_4, .int 0, .ref q_6, .ref q_7, .ref q_8, .ref q_9, .int 0, .int 0, .ref q_12, .ref q_13, .ref q_14, .ref q_15, .ref q_16, .ref q_17, .ref q_18, .int 0, .int 0, .ref q_21, .ref q_22, .ref q_23, .ref q_24, .null, .null, .null, .null, .int 0, .int 0, .int 0, .int 0])), (q_0, .inl (c_0, 31, .inl (fun _ => 0))), (q_1, .inl (c_1, 31, .inl (fun _ => 0))), (q_2, .inl (c_2, 31, .inl (fun _ => 0))), (q_3, .inl (c_3, 31, .inl (fun _ => 0))), (q_4, .inl (c_4, 31, .inl (fun _ => 0))), (q_6, .inl (c_6, 31, .inl (fun _ => 0))), (q_7, .inl (c_7, 31, .inl (fun _ => 0))), (q_8, .inl (c_8, 31, .inl (fun _ => 0))), (q_9, .inl (c_9, 31, .inl (fun _ => 0))), (q_12, .inl (c_12, 16, .inl (fun _ => 0))), (q_13, .inl (c_13, 32, .inl (fun _ => 0))), (q_14, .inl (c_14, 46, .inl (fun _ => 0))), (q_15, .inl (c_15, 46, .inl (fun _ => 0))), (q_16, .inl (c_16, 46, .inl (fun _ => 0))), (q_17, .inl (c_17, 46, .inl (fun _ => 0))), (q_18, .inl (c_18, 46, .inl (fun _ => 0))), (q_21, .inl (c_21, 15, .inl (fun _ => 0))), (q_22, .inl (c_22, 15, .inl (fun _ => 0))), (q_23, .inl (c_23, 15, .inl (fun _ => 0))), (q_24, .inl (c_24, 15, .inl (fun _ => 0)))] H := hP
  have hD : va_D A [(o, .inr (0, [.ref q_0, .ref q_1, .ref q_2, .ref q_3, .ref q_4, .int 0, .ref q_6, .ref q_7, .ref q_8, .ref q_9, .int 0, .int 0, .ref q_12, .ref q_13, .ref q_14, .ref q_15, .ref q_16, .ref q_17, .ref q_18, .int 0, .int 0, .ref q_21, .ref q_22, .ref q_23, .ref q_24, .null, .null, .null, .null, .int 0, .int 0, .int 0, .int 0])), (q_0, .inl (c_0, 31, .inl (fun _ => 0))), (q_1, .inl (c_1, 31, .inl (fun _ => 0))), (q_2, .inl (c_2, 31, .inl (fun _ => 0))), (q_3, .inl (c_3, 31, .inl (fun _ => 0))), (q_4, .inl (c_4, 31, .inl (fun _ => 0))), (q_6, .inl (c_6, 31, .inl (fun _ => 0))), (q_7, .inl (c_7, 31, .inl (fun _ => 0))), (q_8, .inl (c_8, 31, .inl (fun _ => 0))), (q_9, .inl (c_9, 31, .inl (fun _ => 0))), (q_12, .inl (c_12, 16, .inl (fun _ => 0))), (q_13, .inl (c_13, 32, .inl (fun _ => 0))), (q_14, .inl (c_14, 46, .inl (fun _ => 0))), (q_15, .inl (c_15, 46, .inl (fun _ => 0))), (q_16, .inl (c_16, 46, .inl (fun _ => 0))), (q_17, .inl (c_17, 46, .inl (fun _ => 0))), (q_18, .inl (c_18, 46, .inl (fun _ => 0))), (q_21, .inl (c_21, 15, .inl (fun _ => 0))), (q_22, .inl (c_22, 15, .inl (fun _ => 0))), (q_23, .inl (c_23, 15, .inl (fun _ => 0))), (q_24, .inl (c_24, 15, .inl (fun _ => 0)))] := hD
  refine lv_aload_n hx hb dX0_init_164 rfl (lv_at hl 0 rfl) ?_
  refine lv_bipush (v := 15) hx hb dX0_init_165 (by decide) ?_
  refine va_newa (a0 := (15, .inl (fun _ => 0))) (atype := .int) (ty := .int) hx hb (hts _ q129) rfl hK hP hD hS hA (fun _ => rfl) (by decide) (by decide) (by decide) (by decide) (by decide) dX0_init_167 (fun q_25 c_25 H hK hP hD hS => ?_)
  refine W.widen (k := 21) (n := 632) (by decide) (by decide) ?_
  have hP : va_P D vwCl [(o, .inr (0, [.ref q_0, .ref q_1, .ref q_2, .ref q_3, .ref q_4, .int 0, .ref q_6, .ref q_7, .ref q_8, .ref q_9, .int 0, .int 0, .ref q_12, .ref q_13, .ref q_14, .ref q_15, .ref q_16, .ref q_17, .ref q_18, .int 0, .int 0, .ref q_21, .ref q_22, .ref q_23, .ref q_24, .null, .null, .null, .null, .int 0, .int 0, .int 0, .int 0])), (q_0, .inl (c_0, 31, .inl (fun _ => 0))), (q_1, .inl (c_1, 31, .inl (fun _ => 0))), (q_2, .inl (c_2, 31, .inl (fun _ => 0))), (q_3, .inl (c_3, 31, .inl (fun _ => 0))), (q_4, .inl (c_4, 31, .inl (fun _ => 0))), (q_6, .inl (c_6, 31, .inl (fun _ => 0))), (q_7, .inl (c_7, 31, .inl (fun _ => 0))), (q_8, .inl (c_8, 31, .inl (fun _ => 0))), (q_9, .inl (c_9, 31, .inl (fun _ => 0))), (q_12, .inl (c_12, 16, .inl (fun _ => 0))), (q_13, .inl (c_13, 32, .inl (fun _ => 0))), (q_14, .inl (c_14, 46, .inl (fun _ => 0))), (q_15, .inl (c_15, 46, .inl (fun _ => 0))), (q_16, .inl (c_16, 46, .inl (fun _ => 0))), (q_17, .inl (c_17, 46, .inl (fun _ => 0))), (q_18, .inl (c_18, 46, .inl (fun _ => 0))), (q_21, .inl (c_21, 15, .inl (fun _ => 0))), (q_22, .inl (c_22, 15, .inl (fun _ => 0))), (q_23, .inl (c_23, 15, .inl (fun _ => 0))), (q_24, .inl (c_24, 15, .inl (fun _ => 0))), (q_25, .inl (c_25, 15, .inl (fun _ => 0)))] H := hP
  have hD : va_D A [(o, .inr (0, [.ref q_0, .ref q_1, .ref q_2, .ref q_3, .ref q_4, .int 0, .ref q_6, .ref q_7, .ref q_8, .ref q_9, .int 0, .int 0, .ref q_12, .ref q_13, .ref q_14, .ref q_15, .ref q_16, .ref q_17, .ref q_18, .int 0, .int 0, .ref q_21, .ref q_22, .ref q_23, .ref q_24, .null, .null, .null, .null, .int 0, .int 0, .int 0, .int 0])), (q_0, .inl (c_0, 31, .inl (fun _ => 0))), (q_1, .inl (c_1, 31, .inl (fun _ => 0))), (q_2, .inl (c_2, 31, .inl (fun _ => 0))), (q_3, .inl (c_3, 31, .inl (fun _ => 0))), (q_4, .inl (c_4, 31, .inl (fun _ => 0))), (q_6, .inl (c_6, 31, .inl (fun _ => 0))), (q_7, .inl (c_7, 31, .inl (fun _ => 0))), (q_8, .inl (c_8, 31, .inl (fun _ => 0))), (q_9, .inl (c_9, 31, .inl (fun _ => 0))), (q_12, .inl (c_12, 16, .inl (fun _ => 0))), (q_13, .inl (c_13, 32, .inl (fun _ => 0))), (q_14, .inl (c_14, 46, .inl (fun _ => 0))), (q_15, .inl (c_15, 46, .inl (fun _ => 0))), (q_16, .inl (c_16, 46, .inl (fun _ => 0))), (q_17, .inl (c_17, 46, .inl (fun _ => 0))), (q_18, .inl (c_18, 46, .inl (fun _ => 0))), (q_21, .inl (c_21, 15, .inl (fun _ => 0))), (q_22, .inl (c_22, 15, .inl (fun _ => 0))), (q_23, .inl (c_23, 15, .inl (fun _ => 0))), (q_24, .inl (c_24, 15, .inl (fun _ => 0))), (q_25, .inl (c_25, 15, .inl (fun _ => 0)))] := hD
  have hK : va_K D vwCl [(c_0, .int), (c_1, .int), (c_2, .int), (c_3, .int), (c_4, .int), (c_6, .int), (c_7, .int), (c_8, .int), (c_9, .int), (c_12, .int), (c_13, .int), (c_14, .int), (c_15, .int), (c_16, .int), (c_17, .int), (c_18, .boolean), (c_21, .int), (c_22, .int), (c_23, .int), (c_24, .boolean), (c_25, .int)] s := hK
  refine va_putF (D := D) (ci := 0) (v := .ref q_25) (ty := .array .int) (C := RX0) (T := TX0) (N := 33) hx hb hts in_X0 tyX0 tyX0_ok nmX0 hown hK hP hD hS 0 rfl rfl 25 (by decide) (hts _ tkl25) (fun _ h9 => h9) rfl hin rfl (by decide +kernel) rfl rfl (Nat.le_of_ble_eq_true rfl) dX0_init_169 (fun H locs hP hD hS => ?_)
  have hP : va_P D vwCl [(o, .inr (0, [.ref q_0, .ref q_1, .ref q_2, .ref q_3, .ref q_4, .int 0, .ref q_6, .ref q_7, .ref q_8, .ref q_9, .int 0, .int 0, .ref q_12, .ref q_13, .ref q_14, .ref q_15, .ref q_16, .ref q_17, .ref q_18, .int 0, .int 0, .ref q_21, .ref q_22, .ref q_23, .ref q_24, .ref q_25, .null, .null, .null, .int 0, .int 0, .int 0, .int 0])), (q_0, .inl (c_0, 31, .inl (fun _ => 0))), (q_1, .inl (c_1, 31, .inl (fun _ => 0))), (q_2, .inl (c_2, 31, .inl (fun _ => 0))), (q_3, .inl (c_3, 31, .inl (fun _ => 0))), (q_4, .inl (c_4, 31, .inl (fun _ => 0))), (q_6, .inl (c_6, 31, .inl (fun _ => 0))), (q_7, .inl (c_7, 31, .inl (fun _ => 0))), (q_8, .inl (c_8, 31, .inl (fun _ => 0))), (q_9, .inl (c_9, 31, .inl (fun _ => 0))), (q_12, .inl (c_12, 16, .inl (fun _ => 0))), (q_13, .inl (c_13, 32, .inl (fun _ => 0))), (q_14, .inl (c_14, 46, .inl (fun _ => 0))), (q_15, .inl (c_15, 46, .inl (fun _ => 0))), (q_16, .inl (c_16, 46, .inl (fun _ => 0))), (q_17, .inl (c_17, 46, .inl (fun _ => 0))), (q_18, .inl (c_18, 46, .inl (fun _ => 0))), (q_21, .inl (c_21, 15, .inl (fun _ => 0))), (q_22, .inl (c_22, 15, .inl (fun _ => 0))), (q_23, .inl (c_23, 15, .inl (fun _ => 0))), (q_24, .inl (c_24, 15, .inl (fun _ => 0))), (q_25, .inl (c_25, 15, .inl (fun _ => 0)))] H := hP
  have hD : va_D A [(o, .inr (0, [.ref q_0, .ref q_1, .ref q_2, .ref q_3, .ref q_4, .int 0, .ref q_6, .ref q_7, .ref q_8, .ref q_9, .int 0, .int 0, .ref q_12, .ref q_13, .ref q_14, .ref q_15, .ref q_16, .ref q_17, .ref q_18, .int 0, .int 0, .ref q_21, .ref q_22, .ref q_23, .ref q_24, .ref q_25, .null, .null, .null, .int 0, .int 0, .int 0, .int 0])), (q_0, .inl (c_0, 31, .inl (fun _ => 0))), (q_1, .inl (c_1, 31, .inl (fun _ => 0))), (q_2, .inl (c_2, 31, .inl (fun _ => 0))), (q_3, .inl (c_3, 31, .inl (fun _ => 0))), (q_4, .inl (c_4, 31, .inl (fun _ => 0))), (q_6, .inl (c_6, 31, .inl (fun _ => 0))), (q_7, .inl (c_7, 31, .inl (fun _ => 0))), (q_8, .inl (c_8, 31, .inl (fun _ => 0))), (q_9, .inl (c_9, 31, .inl (fun _ => 0))), (q_12, .inl (c_12, 16, .inl (fun _ => 0))), (q_13, .inl (c_13, 32, .inl (fun _ => 0))), (q_14, .inl (c_14, 46, .inl (fun _ => 0))), (q_15, .inl (c_15, 46, .inl (fun _ => 0))), (q_16, .inl (c_16, 46, .inl (fun _ => 0))), (q_17, .inl (c_17, 46, .inl (fun _ => 0))), (q_18, .inl (c_18, 46, .inl (fun _ => 0))), (q_21, .inl (c_21, 15, .inl (fun _ => 0))), (q_22, .inl (c_22, 15, .inl (fun _ => 0))), (q_23, .inl (c_23, 15, .inl (fun _ => 0))), (q_24, .inl (c_24, 15, .inl (fun _ => 0))), (q_25, .inl (c_25, 15, .inl (fun _ => 0)))] := hD
  refine lv_aload_n hx hb dX0_init_172 rfl (lv_at hl 0 rfl) ?_
  refine lv_bipush (v := 15) hx hb dX0_init_173 (by decide) ?_
  refine va_newa (a0 := (15, .inl (fun _ => 0))) (atype := .int) (ty := .int) hx hb (hts _ q129) rfl hK hP hD hS hA (fun _ => rfl) (by decide) (by decide) (by decide) (by decide) (by decide) dX0_init_175 (fun q_26 c_26 H hK hP hD hS => ?_)
  refine W.widen (k := 22) (n := 647) (by decide) (by decide) ?_
  have hP : va_P D vwCl [(o, .inr (0, [.ref q_0, .ref q_1, .ref q_2, .ref q_3, .ref q_4, .int 0, .ref q_6, .ref q_7, .ref q_8, .ref q_9, .int 0, .int 0, .ref q_12, .ref q_13, .ref q_14, .ref q_15, .ref q_16, .ref q_17, .ref q_18, .int 0, .int 0, .ref q_21, .ref q_22, .ref q_23, .ref q_24, .ref q_25, .null, .null, .null, .int 0, .int 0, .int 0, .int 0])), (q_0, .inl (c_0, 31, .inl (fun _ => 0))), (q_1, .inl (c_1, 31, .inl (fun _ => 0))), (q_2, .inl (c_2, 31, .inl (fun _ => 0))), (q_3, .inl (c_3, 31, .inl (fun _ => 0))), (q_4, .inl (c_4, 31, .inl (fun _ => 0))), (q_6, .inl (c_6, 31, .inl (fun _ => 0))), (q_7, .inl (c_7, 31, .inl (fun _ => 0))), (q_8, .inl (c_8, 31, .inl (fun _ => 0))), (q_9, .inl (c_9, 31, .inl (fun _ => 0))), (q_12, .inl (c_12, 16, .inl (fun _ => 0))), (q_13, .inl (c_13, 32, .inl (fun _ => 0))), (q_14, .inl (c_14, 46, .inl (fun _ => 0))), (q_15, .inl (c_15, 46, .inl (fun _ => 0))), (q_16, .inl (c_16, 46, .inl (fun _ => 0))), (q_17, .inl (c_17, 46, .inl (fun _ => 0))), (q_18, .inl (c_18, 46, .inl (fun _ => 0))), (q_21, .inl (c_21, 15, .inl (fun _ => 0))), (q_22, .inl (c_22, 15, .inl (fun _ => 0))), (q_23, .inl (c_23, 15, .inl (fun _ => 0))), (q_24, .inl (c_24, 15, .inl (fun _ => 0))), (q_25, .inl (c_25, 15, .inl (fun _ => 0))), (q_26, .inl (c_26, 15, .inl (fun _ => 0)))] H := hP
  have hD : va_D A [(o, .inr (0, [.ref q_0, .ref q_1, .ref q_2, .ref q_3, .ref q_4, .int 0, .ref q_6, .ref q_7, .ref q_8, .ref q_9, .int 0, .int 0, .ref q_12, .ref q_13, .ref q_14, .ref q_15, .ref q_16, .ref q_17, .ref q_18, .int 0, .int 0, .ref q_21, .ref q_22, .ref q_23, .ref q_24, .ref q_25, .null, .null, .null, .int 0, .int 0, .int 0, .int 0])), (q_0, .inl (c_0, 31, .inl (fun _ => 0))), (q_1, .inl (c_1, 31, .inl (fun _ => 0))), (q_2, .inl (c_2, 31, .inl (fun _ => 0))), (q_3, .inl (c_3, 31, .inl (fun _ => 0))), (q_4, .inl (c_4, 31, .inl (fun _ => 0))), (q_6, .inl (c_6, 31, .inl (fun _ => 0))), (q_7, .inl (c_7, 31, .inl (fun _ => 0))), (q_8, .inl (c_8, 31, .inl (fun _ => 0))), (q_9, .inl (c_9, 31, .inl (fun _ => 0))), (q_12, .inl (c_12, 16, .inl (fun _ => 0))), (q_13, .inl (c_13, 32, .inl (fun _ => 0))), (q_14, .inl (c_14, 46, .inl (fun _ => 0))), (q_15, .inl (c_15, 46, .inl (fun _ => 0))), (q_16, .inl (c_16, 46, .inl (fun _ => 0))), (q_17, .inl (c_17, 46, .inl (fun _ => 0))), (q_18, .inl (c_18, 46, .inl (fun _ => 0))), (q_21, .inl (c_21, 15, .inl (fun _ => 0))), (q_22, .inl (c_22, 15, .inl (fun _ => 0))), (q_23, .inl (c_23, 15, .inl (fun _ => 0))), (q_24, .inl (c_24, 15, .inl (fun _ => 0))), (q_25, .inl (c_25, 15, .inl (fun _ => 0))), (q_26, .inl (c_26, 15, .inl (fun _ => 0)))] := hD
  have hK : va_K D vwCl [(c_0, .int), (c_1, .int), (c_2, .int), (c_3, .int), (c_4, .int), (c_6, .int), (c_7, .int), (c_8, .int), (c_9, .int), (c_12, .int), (c_13, .int), (c_14, .int), (c_15, .int), (c_16, .int), (c_17, .int), (c_18, .boolean), (c_21, .int), (c_22, .int), (c_23, .int), (c_24, .boolean), (c_25, .int), (c_26, .int)] s := hK
  refine va_putF (D := D) (ci := 0) (v := .ref q_26) (ty := .array .int) (C := RX0) (T := TX0) (N := 33) hx hb hts in_X0 tyX0 tyX0_ok nmX0 hown hK hP hD hS 0 rfl rfl 26 (by decide) (hts _ tkl26) (fun _ h9 => h9) rfl hin rfl (by decide +kernel) rfl rfl (Nat.le_of_ble_eq_true rfl) dX0_init_177 (fun H locs hP hD hS => ?_)
  have hP : va_P D vwCl [(o, .inr (0, [.ref q_0, .ref q_1, .ref q_2, .ref q_3, .ref q_4, .int 0, .ref q_6, .ref q_7, .ref q_8, .ref q_9, .int 0, .int 0, .ref q_12, .ref q_13, .ref q_14, .ref q_15, .ref q_16, .ref q_17, .ref q_18, .int 0, .int 0, .ref q_21, .ref q_22, .ref q_23, .ref q_24, .ref q_25, .ref q_26, .null, .null, .int 0, .int 0, .int 0, .int 0])), (q_0, .inl (c_0, 31, .inl (fun _ => 0))), (q_1, .inl (c_1, 31, .inl (fun _ => 0))), (q_2, .inl (c_2, 31, .inl (fun _ => 0))), (q_3, .inl (c_3, 31, .inl (fun _ => 0))), (q_4, .inl (c_4, 31, .inl (fun _ => 0))), (q_6, .inl (c_6, 31, .inl (fun _ => 0))), (q_7, .inl (c_7, 31, .inl (fun _ => 0))), (q_8, .inl (c_8, 31, .inl (fun _ => 0))), (q_9, .inl (c_9, 31, .inl (fun _ => 0))), (q_12, .inl (c_12, 16, .inl (fun _ => 0))), (q_13, .inl (c_13, 32, .inl (fun _ => 0))), (q_14, .inl (c_14, 46, .inl (fun _ => 0))), (q_15, .inl (c_15, 46, .inl (fun _ => 0))), (q_16, .inl (c_16, 46, .inl (fun _ => 0))), (q_17, .inl (c_17, 46, .inl (fun _ => 0))), (q_18, .inl (c_18, 46, .inl (fun _ => 0))), (q_21, .inl (c_21, 15, .inl (fun _ => 0))), (q_22, .inl (c_22, 15, .inl (fun _ => 0))), (q_23, .inl (c_23, 15, .inl (fun _ => 0))), (q_24, .inl (c_24, 15, .inl (fun _ => 0))), (q_25, .inl (c_25, 15, .inl (fun _ => 0))), (q_26, .inl (c_26, 15, .inl (fun _ => 0)))] H := hP
  have hD : va_D A [(o, .inr (0, [.ref q_0, .ref q_1, .ref q_2, .ref q_3, .ref q_4, .int 0, .ref q_6, .ref q_7, .ref q_8, .ref q_9, .int 0, .int 0, .ref q_12, .ref q_13, .ref q_14, .ref q_15, .ref q_16, .ref q_17, .ref q_18, .int 0, .int 0, .ref q_21, .ref q_22, .ref q_23, .ref q_24, .ref q_25, .ref q_26, .null, .null, .int 0, .int 0, .int 0, .int 0])), (q_0, .inl (c_0, 31, .inl (fun _ => 0))), (q_1, .inl (c_1, 31, .inl (fun _ => 0))), (q_2, .inl (c_2, 31, .inl (fun _ => 0))), (q_3, .inl (c_3, 31, .inl (fun _ => 0))), (q_4, .inl (c_4, 31, .inl (fun _ => 0))), (q_6, .inl (c_6, 31, .inl (fun _ => 0))), (q_7, .inl (c_7, 31, .inl (fun _ => 0))), (q_8, .inl (c_8, 31, .inl (fun _ => 0))), (q_9, .inl (c_9, 31, .inl (fun _ => 0))), (q_12, .inl (c_12, 16, .inl (fun _ => 0))), (q_13, .inl (c_13, 32, .inl (fun _ => 0))), (q_14, .inl (c_14, 46, .inl (fun _ => 0))), (q_15, .inl (c_15, 46, .inl (fun _ => 0))), (q_16, .inl (c_16, 46, .inl (fun _ => 0))), (q_17, .inl (c_17, 46, .inl (fun _ => 0))), (q_18, .inl (c_18, 46, .inl (fun _ => 0))), (q_21, .inl (c_21, 15, .inl (fun _ => 0))), (q_22, .inl (c_22, 15, .inl (fun _ => 0))), (q_23, .inl (c_23, 15, .inl (fun _ => 0))), (q_24, .inl (c_24, 15, .inl (fun _ => 0))), (q_25, .inl (c_25, 15, .inl (fun _ => 0))), (q_26, .inl (c_26, 15, .inl (fun _ => 0)))] := hD
  refine lv_aload_n hx hb dX0_init_180 rfl (lv_at hl 0 rfl) ?_
  refine lv_bipush (v := 15) hx hb dX0_init_181 (by decide) ?_
  refine va_newa (a0 := (15, .inl (fun _ => 0))) (atype := .int) (ty := .int) hx hb (hts _ q129) rfl hK hP hD hS hA (fun _ => rfl) (by decide) (by decide) (by decide) (by decide) (by decide) dX0_init_183 (fun q_27 c_27 H hK hP hD hS => ?_)
  refine W.widen (k := 23) (n := 662) (by decide) (by decide) ?_
  have hP : va_P D vwCl [(o, .inr (0, [.ref q_0, .ref q_1, .ref q_2, .ref q_3, .ref q_4, .int 0, .ref q_6, .ref q_7, .ref q_8, .ref q_9, .int 0, .int 0, .ref q_12, .ref q_13, .ref q_14, .ref q_15, .ref q_16, .ref q_17, .ref q_18, .int 0, .int 0, .ref q_21, .ref q_22, .ref q_23, .ref q_24, .ref q_25, .ref q_26, .null, .null, .int 0, .int 0, .int 0, .int 0])), (q_0, .inl (c_0, 31, .inl (fun _ => 0))), (q_1, .inl (c_1, 31, .inl (fun _ => 0))), (q_2, .inl (c_2, 31, .inl (fun _ => 0))), (q_3, .inl (c_3, 31, .inl (fun _ => 0))), (q_4, .inl (c_4, 31, .inl (fun _ => 0))), (q_6, .inl (c_6, 31, .inl (fun _ => 0))), (q_7, .inl (c_7, 31, .inl (fun _ => 0))), (q_8, .inl (c_8, 31, .inl (fun _ => 0))), (q_9, .inl (c_9, 31, .inl (fun _ => 0))), (q_12, .inl (c_12, 16, .inl (fun _ => 0))), (q_13, .inl (c_13, 32, .inl (fun _ => 0))), (q_14, .inl (c_14, 46, .inl (fun _ => 0))), (q_15, .inl (c_15, 46, .inl (fun _ => 0))), (q_16, .inl (c_16, 46, .inl (fun _ => 0))), (q_17, .inl (c_17, 46, .inl (fun _ => 0))), (q_18, .inl (c_18, 46, .inl (fun _ => 0))), (q_21, .inl (c_21, 15, .inl (fun _ => 0))), (q_22, .inl (c_22, 15, .inl (fun _ => 0))), (q_23, .inl (c_23, 15, .inl (fun _ => 0))), (q_24, .inl (c_24, 15, .inl (fun _ => 0))), (q_25, .inl (c_25, 15, .inl (fun _ => 0))), (q_26, .inl (c_26, 15, .inl (fun _ => 0))), (q_27, .inl (c_27, 15, .inl (fun _ => 0)))] H := hP
  have hD : va_D A [(o, .inr (0, [.ref q_0, .ref q_1, .ref q_2, .ref q_3, .ref q_4, .int 0, .ref q_6, .ref q_7, .ref q_8, .ref q_9, .int 0, .int 0, .ref q_12, .ref q_13, .ref q_14, .ref q_15, .ref q_16, .ref q_17, .ref q_18, .int 0, .int 0, .ref q_21, .ref q_22, .ref q_23, .ref q_24, .ref q_25, .ref q_26, .null, .null, .int 0, .int 0, .int 0, .int 0])), (q_0, .inl (c_0, 31, .inl (fun _ => 0))), (q_1, .inl (c_1, 31, .inl (fun _ => 0))), (q_2, .inl (c_2, 31, .inl (fun _ => 0))), (q_3, .inl (c_3, 31, .inl (fun _ => 0))), (q_4, .inl (c_4, 31, .inl (fun _ => 0))), (q_6, .inl (c_6, 31, .inl (fun _ => 0))), (q_7, .inl (c_7, 31, .inl (fun _ => 0))), (q_8, .inl (c_8, 31, .inl (fun _ => 0))), (q_9, .inl (c_9, 31, .inl (fun _ => 0))), (q_12, .inl (c_12, 16, .inl (fun _ => 0))), (q_13, .inl (c_13, 32, .inl (fun _ => 0))), (q_14, .inl (c_14, 46, .inl (fun _ => 0))), (q_15, .inl (c_15, 46, .inl (fun _ => 0))), (q_16, .inl (c_16, 46, .inl (fun _ => 0))), (q_17, .inl (c_17, 46, .inl (fun _ => 0))), (q_18, .inl (c_18, 46, .inl (fun _ => 0))), (q_21, .inl (c_21, 15, .inl (fun _ => 0))), (q_22, .inl (c_22, 15, .inl (fun _ => 0))), (q_23, .inl (c_23, 15, .inl (fun _ => 0))), (q_24, .inl (c_24, 15, .inl (fun _ => 0))), (q_25, .inl (c_25, 15, .inl (fun _ => 0))), (q_26, .inl (c_26, 15, .inl (fun _ => 0))), (q_27, .inl (c_27, 15, .inl (fun _ => 0)))] := hD
  have hK : va_K D vwCl [(c_0, .int), (c_1, .int), (c_2, .int), (c_3, .int), (c_4, .int), (c_6, .int), (c_7, .int), (c_8, .int), (c_9, .int), (c_12, .int), (c_13, .int), (c_14, .int), (c_15, .int), (c_16, .int), (c_17, .int), (c_18, .boolean), (c_21, .int), (c_22, .int), (c_23, .int), (c_24, .boolean), (c_25, .int), (c_26, .int), (c_27, .int)] s := hK
  refine va_putF (D := D) (ci := 0) (v := .ref q_27) (ty := .array .int) (C := RX0) (T := TX0) (N := 33) hx hb hts in_X0 tyX0 tyX0_ok nmX0 hown hK hP hD hS 0 rfl rfl 27 (by decide) (hts _ tkl27) (fun _ h9 => h9) rfl hin rfl (by decide +kernel) rfl rfl (Nat.le_of_ble_eq_true rfl) dX0_init_185 (fun H locs hP hD hS => ?_)
  have hP : va_P D vwCl [(o, .inr (0, [.ref q_0, .ref q_1, .ref q_2, .ref q_3, .ref q_4, .int 0, .ref q_6, .ref q_7, .ref q_8, .ref q_9, .int 0, .int 0, .ref q_12, .ref q_13, .ref q_14, .ref q_15, .ref q_16, .ref q_17, .ref q_18, .int 0, .int 0, .ref q_21, .ref q_22, .ref q_23, .ref q_24, .ref q_25, .ref q_26, .ref q_27, .null, .int 0, .int 0, .int 0, .int 0])), (q_0, .inl (c_0, 31, .inl (fun _ => 0))), (q_1, .inl (c_1, 31, .inl (fun _ => 0))), (q_2, .inl (c_2, 31, .inl (fun _ => 0))), (q_3, .inl (c_3, 31, .inl (fun _ => 0))), (q_4, .inl (c_4, 31, .inl (fun _ => 0))), (q_6, .inl (c_6, 31, .inl (fun _ => 0))), (q_7, .inl (c_7, 31, .inl (fun _ => 0))), (q_8, .inl (c_8, 31, .inl (fun _ => 0))), (q_9, .inl (c_9, 31, .inl (fun _ => 0))), (q_12, .inl (c_12, 16, .inl (fun _ => 0))), (q_13, .inl (c_13, 32, .inl (fun _ => 0))), (q_14, .inl (c_14, 46, .inl (fun _ => 0))), (q_15, .inl (c_15, 46, .inl (fun _ => 0))), (q_16, .inl (c_16, 46, .inl (fun _ => 0))), (q_17, .inl (c_17, 46, .inl (fun _ => 0))), (q_18, .inl (c_18, 46, .inl (fun _ => 0))), (q_21, .inl (c_21, 15, .inl (fun _ => 0))), (q_22, .inl (c_22, 15, .inl (fun _ => 0))), (q_23, .inl (c_23, 15, .inl (fun _ => 0))), (q_24, .inl (c_24, 15, .inl (fun _ => 0))), (q_25, .inl (c_25, 15, .inl (fun _ => 0))), (q_26, .inl (c_26, 15, .inl (fun _ => 0))), (q_27, .inl (c_27, 15, .inl (fun _ => 0)))] H := hP
  have hD : va_D A [(o, .inr (0, [.ref q_0, .ref q_1, .ref q_2, .ref q_3, .ref q_4, .int 0, .ref q_6, .ref q_7, .ref q_8, .ref q_9, .int 0, .int 0, .ref q_12, .ref q_13, .ref q_14, .ref q_15, .ref q_16, .ref q_17, .ref q_18, .int 0, .int 0, .ref q_21, .ref q_22, .ref q_23, .ref q_24, .ref q_25, .ref q_26, .ref q_27, .null, .int 0, .int 0, .int 0, .int 0])), (q_0, .inl (c_0, 31, .inl (fun _ => 0))), (q_1, .inl (c_1, 31, .inl (fun _ => 0))), (q_2, .inl (c_2, 31, .inl (fun _ => 0))), (q_3, .inl (c_3, 31, .inl (fun _ => 0))), (q_4, .inl (c_4, 31, .inl (fun _ => 0))), (q_6, .inl (c_6, 31, .inl (fun _ => 0))), (q_7, .inl (c_7, 31, .inl (fun _ => 0))), (q_8, .inl (c_8, 31, .inl (fun _ => 0))), (q_9, .inl (c_9, 31, .inl (fun _ => 0))), (q_12, .inl (c_12, 16, .inl (fun _ => 0))), (q_13, .inl (c_13, 32, .inl (fun _ => 0))), (q_14, .inl (c_14, 46, .inl (fun _ => 0))), (q_15, .inl (c_15, 46, .inl (fun _ => 0))), (q_16, .inl (c_16, 46, .inl (fun _ => 0))), (q_17, .inl (c_17, 46, .inl (fun _ => 0))), (q_18, .inl (c_18, 46, .inl (fun _ => 0))), (q_21, .inl (c_21, 15, .inl (fun _ => 0))), (q_22, .inl (c_22, 15, .inl (fun _ => 0))), (q_23, .inl (c_23, 15, .inl (fun _ => 0))), (q_24, .inl (c_24, 15, .inl (fun _ => 0))), (q_25, .inl (c_25, 15, .inl (fun _ => 0))), (q_26, .inl (c_26, 15, .inl (fun _ => 0))), (q_27, .inl (c_27, 15, .inl (fun _ => 0)))] := hD
  refine lv_aload_n hx hb dX0_init_188 rfl (lv_at hl 0 rfl) ?_
  refine lv_bipush (v := 31) hx hb dX0_init_189 (by decide) ?_
  refine va_newa (a0 := (31, .inl (fun _ => 0))) (atype := .int) (ty := .int) hx hb (hts _ q129) rfl hK hP hD hS hA (fun _ => rfl) (by decide) (by decide) (by decide) (by decide) (by decide) dX0_init_191 (fun q_28 c_28 H hK hP hD hS => ?_)
  refine W.widen (k := 24) (n := 693) (by decide) (by decide) ?_
  have hP : va_P D vwCl [(o, .inr (0, [.ref q_0, .ref q_1, .ref q_2, .ref q_3, .ref q_4, .int 0, .ref q_6, .ref q_7, .ref q_8, .ref q_9, .int 0, .int 0, .ref q_12, .ref q_13, .ref q_14, .ref q_15, .ref q_16, .ref q_17, .ref q_18, .int 0, .int 0, .ref q_21, .ref q_22, .ref q_23, .ref q_24, .ref q_25, .ref q_26, .ref q_27, .null, .int 0, .int 0, .int 0, .int 0])), (q_0, .inl (c_0, 31, .inl (fun _ => 0))), (q_1, .inl (c_1, 31, .inl (fun _ => 0))), (q_2, .inl (c_2, 31, .inl (fun _ => 0))), (q_3, .inl (c_3, 31, .inl (fun _ => 0))), (q_4, .inl (c_4, 31, .inl (fun _ => 0))), (q_6, .inl (c_6, 31, .inl (fun _ => 0))), (q_7, .inl (c_7, 31, .inl (fun _ => 0))), (q_8, .inl (c_8, 31, .inl (fun _ => 0))), (q_9, .inl (c_9, 31, .inl (fun _ => 0))), (q_12, .inl (c_12, 16, .inl (fun _ => 0))), (q_13, .inl (c_13, 32, .inl (fun _ => 0))), (q_14, .inl (c_14, 46, .inl (fun _ => 0))), (q_15, .inl (c_15, 46, .inl (fun _ => 0))), (q_16, .inl (c_16, 46, .inl (fun _ => 0))), (q_17, .inl (c_17, 46, .inl (fun _ => 0))), (q_18, .inl (c_18, 46, .inl (fun _ => 0))), (q_21, .inl (c_21, 15, .inl (fun _ => 0))), (q_22, .inl (c_22, 15, .inl (fun _ => 0))), (q_23, .inl (c_23, 15, .inl (fun _ => 0))), (q_24, .inl (c_24, 15, .inl (fun _ => 0))), (q_25, .inl (c_25, 15, .inl (fun _ => 0))), (q_26, .inl (c_26, 15, .inl (fun _ => 0))), (q_27, .inl (c_27, 15, .inl (fun _ => 0))), (q_28, .inl (c_28, 31, .inl (fun _ => 0)))] H := hP
  have hD : va_D A [(o, .inr (0, [.ref q_0, .ref q_1, .ref q_2, .ref q_3, .ref q_4, .int 0, .ref q_6, .ref q_7, .ref q_8, .ref q_9, .int 0, .int 0, .ref q_12, .ref q_13, .ref q_14, .ref q_15, .ref q_16, .ref q_17, .ref q_18, .int 0, .int 0, .ref q_21, .ref q_22, .ref q_23, .ref q_24, .ref q_25, .ref q_26, .ref q_27, .null, .int 0, .int 0, .int 0, .int 0])), (q_0, .inl (c_0, 31, .inl (fun _ => 0))), (q_1, .inl (c_1, 31, .inl (fun _ => 0))), (q_2, .inl (c_2, 31, .inl (fun _ => 0))), (q_3, .inl (c_3, 31, .inl (fun _ => 0))), (q_4, .inl (c_4, 31, .inl (fun _ => 0))), (q_6, .inl (c_6, 31, .inl (fun _ => 0))), (q_7, .inl (c_7, 31, .inl (fun _ => 0))), (q_8, .inl (c_8, 31, .inl (fun _ => 0))), (q_9, .inl (c_9, 31, .inl (fun _ => 0))), (q_12, .inl (c_12, 16, .inl (fun _ => 0))), (q_13, .inl (c_13, 32, .inl (fun _ => 0))), (q_14, .inl (c_14, 46, .inl (fun _ => 0))), (q_15, .inl (c_15, 46, .inl (fun _ => 0))), (q_16, .inl (c_16, 46, .inl (fun _ => 0))), (q_17, .inl (c_17, 46, .inl (fun _ => 0))), (q_18, .inl (c_18, 46, .inl (fun _ => 0))), (q_21, .inl (c_21, 15, .inl (fun _ => 0))), (q_22, .inl (c_22, 15, .inl (fun _ => 0))), (q_23, .inl (c_23, 15, .inl (fun _ => 0))), (q_24, .inl (c_24, 15, .inl (fun _ => 0))), (q_25, .inl (c_25, 15, .inl (fun _ => 0))), (q_26, .inl (c_26, 15, .inl (fun _ => 0))), (q_27, .inl (c_27, 15, .inl (fun _ => 0))), (q_28, .inl (c_28, 31, .inl (fun _ => 0)))] := hD
  have hK : va_K D vwCl [(c_0, .int), (c_1, .int), (c_2, .int), (c_3, .int), (c_4, .int), (c_6, .int), (c_7, .int), (c_8, .int), (c_9, .int), (c_12, .int), (c_13, .int), (c_14, .int), (c_15, .int), (c_16, .int), (c_17, .int), (c_18, .boolean), (c_21, .int), (c_22, .int), (c_23, .int), (c_24, .boolean), (c_25, .int), (c_26, .int), (c_27, .int), (c_28, .int)] s := hK
  refine va_putF (D := D) (ci := 0) (v := .ref q_28) (ty := .array .int) (C := RX0) (T := TX0) (N := 33) hx hb hts in_X0 tyX0 tyX0_ok nmX0 hown hK hP hD hS 0 rfl rfl 28 (by decide) (hts _ tkl28) (fun _ h9 => h9) rfl hin rfl (by decide +kernel) rfl rfl (Nat.le_of_ble_eq_true rfl) dX0_init_193 (fun H locs hP hD hS => ?_)
  have hP : va_P D vwCl [(o, .inr (0, [.ref q_0, .ref q_1, .ref q_2, .ref q_3, .ref q_4, .int 0, .ref q_6, .ref q_7, .ref q_8, .ref q_9, .int 0, .int 0, .ref q_12, .ref q_13, .ref q_14, .ref q_15, .ref q_16, .ref q_17, .ref q_18, .int 0, .int 0, .ref q_21, .ref q_22, .ref q_23, .ref q_24, .ref q_25, .ref q_26, .ref q_27, .ref q_28, .int 0, .int 0, .int 0, .int 0])), (q_0, .inl (c_0, 31, .inl (fun _ => 0))), (q_1, .inl (c_1, 31, .inl (fun _ => 0))), (q_2, .inl (c_2, 31, .inl (fun _ => 0))), (q_3, .inl (c_3, 31, .inl (fun _ => 0))), (q_4, .inl (c_4, 31, .inl (fun _ => 0))), (q_6, .inl (c_6, 31, .inl (fun _ => 0))), (q_7, .inl (c_7, 31, .inl (fun _ => 0))), (q_8, .inl (c_8, 31, .inl (fun _ => 0))), (q_9, .inl (c_9, 31, .inl (fun _ => 0))), (q_12, .inl (c_12, 16, .inl (fun _ => 0))), (q_13, .inl (c_13, 32, .inl (fun _ => 0))), (q_14, .inl (c_14, 46, .inl (fun _ => 0))), (q_15, .inl (c_15, 46, .inl (fun _ => 0))), (q_16, .inl (c_16, 46, .inl (fun _ => 0))), (q_17, .inl (c_17, 46, .inl (fun _ => 0))), (q_18, .inl (c_18, 46, .inl (fun _ => 0))), (q_21, .inl (c_21, 15, .inl (fun _ => 0))), (q_22, .inl (c_22, 15, .inl (fun _ => 0))), (q_23, .inl (c_23, 15, .inl (fun _ => 0))), (q_24, .inl (c_24, 15, .inl (fun _ => 0))), (q_25, .inl (c_25, 15, .inl (fun _ => 0))), (q_26, .inl (c_26, 15, .inl (fun _ => 0))), (q_27, .inl (c_27, 15, .inl (fun _ => 0))), (q_28, .inl (c_28, 31, .inl (fun _ => 0)))] H := hP
  have hD : va_D A [(o, .inr (0, [.ref q_0, .ref q_1, .ref q_2, .ref q_3, .ref q_4, .int 0, .ref q_6, .ref q_7, .ref q_8, .ref q_9, .int 0, .int 0, .ref q_12, .ref q_13, .ref q_14, .ref q_15, .ref q_16, .ref q_17, .ref q_18, .int 0, .int 0, .ref q_21, .ref q_22, .ref q_23, .ref q_24, .ref q_25, .ref q_26, .ref q_27, .ref q_28, .int 0, .int 0, .int 0, .int 0])), (q_0, .inl (c_0, 31, .inl (fun _ => 0))), (q_1, .inl (c_1, 31, .inl (fun _ => 0))), (q_2, .inl (c_2, 31, .inl (fun _ => 0))), (q_3, .inl (c_3, 31, .inl (fun _ => 0))), (q_4, .inl (c_4, 31, .inl (fun _ => 0))), (q_6, .inl (c_6, 31, .inl (fun _ => 0))), (q_7, .inl (c_7, 31, .inl (fun _ => 0))), (q_8, .inl (c_8, 31, .inl (fun _ => 0))), (q_9, .inl (c_9, 31, .inl (fun _ => 0))), (q_12, .inl (c_12, 16, .inl (fun _ => 0))), (q_13, .inl (c_13, 32, .inl (fun _ => 0))), (q_14, .inl (c_14, 46, .inl (fun _ => 0))), (q_15, .inl (c_15, 46, .inl (fun _ => 0))), (q_16, .inl (c_16, 46, .inl (fun _ => 0))), (q_17, .inl (c_17, 46, .inl (fun _ => 0))), (q_18, .inl (c_18, 46, .inl (fun _ => 0))), (q_21, .inl (c_21, 15, .inl (fun _ => 0))), (q_22, .inl (c_22, 15, .inl (fun _ => 0))), (q_23, .inl (c_23, 15, .inl (fun _ => 0))), (q_24, .inl (c_24, 15, .inl (fun _ => 0))), (q_25, .inl (c_25, 15, .inl (fun _ => 0))), (q_26, .inl (c_26, 15, .inl (fun _ => 0))), (q_27, .inl (c_27, 15, .inl (fun _ => 0))), (q_28, .inl (c_28, 31, .inl (fun _ => 0)))] := hD
  obtain ⟨h, hh⟩ : ∃ h : Nat → Nat, h = (fun k => if k = 0 then q_0 else if k = 1 then q_1 else if k = 2 then q_2 else if k = 3 then q_3 else if k = 4 then q_4 else if k = 6 then q_6 else if k = 7 then q_7 else if k = 8 then q_8 else if k = 9 then q_9 else if k = 12 then q_12 else if k = 13 then q_13 else if k = 14 then q_14 else if k = 15 then q_15 else if k = 16 then q_16 else if k = 17 then q_17 else if k = 18 then q_18 else if k = 21 then q_21 else if k = 22 then q_22 else if k = 23 then q_23 else if k = 24 then q_24 else if k = 25 then q_25 else if k = 26 then q_26 else if k = 27 then q_27 else if k = 28 then q_28 else  0) := ⟨_, rfl⟩
  obtain ⟨cA, hc⟩ : ∃ cA : Nat → ClassId, cA = (fun k => if k = 0 then c_0 else if k = 1 then c_1 else if k = 2 then c_2 else if k = 3 then c_3 else if k = 4 then c_4 else if k = 6 then c_6 else if k = 7 then c_7 else if k = 8 then c_8 else if k = 9 then c_9 else if k = 12 then c_12 else if k = 13 then c_13 else if k = 14 then c_14 else if k = 15 then c_15 else if k = 16 then c_16 else if k = 17 then c_17 else if k = 18 then c_18 else if k = 21 then c_21 else if k = 22 then c_22 else if k = 23 then c_23 else if k = 24 then c_24 else if k = 25 then c_25 else if k = 26 then c_26 else if k = 27 then c_27 else if k = 28 then c_28 else  c_0) := ⟨_, rfl⟩
  have hP : va_P D vwCl (tkW cA o h (fun _ _ => 0) (fun _ => 0)) H := by subst hh hc; exact hP
  have hD : va_D A (tkW cA o h (fun _ _ => 0) (fun _ => 0)) := by subst hh hc; exact hD
  have hK : va_K D vwCl (tkTy cA) s := by subst hc; exact hK
  have C : tkC p c cX0_init 1 s m _ D cA A := ⟨hx, hb, hml, hown, hts, hK, hA⟩
  have T : tkT D cA o h A s.heap (fun _ _ => 0) (fun _ => 0) H locs := ⟨hP, hD, hS⟩
  refine lv_aload_n hx hb dX0_init_196 rfl (lv_at hl 0 rfl) ?_
  refine tk_get C T 0 (by decide) tkl0 rfl (v := .ref (h 0)) rfl dX0_init_197 ?_
  refine lv_iconst (v := 0) hx hb dX0_init_200 (by decide) ?_
  refine lv_iconst (v := 1) hx hb dX0_init_201 (by decide) ?_
  refine tk_iastN C T 0 _ _ _ tka0 tkt0 (by decide) (i := 0) (by decide) tks0 dX0_init_202 (fun H locs T => ?_)
  exact W.vret hx hb hr (fun t ht hW => ⟨⟨(cA, h), rfl, trivial, by rw [ht]; exact T.1, va_K.moved hW.alike hK, T.2.1⟩, T.2.2.F ht⟩) T.2.2.2.2 dX0_init_203 hlk
end
section
set_option maxRecDepth 100000
set_option maxHeartbeats 400000
/-! THE CLAIM OUT OF ONE WALK OF THE LAW'S BODY. Your part is whole_start (and what it stands on); all else here is the same for every law, but numbers. -/
def R_law : String := "TreeContractLaw"
def lw_P (b : Addr) (xs : List Int32) (args : Array Value) (s : State) : Prop := args = #[.ref b] ∧ s.IntsAt b xs ∧ xs.length ≤ 320 ∧ (Jvm.Cond.and given_1 narrow_1).before args s = true
def lw_Q (_ : Array Value) (s : State) (o : Outcome) (t : State) : Prop := o = .returned (some (.int 1)) ∧ Framed s o t [] 600000 7290000
def lw_Z (below : List Frame) (a : Array Value) (s : State) : State → Prop := fun t => ∃ o, t.status = .running ∧ Ended t below o ∧ lw_Q a s o t
/-- the law's own end, with 1 on the stack, nothing written that was there before, its room as the claim has it -/
theorem lw_ret {p : Program} {l : Launch} {e : Env} {s : State} {m : MethodId} {below : List Frame} {meth : Method} {c : Code} {b : Nat} (hx : p.tables.exec = Jvm.exec) (hb : c.code = code) (hr : meth.sig.returnType = ret) (hlocks : meth.locks = false) {pc : Nat} {H : Heap} {ls : Array Slot} (hdg : decode code pc = .ok (.ireturn, 1)) : W p l e room_1 s m #[Value.ref b] below meth c H [] 600000 7290000 (lw_Z below #[Value.ref b] s) (F0 m pc ls [.int 1]) := by
  intro T hT X
  obtain ⟨fs, hret, hrun, hended, hW, hframe⟩ := X.leave (v := some (.int 1)) (hlocks := hlocks) (fun h => by rw [hr] at h; cases h)
  have hmeth' : T.vm.method? m = some meth := X.method'
  refine ⟨T.setFrames fs, ?_, .returned (some (.int 1)), hrun, hended, rfl, ⟨_, rfl⟩, hW, hframe⟩
  jvm_step X.here [X.here.top, hx, hb, hdg, hmeth', hr, ret, narrow_b1]
  (try refine ⟨rfl, ?_⟩); (try refine ⟨rfl, ?_⟩)
  first | (intro acts; rw [hret _ acts rfl rfl rfl]) | rw [hret _ _ rfl rfl rfl]
  exact Steps.refl _
/-- what holds at the law's entry: the machine, the code, the tables' words (any of lw_tbl by 'hts w (by decide +kernel)'), the script of L ints xs at the cell b, what the Statement gives of the start (any of its parts by flat_of_before) -/
def lw_At (p : Program) (s : State) (m : MethodId) (meth : Method) (c : Code) (b L : Nat) (xs : Nat → Int32) : Prop :=
  p.tables.exec = Jvm.exec ∧ c.code = code ∧ meth.sig.returnType = ret ∧ c.maxLocals = 4 ∧ s.vm.findClass R_law = some m.cls ∧ (∀ w ∈ lw_tbl, w.before #[Value.ref b] s = true) ∧ va_X b L xs s s.heap ∧ b < s.heap.size ∧ meth.locks = false ∧ (Jvm.Cond.and given_1 narrow_1).before #[Value.ref b] s = true
theorem tkFs0_ok : ∀ j, j < 33 → defaultValue (tyX0 j) = vp_V tkFs0 j := fun j hj => match j, hj with
  | 0, _ => rfl
  | 1, _ => rfl
  | 2, _ => rfl
  | 3, _ => rfl
  | 4, _ => rfl
  | 5, _ => rfl
  | 6, _ => rfl
  | 7, _ => rfl
  | 8, _ => rfl
  | 9, _ => rfl
  | 10, _ => rfl
  | 11, _ => rfl
  | 12, _ => rfl
  | 13, _ => rfl
  | 14, _ => rfl
  | 15, _ => rfl
  | 16, _ => rfl
  | 17, _ => rfl
  | 18, _ => rfl
  | 19, _ => rfl
  | 20, _ => rfl
  | 21, _ => rfl
  | 22, _ => rfl
  | 23, _ => rfl
  | 24, _ => rfl
  | 25, _ => rfl
  | 26, _ => rfl
  | 27, _ => rfl
  | 28, _ => rfl
  | 29, _ => rfl
  | 30, _ => rfl
  | 31, _ => rfl
  | 32, _ => rfl
  | _ + 33, h => absurd h (by omega)
theorem tmFs0_ok : ∀ j, j < 8 → defaultValue (tyX1 j) = vp_V tmFs0 j := fun j hj => match j, hj with
  | 0, _ => rfl
  | 1, _ => rfl
  | 2, _ => rfl
  | 3, _ => rfl
  | 4, _ => rfl
  | 5, _ => rfl
  | 6, _ => rfl
  | 7, _ => rfl
  | _ + 8, h => absurd h (by omega)
theorem lw_classes {s0 : State} {b0 : Nat} (ht0 : ∀ w ∈ lw_all, w.before #[Value.ref b0] s0 = true) : ∃ (dC : Nat → ClassId) (dI : Nat → Nat → Nat), ∀ (k : Nat) (q : vw_C), vwCl[k]? = some q → u_Kn s0 q.1 q.2.1 q.2.2 (dC k) (dI k) := by
  obtain ⟨c0_, iS0, hKn0⟩ := u_known (C := RX0) (T := TX0) (N := 33) (n := 33) ht0 in_X0 (ht0 _ q22)
  obtain ⟨c1_, iS1, hKn1⟩ := u_known (C := RX1) (T := TX1) (N := 8) (n := 8) ht0 in_X1 (ht0 _ q227)
  refine ⟨fun k => if k = 0 then c0_ else c1_, fun k => if k = 0 then iS0 else iS1, ?_⟩
  intro k q hq
  match k, hq with
  | 0, hq => cases hq; exact hKn0
  | 1, hq => cases hq; exact hKn1
  | k + 2, hq => simp [vwCl] at hq
/-! the law's own rows: both objects' worlds side by side, the script apart -/
theorem va_P_left {D : va_G} {cl : List vw_C} {w1 w2 : va_W} {H : Heap} (h : va_P D cl (w1 ++ w2) H) : va_P D cl w1 H := fun k q hk => h k q (by rw [List.getElem?_append_left (List.getElem?_eq_some_iff.mp hk).1]; exact hk)
theorem va_P_right {D : va_G} {cl : List vw_C} {w1 w2 : va_W} {H : Heap} (h : va_P D cl (w1 ++ w2) H) : va_P D cl w2 H := fun k q hk => h (w1.length + k) q (by rw [List.getElem?_append_right (Nat.le_add_right _ _), Nat.add_sub_cancel_left]; exact hk)
theorem va_D_left {A : Nat → Prop} {w1 w2 : va_W} (h : va_D A (w1 ++ w2)) : va_D A w1 := ⟨fun i j a b ha hb e => h.1 i j a b (by rw [List.getElem?_append_left (List.getElem?_eq_some_iff.mp ha).1]; exact ha) (by rw [List.getElem?_append_left (List.getElem?_eq_some_iff.mp hb).1]; exact hb) e, fun k q hk => h.2 k q (by rw [List.getElem?_append_left (List.getElem?_eq_some_iff.mp hk).1]; exact hk)⟩
theorem va_D_right {A : Nat → Prop} {w1 w2 : va_W} (h : va_D A (w1 ++ w2)) : va_D A w2 := ⟨fun i j a b ha hb e => by
  have := h.1 (w1.length + i) (w1.length + j) a b (by rw [List.getElem?_append_right (Nat.le_add_right _ _), Nat.add_sub_cancel_left]; exact ha) (by rw [List.getElem?_append_right (Nat.le_add_right _ _), Nat.add_sub_cancel_left]; exact hb) e
  omega, fun k q hk => h.2 (w1.length + k) q (by rw [List.getElem?_append_right (Nat.le_add_right _ _), Nat.add_sub_cancel_left]; exact hk)⟩
theorem va_D_sep {A : Nat → Prop} {w1 w2 : va_W} (h : va_D A (w1 ++ w2)) {i j : Nat} {a b : Nat × va_E} (ha : w1[i]? = some a) (hb : w2[j]? = some b) : a.1 ≠ b.1 := by
  intro e
  have hi := (List.getElem?_eq_some_iff.mp ha).1
  have := h.1 i (w1.length + j) a b (by rw [List.getElem?_append_left hi]; exact ha) (by rw [List.getElem?_append_right (Nat.le_add_right _ _), Nat.add_sub_cancel_left]; exact hb) e
  omega
theorem va_D_fst {A : Nat → Prop} {ws ws' : va_W} (e : ws.map Prod.fst = ws'.map Prod.fst) (h : va_D A ws) : va_D A ws' := by
  have g : ∀ (k : Nat) (q : Nat × va_E), ws'[k]? = some q → ∃ q' : Nat × va_E, ws[k]? = some q' ∧ q'.1 = q.1 := by
    intro k q hk
    have h1 : (ws.map Prod.fst)[k]? = some q.1 := by rw [e, List.getElem?_map, hk]; rfl
    rw [List.getElem?_map] at h1
    cases hw : ws[k]? with
    | none => rw [hw] at h1; cases h1
    | some q' => rw [hw] at h1; exact ⟨q', rfl, Option.some.inj h1⟩
  refine ⟨fun i j a b ha hb hab => ?_, fun k q hk => ?_⟩
  · obtain ⟨a', ha', ea⟩ := g i a ha
    obtain ⟨b', hb', eb⟩ := g j b hb
    exact h.1 i j a' b' ha' hb' (by rw [ea, eb]; exact hab)
  · obtain ⟨q', hq', eq⟩ := g k q hk
    rw [← eq]
    exact h.2 k q' hq'
theorem va_K_left {D : va_G} {cl : List vw_C} {t1 t2 : List (ClassId × FieldType)} {U : State} (h : va_K D cl (t1 ++ t2) U) : va_K D cl t1 U := ⟨h.1, fun k q hk => h.2 k q (by rw [List.getElem?_append_left (List.getElem?_eq_some_iff.mp hk).1]; exact hk)⟩
theorem va_K_right {D : va_G} {cl : List vw_C} {t1 t2 : List (ClassId × FieldType)} {U : State} (h : va_K D cl (t1 ++ t2) U) : va_K D cl t2 U := ⟨h.1, fun k q hk => h.2 (t1.length + k) q (by rw [List.getElem?_append_right (Nat.le_add_right _ _), Nat.add_sub_cancel_left]; exact hk)⟩
def jA (s : State) : Nat → Prop := fun q => s.heap.size ≤ q
def jC (p : Program) (s : State) (m : MethodId) (c : Code) (D : va_G) (cA cB : Nat → ClassId) (b L : Nat) (xs : Nat → Int32) : Prop := p.tables.exec = Jvm.exec ∧ c.code = code ∧ c.maxLocals = 4 ∧ s.vm.findClass R_law = some m.cls ∧ (∀ w ∈ lw_all, w.before #[Value.ref b] s = true) ∧ va_K D vwCl (tkTy cA ++ tmTy cB) s ∧ va_X b L xs s s.heap ∧ b < s.heap.size
def jT (s : State) (D : va_G) (cA : Nat → ClassId) (o : Nat) (h : Nat → Nat) (cB : Nat → ClassId) (o2 : Nat) (h2 : Nat → Nat) (F : xF) (G : xG) (M : xF) (N : xG) (H : Heap) (locs : List Loc) : Prop := va_P D vwCl (tkW cA o h F G ++ tmW cB o2 h2 M N) H ∧ va_D (jA s) (tkW cA o h F G ++ tmW cB o2 h2 M N) ∧ va_S (jA s) s.heap H locs
section JR
variable {p : Program} {l : Launch} {e : Env} {s : State} {m : MethodId} {below : List Frame} {meth : Method} {c : Code} {H : Heap} {locs : List Loc} {cells slots : Nat} {Q : State → Prop}
variable {pc : Nat} {ls : Array Slot} {rest : List Value} {D : va_G} {cA cB : Nat → ClassId} {o o2 b L : Nat} {h h2 : Nat → Nat} {F M : xF} {G N : xG} {xs : Nat → Int32}
theorem j_sld (C : jC p s m c D cA cB b L xs) (T : jT s D cA o h cB o2 h2 F G M N H locs) {i : Nat} (hi : i < L) (hL : L < 2 ^ 31) (hdg : decode code pc = .ok (.iaload, 1)) (kk : W p l e room_1 s m #[Value.ref b] below meth c H locs cells slots Q (F0 m (pc + 1) ls (.int (xs i) :: rest))) : W p l e room_1 s m #[Value.ref b] below meth c H locs cells slots Q (F0 m pc ls (.int (nI i) :: .ref b :: rest)) := by
  refine va_sld C.1 C.2.1 C.2.2.2.2.2.2.1 C.2.2.2.2.2.2.2 (A := jA s) (fun q => absurd C.2.2.2.2.2.2.2 (Nat.not_lt.mpr q)) T.2.2 (vp_in_nI hi hL) hdg ?_
  rw [nI_clamp (Nat.lt_trans hi hL)]
  exact kk
theorem j_len (C : jC p s m c D cA cB b L xs) (T : jT s D cA o h cB o2 h2 F G M N H locs) (hdg : decode code pc = .ok (.arraylength, 1)) (kk : W p l e room_1 s m #[Value.ref b] below meth c H locs cells slots Q (F0 m (pc + 1) ls (.int (nI L) :: rest))) : W p l e room_1 s m #[Value.ref b] below meth c H locs cells slots Q (F0 m pc ls (.ref b :: rest)) :=
  va_slen C.1 C.2.1 C.2.2.2.2.2.2.1 C.2.2.2.2.2.2.2 (A := jA s) (fun q => absurd C.2.2.2.2.2.2.2 (Nat.not_lt.mpr q)) T.2.2 hdg kk
theorem j_callX (C : jC p s m c D cA cB b L xs) (T : jT s D cA o h cB o2 h2 F G M N H locs) {y : MethodName} {bytes : ByteArray} {maxL idx n : Nat} {rm : Room} {As rest st : List Value} {rv : Int32} {F1 : xF} {G1 : xG} (hM : tkMi l y bytes maxL (some .int) rm D cA o h (.ref o :: As) F G rv F1 G1) (hl : Cond.methodLink R_law idx y ∈ lw_all) (hi : Cond.instanceMethod y ∈ lw_all) (hse : Cond.selects RX0 y y ∈ lw_all) (hc : Cond.code y bytes maxL (some .int) ∈ lw_all) (hrc : rm.cells = 0) (hrs : rm.slots = 0) (hd : y.cls = RX0 ∧ y.cls ≠ "java/lang/invoke/MethodHandle" ∧ y.cls ≠ "java/lang/invoke/VarHandle" ∧ (parseMethodDescriptor y.desc).map (fun d => d.parameters.length) = some n) (hR : rm.frames + 1 ≤ room_1.frames ∧ 8 + (maxL + 11) + rm.locals ≤ room_1.locals) (hn : As.length = n) (hls : ls.size = 4) (hroom : (rest.map fun v => v.category).sum ≤ 8) (hcs : cells ≤ room_1.cells ∧ slots ≤ room_1.slots) (hst : st = As.reverse ++ .ref o :: rest) (hdg : decode code pc = .ok (.invokevirtual idx, 3)) (kk : ∀ (H : Heap) (locs : List Loc), jT s D cA o h cB o2 h2 F1 G1 M N H locs → W p l e room_1 s m #[Value.ref b] below meth c H locs cells slots Q (F0 m (pc + 3) ls (.int rv :: rest))) : W p l e room_1 s m #[Value.ref b] below meth c H locs cells slots Q (F0 m pc ls st) := by
  obtain ⟨hx, hb, hml, hown, hts, hK, hX, hbl⟩ := C
  obtain ⟨hP, hD, hS⟩ := T
  have hPc := va_P_left hP
  have hDc := va_D_left hD
  have hKc := va_K_left hK
  have hF : ∀ q, tkA cA o h H.size q → jA s q := by
    rw [← tkA_eq (F := F) (G := G)]
    intro q hq
    rcases hq with ⟨k, e, hk⟩ | hq
    · exact hDc.2 k _ hk
    · exact Nat.le_trans hS.1 hq
  refine va_calli (va_runV (As := As) (rest := rest) ⟨hx, hb, hml, hown, hts⟩ (hM H.size) (cwV n hts (lw_V hl hi hse q19 hc) rfl hrc hrs hd hR) ⟨fun a U g mk q => by obtain ⟨q0, q1, qP, qK, qD⟩ := q; exact ⟨q0, q1, qP, va_K.moved (u := U) (U := U.calling g mk a) (Vm.Alike.refl U.vm) qK, qD⟩, va_recv hKc hPc (ci := 0) (q0 := 0) rfl rfl, fun U hU hW => ⟨rfl, by rw [hU], by rw [hU]; exact hPc, va_K.moved hW.alike hKc, hDc.weaken (fun _ _ _ _ => trivial)⟩⟩ rfl hn hls hst (lv_room hroom) hdg hcs) hS (fun q _ h => hF q h) hF (fun r u t H1 locs1 ht hvm hp hB hz1 hk1 hS1 => ?_)
  obtain ⟨rfl, rfl⟩ := hp
  obtain ⟨hP1, hK1, hD1⟩ := hB
  rw [ht] at hP1
  refine kk H1 locs1 ⟨va_P.app hP1 (fun k q hq => ?_), va_D_fst (ws := tkW cA o h F G ++ tmW cB o2 h2 M N) rfl hD, hS1⟩
  have hq2 := va_P_right hP k q hq
  refine hq2.kept (hk1 q.1 hq2.lt ?_)
  rw [← tkA_eq (F := F) (G := G)]
  rintro (⟨k2, e2, hk2⟩ | hk2)
  · exact va_D_sep hD hk2 hq rfl
  · exact absurd hq2.lt (Nat.not_lt.mpr hk2)
theorem j_callM (C : jC p s m c D cA cB b L xs) (T : jT s D cA o h cB o2 h2 F G M N H locs) {y : MethodName} {bytes : ByteArray} {maxL idx n : Nat} {rm : Room} {As rest st : List Value} {rv : Int32} {F1 : xF} {G1 : xG} (hM : tmMi l y bytes maxL (some .int) rm D cB o2 h2 (.ref o2 :: As) M N rv F1 G1) (hl : Cond.methodLink R_law idx y ∈ lw_all) (hi : Cond.instanceMethod y ∈ lw_all) (hse : Cond.selects RX1 y y ∈ lw_all) (hc : Cond.code y bytes maxL (some .int) ∈ lw_all) (hrc : rm.cells = 0) (hrs : rm.slots = 0) (hd : y.cls = RX1 ∧ y.cls ≠ "java/lang/invoke/MethodHandle" ∧ y.cls ≠ "java/lang/invoke/VarHandle" ∧ (parseMethodDescriptor y.desc).map (fun d => d.parameters.length) = some n) (hR : rm.frames + 1 ≤ room_1.frames ∧ 8 + (maxL + 11) + rm.locals ≤ room_1.locals) (hn : As.length = n) (hls : ls.size = 4) (hroom : (rest.map fun v => v.category).sum ≤ 8) (hcs : cells ≤ room_1.cells ∧ slots ≤ room_1.slots) (hst : st = As.reverse ++ .ref o2 :: rest) (hdg : decode code pc = .ok (.invokevirtual idx, 3)) (kk : ∀ (H : Heap) (locs : List Loc), jT s D cA o h cB o2 h2 F G F1 G1 H locs → W p l e room_1 s m #[Value.ref b] below meth c H locs cells slots Q (F0 m (pc + 3) ls (.int rv :: rest))) : W p l e room_1 s m #[Value.ref b] below meth c H locs cells slots Q (F0 m pc ls st) := by
  obtain ⟨hx, hb, hml, hown, hts, hK, hX, hbl⟩ := C
  obtain ⟨hP, hD, hS⟩ := T
  have hPc := va_P_right hP
  have hDc := va_D_right hD
  have hKc := va_K_right hK
  have hF : ∀ q, tmA cB o2 h2 H.size q → jA s q := by
    rw [← tmA_eq (F := M) (G := N)]
    intro q hq
    rcases hq with ⟨k, e, hk⟩ | hq
    · exact hDc.2 k _ hk
    · exact Nat.le_trans hS.1 hq
  refine va_calli (va_runV (As := As) (rest := rest) ⟨hx, hb, hml, hown, hts⟩ (hM H.size) (cwV n hts (lw_V hl hi hse q20 hc) rfl hrc hrs hd hR) ⟨fun a U g mk q => by obtain ⟨q0, q1, qP, qK, qD⟩ := q; exact ⟨q0, q1, qP, va_K.moved (u := U) (U := U.calling g mk a) (Vm.Alike.refl U.vm) qK, qD⟩, va_recv hKc hPc (ci := 1) (q0 := 0) rfl rfl, fun U hU hW => ⟨rfl, by rw [hU], by rw [hU]; exact hPc, va_K.moved hW.alike hKc, hDc.weaken (fun _ _ _ _ => trivial)⟩⟩ rfl hn hls hst (lv_room hroom) hdg hcs) hS (fun q _ h => hF q h) hF (fun r u t H1 locs1 ht hvm hp hB hz1 hk1 hS1 => ?_)
  obtain ⟨rfl, rfl⟩ := hp
  obtain ⟨hP1, hK1, hD1⟩ := hB
  rw [ht] at hP1
  refine kk H1 locs1 ⟨va_P.app (fun k q hq => ?_) hP1, va_D_fst (ws := tkW cA o h F G ++ tmW cB o2 h2 M N) rfl hD, hS1⟩
  have hq2 := va_P_left hP k q hq
  refine hq2.kept (hk1 q.1 hq2.lt ?_)
  rw [← tmA_eq (F := M) (G := N)]
  rintro (⟨k2, e2, hk2⟩ | hk2)
  · exact va_D_sep hD hq hk2 rfl
  · exact absurd hq2.lt (Nat.not_lt.mpr hk2)
end JR
/-- what the law asks of the two classes' pure functions: a relation that all calls keep, under which they answer alike -/
def LawOK (Rel : xS → xF → Prop) : Prop :=
  Rel (tkX1, fun _ => 0) tmX1 ∧
  (∀ S M, Rel S M → ∀ node so a b, p_grR S node = m_grR M node so a b ∧ Rel (p_grS S node so a b) (m_grS M node so a b)) ∧
  (∀ S M, Rel S M → ∀ node, ok_ch S node ∧ p_shR S node = m_shR M node ∧ Rel (p_shS S node) (m_shS M node)) ∧
  (∀ S M, Rel S M → (¬ S.2 19 = 0 → okSt S) ∧ ∀ node v, p_seR S node = m_seR M node ∧ Rel (p_seS S node v) (m_seS M node v)) ∧
  (∀ S M, Rel S M → ∀ node so, p_soR S node = m_soR M node ∧ Rel (p_soS S node so) (m_soS M node so)) ∧
  (∀ S M, Rel S M → ∀ node, p_soR S node = m_soR M node ∧ Rel (p_tuS S node) (m_tuS M node)) ∧
  (∀ S M, Rel S M → ∀ node, ok_val S node ∧ okEv M ∧ p_valR S node = m_vaR M node ∧ Rel (p_valS S node) (m_vaF M node)) ∧
  (∀ S M, Rel S M → ∀ node, ok_slo S node ∧ p_sloR S node = m_slR M node ∧ Rel (p_sloS S node) (m_slS M node)) ∧
  (∀ S M, Rel S M → ∀ node, p_leR S.1 node = m_lR M node ∧ p_riR S.1 node = m_rR M node) ∧
  (∀ S M, Rel S M → S.2 5 = nI (m_jc M 31))
theorem tx_inc5 (j : Nat) : nI (5 * j) + Int32.ofInt 5 = nI (5 * (j + 1)) := nI_add (5 * j) 5
theorem tx_more {L i : Nat} (hL : L ≤ 320) (hi : i ≤ 1000) : (nI L - 5 < nI i) ↔ L < i + 5 := by
  rw [Int32.lt_iff_toInt_lt, show (5 : Int32) = nI 5 from rfl, pk_sub_toInt (by omega) (by decide), nI_toInt (by omega)]
  omega
end
section
set_option maxRecDepth 100000
set_option maxHeartbeats 400000
set_option maxHeartbeats 1000000 in
theorem whole_open (Rel : xS → xF → Prop) (OK : LawOK Rel) {p : Program} {e : Env} {s : State} {m : MethodId} {below : List Frame} {meth : Method} {c : Code} (l : Launch) {b L : Nat} {xs : Nat → Int32} (hL : L ≤ 320) (C0 : lw_At p s m meth c b L xs) : W p l e room_1 s m #[Value.ref b] below meth c s.heap [] 0 0 (lw_Z below #[Value.ref b] s) (entryFrame m ([Value.ref b] : List Value).toArray 4) := by
  obtain ⟨hx, hb, hr, hml, hown, hts0, hX, hbl, hlk, -⟩ := C0
  have hts : ∀ w ∈ lw_all, w.before #[Value.ref b] s = true := fun w h => hts0 w (lw_all_tbl h)
  obtain ⟨dC, dI, hKn⟩ := lw_classes hts
  have hK : va_K (dC, dI) vwCl [] s := ⟨hKn, fun k q h => by simp at h⟩
  generalize hDe : (dC, dI) = D at hK
  obtain ⟨ok0, ok1, ok2, ok3, ok4, ok5, ok6, ok7, ok8, ok9⟩ := OK
  have hA : ∀ q : Nat, s.heap.size ≤ q → jA s q := fun q h => h
  have hP : va_P D vwCl [] s.heap := fun k q h => by simp at h
  have hD : va_D (jA s) [] := ⟨fun i j a b h => by simp at h, fun k q h => by simp at h⟩
  have hS : va_S (jA s) s.heap s.heap [] := va_S.rf
  have hl := lv_entry ([.ref b]) (n := 4) (Nat.le_of_ble_eq_true rfl)
  rw [lg_entry_eq]
  generalize (lg_sl ([.ref b]) ++ List.replicate (4 - (lg_sl ([.ref b])).length) Slot.unset).toArray = ls at hl ⊢
  have hl : lv_has ls 4 [(0, .ref b)] := hl
  refine va_new (ci := 0) (fs := tkFs0) (C := RX0) (T := TX0) (N := 33) hx hb hts in_X0 tyX0 tyX0_ok hown (hts _ q21) (hts _ q22) (hts _ q19) hK hP hD hS hA rfl tkFs0_ok (by decide) (by decide) dL_law_0 (fun o H hP hD hS => ?_)
  have hP : va_P D vwCl [(o, .inr (0, tkFs0))] H := hP
  have hD : va_D (jA s) [(o, .inr (0, tkFs0))] := hD
  refine lv_dup hx hb dL_law_3 rfl ?_
  have hFc : ∀ q, va_A [(o, .inr (0, tkFs0))] H.size q → jA s q := va_free (wc := [(o, .inr (0, tkFs0))]) hD hS hA [0] rfl
  refine va_callv (va_runI (As := []) (rest := [.ref o]) ⟨hx, hb, hml, hown, hts⟩ (tk_init l D o H.size) (cwI 0 hts (lw_meth q25) rfl rfl rfl (hts _ q19) (hts _ q23) (hts _ q24) rfl (by decide +kernel) ⟨Nat.le_of_ble_eq_true rfl, Nat.le_of_ble_eq_true rfl⟩) ⟨fun a U g mk q => by obtain ⟨q0, q1, qP, qK, qD⟩ := q; exact ⟨q0, q1, qP, va_K.moved (u := U) (U := U.calling g mk a) (Vm.Alike.refl U.vm) qK, qD⟩, fun U hU hW => ⟨rfl, by rw [hU], by rw [hU]; exact hP, va_K.moved hW.alike hK, hD.weaken (fun _ _ _ _ => trivial)⟩⟩ rfl rfl hl.1 rfl (lv_room (Nat.le_of_ble_eq_true rfl)) dL_law_4 ⟨Nat.le_of_ble_eq_true rfl, Nat.le_of_ble_eq_true rfl⟩) hS (fun q _ h => hFc q h) hFc (fun u t H1 locs ht hvm hw1 hB hz1 hk1 hS => ?_)
  obtain ⟨⟨cA, h⟩, rfl⟩ : ∃ z, z = u := ⟨_, rfl⟩
  obtain ⟨hP1, hK1, hD1⟩ := hB
  rw [ht] at hP1
  have hK : va_K D vwCl (tkTy cA) s := va_K.moved hvm.symm hK1
  have hP : va_P D vwCl (tkW cA o h tkX1 (fun _ => 0)) H1 := hP1
  have hD : va_D (jA s) (tkW cA o h tkX1 (fun _ => 0)) := hD1.weaken (fun _ q _ h => hFc q.1 h)
  refine lv_astore_n (lv' := [(1, .ref o), (0, .ref b)]) hx hb dL_law_7 rfl hl (by decide) rfl (fun ls hl => ?_)
  refine W.widen (k := 25) (n := 726) (by decide) (by decide) ?_
  refine va_new (ci := 1) (fs := tmFs0) (C := RX1) (T := TX1) (N := 8) hx hb hts in_X1 tyX1 tyX1_ok hown (hts _ q226) (hts _ q227) (hts _ q20) hK hP hD hS hA rfl tmFs0_ok (by decide) (by decide) dL_law_8 (fun o2 H hP hD hS => ?_)
  refine lv_dup hx hb dL_law_11 rfl ?_
  have hPc := va_P_right hP
  have hDc := va_D_right hD
  have hKc := hK.sub (tys' := []) [] rfl
  have hFc : ∀ q, va_A [(o2, .inr (1, tmFs0))] H.size q → jA s q := va_free (wc := [(o2, .inr (1, tmFs0))]) hDc hS hA [0] rfl
  refine va_callv (va_runI (As := []) (rest := [.ref o2]) ⟨hx, hb, hml, hown, hts⟩ (tm_init l D o2 H.size) (cwI 0 hts (lw_meth q230) rfl rfl rfl (hts _ q20) (hts _ q228) (hts _ q229) rfl (by decide +kernel) ⟨Nat.le_of_ble_eq_true rfl, Nat.le_of_ble_eq_true rfl⟩) ⟨fun a U g mk q => by obtain ⟨q0, q1, qP, qK, qD⟩ := q; exact ⟨q0, q1, qP, va_K.moved (u := U) (U := U.calling g mk a) (Vm.Alike.refl U.vm) qK, qD⟩, fun U hU hW => ⟨rfl, by rw [hU], by rw [hU]; exact hPc, va_K.moved hW.alike hKc, hDc.weaken (fun _ _ _ _ => trivial)⟩⟩ rfl rfl hl.1 rfl (lv_room (Nat.le_of_ble_eq_true rfl)) dL_law_12 ⟨Nat.le_of_ble_eq_true rfl, Nat.le_of_ble_eq_true rfl⟩) hS (fun q _ h => hFc q h) hFc (fun u t H1 locs ht hvm hw1 hB hz1 hk1 hS => ?_)
  obtain ⟨⟨cB, h2⟩, rfl⟩ : ∃ z, z = u := ⟨_, rfl⟩
  obtain ⟨hP1, hK1, hD1⟩ := hB
  rw [ht] at hP1
  have hK : va_K D vwCl (tkTy cA ++ tmTy cB) s := hK.app (va_K.moved hvm.symm hK1)
  obtain ⟨hP, hD⟩ := va_join (wr := tkW cA o h tkX1 (fun _ => 0)) (w1 := tmW cB o2 h2 tmX1 (fun _ => 0)) (wc := [(o2, .inr (1, tmFs0))]) hP hD [25] [0, 1, 2, 3, 4, 5, 6, 7, 8, 9, 10, 11, 12, 13, 14, 15, 16, 17, 18, 19, 20, 21, 22, 23, 24] rfl rfl (by decide) (by decide) hk1 hFc hP1 hD1
  refine lv_astore_n (lv' := [(2, .ref o2), (1, .ref o), (0, .ref b)]) hx hb dL_law_15 rfl hl (by decide) rfl (fun ls hl => ?_)
  refine W.widen (k := 34) (n := 982) (by decide) (by decide) ?_
  have C : jC p s m c D cA cB b L xs := ⟨hx, hb, hml, hown, hts, hK, hX, hbl⟩
  have T : jT s D cA o h cB o2 h2 tkX1 (fun _ => 0) tmX1 (fun _ => 0) H1 locs := ⟨hP, hD, hS⟩
  refine lv_iconst (v := 0) hx hb dL_law_16 (by decide) ?_
  refine lv_istore_n (lv' := [(3, .int 0), (2, .ref o2), (1, .ref o), (0, .ref b)]) hx hb dL_law_17 rfl hl (by decide) rfl (fun ls hl => ?_)
  refine lx_loop (pc := 18) (fun n ls H locs => ∃ (j : Nat) (S : xS) (M : xF), (j + n = 65) ∧ (5 * j ≤ L) ∧ Rel S M ∧ jT s D cA o h cB o2 h2 S.1 S.2 M (fun _ => 0) H locs ∧ lv_has ls 4 [(3, .int (nI (5 * j))), (2, .ref o2), (1, .ref o), (0, .ref b)]) ?_ ?_ 65 ?_
  · rintro ls H locs ⟨j, S, M, g1, g2, -⟩
    omega
  · rintro n ih ls H locs ⟨j, S, M, g1, g2, g3, T, hl⟩
    refine lv_iload_n hx hb dL_law_18 rfl (lv_at hl 0 rfl) ?_
    refine lv_aload_n hx hb dL_law_19 rfl (lv_at hl 3 rfl) ?_
    refine j_len C T dL_law_20 ?_
    refine lv_iconst (v := 5) hx hb dL_law_21 (by decide) ?_
    refine lv_isub hx hb dL_law_22 ?_
    refine lv_icmp_gt (tgt := 364) hx hb dL_law_23 (by decide) (fun c23 => ?_) (fun c23 => ?_)
    · refine lv_iconst (v := 1) hx hb dL_law_364 (by decide) ?_
      refine va_forget T.2.2.2.2 ?_
      refine W.widen (k := 600000) (n := 7290000) (by decide) (by decide) ?_
      exact lw_ret hx hb hr hlk dL_law_365
    have c23 : ¬ L < 5 * j + 5 := fun hq_ => c23 ((tx_more hL (by omega)).mpr hq_)
    refine lv_aload_n hx hb dL_law_26 rfl (lv_at hl 3 rfl) ?_
    refine lv_iload_n hx hb dL_law_27 rfl (lv_at hl 0 rfl) ?_
    refine j_sld C T (i := 5 * j) (by omega) (by omega) dL_law_28 ?_
    refine lv_bipush (v := 15) hx hb dL_law_29 (by decide) ?_
    refine lv_iand hx hb dL_law_31 ?_
    obtain ⟨v, hv, ev⟩ := pk_andE (xs (5 * j)) (m := 15) 4 (by decide)
    refine lx_top (w := nI v) ev ?_
    rcases (show v = 0 ∨ v = 1 ∨ v = 2 ∨ v = 3 ∨ v = 4 ∨ v = 5 ∨ v = 6 ∨ v = 7 ∨ v = 8 ∨ v = 9 ∨ 10 ≤ v by omega) with rfl | rfl | rfl | rfl | rfl | rfl | rfl | rfl | rfl | rfl | h10
    · refine lv_tableIn (off := 56) (tgt := 88) hx hb dL_law_32 (by decide) (by decide) rfl (by decide) ?_
      refine lv_aload_n hx hb dL_law_88 rfl (lv_at hl 2 rfl) ?_
      refine lv_aload_n hx hb dL_law_89 rfl (lv_at hl 3 rfl) ?_
      refine lv_iload_n hx hb dL_law_90 rfl (lv_at hl 0 rfl) ?_
      refine lv_iconst (v := 1) hx hb dL_law_91 (by decide) ?_
      refine lv_iadd hx hb dL_law_92 ?_
      refine lx_top (w := nI (5 * j + 1)) (nI_add (5 * j) 1) ?_
      refine j_sld C T (i := 5 * j + 1) (by omega) (by omega) dL_law_93 ?_
      refine lv_aload_n hx hb dL_law_94 rfl (lv_at hl 3 rfl) ?_
      refine lv_iload_n hx hb dL_law_95 rfl (lv_at hl 0 rfl) ?_
      refine lv_iconst (v := 2) hx hb dL_law_96 (by decide) ?_
      refine lv_iadd hx hb dL_law_97 ?_
      refine lx_top (w := nI (5 * j + 2)) (nI_add (5 * j) 2) ?_
      refine j_sld C T (i := 5 * j + 2) (by omega) (by omega) dL_law_98 ?_
      refine lv_aload_n hx hb dL_law_99 rfl (lv_at hl 3 rfl) ?_
      refine lv_iload_n hx hb dL_law_100 rfl (lv_at hl 0 rfl) ?_
      refine lv_iconst (v := 3) hx hb dL_law_101 (by decide) ?_
      refine lv_iadd hx hb dL_law_102 ?_
      refine lx_top (w := nI (5 * j + 3)) (nI_add (5 * j) 3) ?_
      refine j_sld C T (i := 5 * j + 3) (by omega) (by omega) dL_law_103 ?_
      refine lv_aload_n hx hb dL_law_104 rfl (lv_at hl 3 rfl) ?_
      refine lv_iload_n hx hb dL_law_105 rfl (lv_at hl 0 rfl) ?_
      refine lv_iconst (v := 4) hx hb dL_law_106 (by decide) ?_
      refine lv_iadd hx hb dL_law_107 ?_
      refine lx_top (w := nI (5 * j + 4)) (nI_add (5 * j) 4) ?_
      refine j_sld C T (i := 5 * j + 4) (by omega) (by omega) dL_law_108 ?_
      refine j_callX C T (n := 4) (As := [.int (xs (5 * j + 1)), .int (xs (5 * j + 2)), .int (xs (5 * j + 3)), .int (xs (5 * j + 4))]) (rest := []) (met_grow l D cA o h S.1 S.2 (xs (5 * j + 1)) (xs (5 * j + 2)) (xs (5 * j + 3)) (xs (5 * j + 4))) q131 q132 q133 q134 rfl rfl (by decide +kernel) (by decide) rfl hl.1 (Nat.le_of_ble_eq_true rfl) (by decide) rfl dL_law_109 (fun H locs T => ?_)
      refine lv_aload_n hx hb dL_law_112 rfl (lv_at hl 1 rfl) ?_
      refine lv_aload_n hx hb dL_law_113 rfl (lv_at hl 3 rfl) ?_
      refine lv_iload_n hx hb dL_law_114 rfl (lv_at hl 0 rfl) ?_
      refine lv_iconst (v := 1) hx hb dL_law_115 (by decide) ?_
      refine lv_iadd hx hb dL_law_116 ?_
      refine lx_top (w := nI (5 * j + 1)) (nI_add (5 * j) 1) ?_
      refine j_sld C T (i := 5 * j + 1) (by omega) (by omega) dL_law_117 ?_
      refine lv_aload_n hx hb dL_law_118 rfl (lv_at hl 3 rfl) ?_
      refine lv_iload_n hx hb dL_law_119 rfl (lv_at hl 0 rfl) ?_
      refine lv_iconst (v := 2) hx hb dL_law_120 (by decide) ?_
      refine lv_iadd hx hb dL_law_121 ?_
      refine lx_top (w := nI (5 * j + 2)) (nI_add (5 * j) 2) ?_
      refine j_sld C T (i := 5 * j + 2) (by omega) (by omega) dL_law_122 ?_
      refine lv_aload_n hx hb dL_law_123 rfl (lv_at hl 3 rfl) ?_
      refine lv_iload_n hx hb dL_law_124 rfl (lv_at hl 0 rfl) ?_
      refine lv_iconst (v := 3) hx hb dL_law_125 (by decide) ?_
      refine lv_iadd hx hb dL_law_126 ?_
      refine lx_top (w := nI (5 * j + 3)) (nI_add (5 * j) 3) ?_
      refine j_sld C T (i := 5 * j + 3) (by omega) (by omega) dL_law_127 ?_
      refine lv_aload_n hx hb dL_law_128 rfl (lv_at hl 3 rfl) ?_
      refine lv_iload_n hx hb dL_law_129 rfl (lv_at hl 0 rfl) ?_
      refine lv_iconst (v := 4) hx hb dL_law_130 (by decide) ?_
      refine lv_iadd hx hb dL_law_131 ?_
      refine lx_top (w := nI (5 * j + 4)) (nI_add (5 * j) 4) ?_
      refine j_sld C T (i := 5 * j + 4) (by omega) (by omega) dL_law_132 ?_
      refine j_callM C T (n := 4) (As := [.int (xs (5 * j + 1)), .int (xs (5 * j + 2)), .int (xs (5 * j + 3)), .int (xs (5 * j + 4))]) (rest := [.int _]) (mm_grow l D cB o2 h2 M (fun _ => 0) (xs (5 * j + 1)) (xs (5 * j + 2)) (xs (5 * j + 3)) (xs (5 * j + 4))) q257 q258 q259 q260 rfl rfl (by decide +kernel) (by decide) rfl hl.1 (Nat.le_of_ble_eq_true rfl) (by decide) rfl dL_law_133 (fun H locs T => ?_)
      refine lv_icmp_eq (tgt := 358) hx hb dL_law_136 (by decide) (fun _ => ?_) (fun hq_ => absurd (ok1 S M g3 (xs (5 * j + 1)) (xs (5 * j + 2)) (xs (5 * j + 3)) (xs (5 * j + 4))).1 hq_)
      refine lv_iinc (v := nI (5 * (j + 1))) (lv' := [(3, .int (nI (5 * (j + 1)))), (2, .ref o2), (1, .ref o), (0, .ref b)]) hx hb dL_law_358 hl (k := 0) rfl (tx_inc5 j) (by decide) rfl (fun ls hl => ?_)
      refine lv_goto (tgt := 18) hx hb dL_law_361 (by decide) ?_
      exact ih _ _ _ ⟨j + 1, (p_grS S (xs (5 * j + 1)) (xs (5 * j + 2)) (xs (5 * j + 3)) (xs (5 * j + 4))), (m_grS M (xs (5 * j + 1)) (xs (5 * j + 2)) (xs (5 * j + 3)) (xs (5 * j + 4))), by omega, by omega, (ok1 S M g3 (xs (5 * j + 1)) (xs (5 * j + 2)) (xs (5 * j + 3)) (xs (5 * j + 4))).2, T, hl⟩
    · refine lv_tableIn (off := 109) (tgt := 141) hx hb dL_law_32 (by decide) (by decide) rfl (by decide) ?_
      refine lv_aload_n hx hb dL_law_141 rfl (lv_at hl 2 rfl) ?_
      refine lv_aload_n hx hb dL_law_142 rfl (lv_at hl 3 rfl) ?_
      refine lv_iload_n hx hb dL_law_143 rfl (lv_at hl 0 rfl) ?_
      refine lv_iconst (v := 1) hx hb dL_law_144 (by decide) ?_
      refine lv_iadd hx hb dL_law_145 ?_
      refine lx_top (w := nI (5 * j + 1)) (nI_add (5 * j) 1) ?_
      refine j_sld C T (i := 5 * j + 1) (by omega) (by omega) dL_law_146 ?_
      refine j_callX C T (n := 1) (As := [.int (xs (5 * j + 1))]) (rest := []) (met_shrink l D cA o h S.1 S.2 (xs (5 * j + 1)) (ok2 S M g3 (xs (5 * j + 1))).1) q147 q148 q149 q150 rfl rfl (by decide +kernel) (by decide) rfl hl.1 (Nat.le_of_ble_eq_true rfl) (by decide) rfl dL_law_147 (fun H locs T => ?_)
      refine lv_aload_n hx hb dL_law_150 rfl (lv_at hl 1 rfl) ?_
      refine lv_aload_n hx hb dL_law_151 rfl (lv_at hl 3 rfl) ?_
      refine lv_iload_n hx hb dL_law_152 rfl (lv_at hl 0 rfl) ?_
      refine lv_iconst (v := 1) hx hb dL_law_153 (by decide) ?_
      refine lv_iadd hx hb dL_law_154 ?_
      refine lx_top (w := nI (5 * j + 1)) (nI_add (5 * j) 1) ?_
      refine j_sld C T (i := 5 * j + 1) (by omega) (by omega) dL_law_155 ?_
      refine j_callM C T (n := 1) (As := [.int (xs (5 * j + 1))]) (rest := [.int _]) (mm_shrink l D cB o2 h2 M (fun _ => 0) (xs (5 * j + 1))) q273 q274 q275 q276 rfl rfl (by decide +kernel) (by decide) rfl hl.1 (Nat.le_of_ble_eq_true rfl) (by decide) rfl dL_law_156 (fun H locs T => ?_)
      refine lv_icmp_eq (tgt := 358) hx hb dL_law_159 (by decide) (fun _ => ?_) (fun hq_ => absurd (ok2 S M g3 (xs (5 * j + 1))).2.1 hq_)
      refine lv_iinc (v := nI (5 * (j + 1))) (lv' := [(3, .int (nI (5 * (j + 1)))), (2, .ref o2), (1, .ref o), (0, .ref b)]) hx hb dL_law_358 hl (k := 0) rfl (tx_inc5 j) (by decide) rfl (fun ls hl => ?_)
      refine lv_goto (tgt := 18) hx hb dL_law_361 (by decide) ?_
      exact ih _ _ _ ⟨j + 1, (p_shS S (xs (5 * j + 1))), (m_shS M (xs (5 * j + 1))), by omega, by omega, (ok2 S M g3 (xs (5 * j + 1))).2.2, T, hl⟩
    · refine lv_tableIn (off := 132) (tgt := 164) hx hb dL_law_32 (by decide) (by decide) rfl (by decide) ?_
      refine lv_aload_n hx hb dL_law_164 rfl (lv_at hl 2 rfl) ?_
      refine lv_aload_n hx hb dL_law_165 rfl (lv_at hl 3 rfl) ?_
      refine lv_iload_n hx hb dL_law_166 rfl (lv_at hl 0 rfl) ?_
      refine lv_iconst (v := 1) hx hb dL_law_167 (by decide) ?_
      refine lv_iadd hx hb dL_law_168 ?_
      refine lx_top (w := nI (5 * j + 1)) (nI_add (5 * j) 1) ?_
      refine j_sld C T (i := 5 * j + 1) (by omega) (by omega) dL_law_169 ?_
      refine lv_aload_n hx hb dL_law_170 rfl (lv_at hl 3 rfl) ?_
      refine lv_iload_n hx hb dL_law_171 rfl (lv_at hl 0 rfl) ?_
      refine lv_iconst (v := 2) hx hb dL_law_172 (by decide) ?_
      refine lv_iadd hx hb dL_law_173 ?_
      refine lx_top (w := nI (5 * j + 2)) (nI_add (5 * j) 2) ?_
      refine j_sld C T (i := 5 * j + 2) (by omega) (by omega) dL_law_174 ?_
      refine j_callX C T (n := 2) (As := [.int (xs (5 * j + 1)), .int (xs (5 * j + 2))]) (rest := []) (met_set l D cA o h S.1 S.2 (xs (5 * j + 1)) (xs (5 * j + 2)) (ok3 S M g3).1) q154 q155 q156 q157 rfl rfl (by decide +kernel) (by decide) rfl hl.1 (Nat.le_of_ble_eq_true rfl) (by decide) rfl dL_law_175 (fun H locs T => ?_)
      refine lv_aload_n hx hb dL_law_178 rfl (lv_at hl 1 rfl) ?_
      refine lv_aload_n hx hb dL_law_179 rfl (lv_at hl 3 rfl) ?_
      refine lv_iload_n hx hb dL_law_180 rfl (lv_at hl 0 rfl) ?_
      refine lv_iconst (v := 1) hx hb dL_law_181 (by decide) ?_
      refine lv_iadd hx hb dL_law_182 ?_
      refine lx_top (w := nI (5 * j + 1)) (nI_add (5 * j) 1) ?_
      refine j_sld C T (i := 5 * j + 1) (by omega) (by omega) dL_law_183 ?_
      refine lv_aload_n hx hb dL_law_184 rfl (lv_at hl 3 rfl) ?_
      refine lv_iload_n hx hb dL_law_185 rfl (lv_at hl 0 rfl) ?_
      refine lv_iconst (v := 2) hx hb dL_law_186 (by decide) ?_
      refine lv_iadd hx hb dL_law_187 ?_
      refine lx_top (w := nI (5 * j + 2)) (nI_add (5 * j) 2) ?_
      refine j_sld C T (i := 5 * j + 2) (by omega) (by omega) dL_law_188 ?_
      refine j_callM C T (n := 2) (As := [.int (xs (5 * j + 1)), .int (xs (5 * j + 2))]) (rest := [.int _]) (mm_set l D cB o2 h2 M (fun _ => 0) (xs (5 * j + 1)) (xs (5 * j + 2))) q284 q285 q286 q287 rfl rfl (by decide +kernel) (by decide) rfl hl.1 (Nat.le_of_ble_eq_true rfl) (by decide) rfl dL_law_189 (fun H locs T => ?_)
      refine lv_icmp_eq (tgt := 358) hx hb dL_law_192 (by decide) (fun _ => ?_) (fun hq_ => absurd ((ok3 S M g3).2 (xs (5 * j + 1)) (xs (5 * j + 2))).1 hq_)
      refine lv_iinc (v := nI (5 * (j + 1))) (lv' := [(3, .int (nI (5 * (j + 1)))), (2, .ref o2), (1, .ref o), (0, .ref b)]) hx hb dL_law_358 hl (k := 0) rfl (tx_inc5 j) (by decide) rfl (fun ls hl => ?_)
      refine lv_goto (tgt := 18) hx hb dL_law_361 (by decide) ?_
      exact ih _ _ _ ⟨j + 1, (p_seS S (xs (5 * j + 1)) (xs (5 * j + 2))), (m_seS M (xs (5 * j + 1)) (xs (5 * j + 2))), by omega, by omega, ((ok3 S M g3).2 (xs (5 * j + 1)) (xs (5 * j + 2))).2, T, hl⟩
    · refine lv_tableIn (off := 165) (tgt := 197) hx hb dL_law_32 (by decide) (by decide) rfl (by decide) ?_
      refine lv_aload_n hx hb dL_law_197 rfl (lv_at hl 2 rfl) ?_
      refine lv_aload_n hx hb dL_law_198 rfl (lv_at hl 3 rfl) ?_
      refine lv_iload_n hx hb dL_law_199 rfl (lv_at hl 0 rfl) ?_
      refine lv_iconst (v := 1) hx hb dL_law_200 (by decide) ?_
      refine lv_iadd hx hb dL_law_201 ?_
      refine lx_top (w := nI (5 * j + 1)) (nI_add (5 * j) 1) ?_
      refine j_sld C T (i := 5 * j + 1) (by omega) (by omega) dL_law_202 ?_
      refine lv_aload_n hx hb dL_law_203 rfl (lv_at hl 3 rfl) ?_
      refine lv_iload_n hx hb dL_law_204 rfl (lv_at hl 0 rfl) ?_
      refine lv_iconst (v := 2) hx hb dL_law_205 (by decide) ?_
      refine lv_iadd hx hb dL_law_206 ?_
      refine lx_top (w := nI (5 * j + 2)) (nI_add (5 * j) 2) ?_
      refine j_sld C T (i := 5 * j + 2) (by omega) (by omega) dL_law_207 ?_
      refine j_callX C T (n := 2) (As := [.int (xs (5 * j + 1)), .int (xs (5 * j + 2))]) (rest := []) (met_setSort l D cA o h S.1 S.2 (xs (5 * j + 1)) (xs (5 * j + 2)) (ok3 S M g3).1) q174 q175 q176 q177 rfl rfl (by decide +kernel) (by decide) rfl hl.1 (Nat.le_of_ble_eq_true rfl) (by decide) rfl dL_law_208 (fun H locs T => ?_)
      refine lv_aload_n hx hb dL_law_211 rfl (lv_at hl 1 rfl) ?_
      refine lv_aload_n hx hb dL_law_212 rfl (lv_at hl 3 rfl) ?_
      refine lv_iload_n hx hb dL_law_213 rfl (lv_at hl 0 rfl) ?_
      refine lv_iconst (v := 1) hx hb dL_law_214 (by decide) ?_
      refine lv_iadd hx hb dL_law_215 ?_
      refine lx_top (w := nI (5 * j + 1)) (nI_add (5 * j) 1) ?_
      refine j_sld C T (i := 5 * j + 1) (by omega) (by omega) dL_law_216 ?_
      refine lv_aload_n hx hb dL_law_217 rfl (lv_at hl 3 rfl) ?_
      refine lv_iload_n hx hb dL_law_218 rfl (lv_at hl 0 rfl) ?_
      refine lv_iconst (v := 2) hx hb dL_law_219 (by decide) ?_
      refine lv_iadd hx hb dL_law_220 ?_
      refine lx_top (w := nI (5 * j + 2)) (nI_add (5 * j) 2) ?_
      refine j_sld C T (i := 5 * j + 2) (by omega) (by omega) dL_law_221 ?_
      refine j_callM C T (n := 2) (As := [.int (xs (5 * j + 1)), .int (xs (5 * j + 2))]) (rest := [.int _]) (mm_setSort l D cB o2 h2 M (fun _ => 0) (xs (5 * j + 1)) (xs (5 * j + 2))) q288 q289 q290 q291 rfl rfl (by decide +kernel) (by decide) rfl hl.1 (Nat.le_of_ble_eq_true rfl) (by decide) rfl dL_law_222 (fun H locs T => ?_)
      refine lv_icmp_eq (tgt := 358) hx hb dL_law_225 (by decide) (fun _ => ?_) (fun hq_ => absurd (ok4 S M g3 (xs (5 * j + 1)) (xs (5 * j + 2))).1 hq_)
      refine lv_iinc (v := nI (5 * (j + 1))) (lv' := [(3, .int (nI (5 * (j + 1)))), (2, .ref o2), (1, .ref o), (0, .ref b)]) hx hb dL_law_358 hl (k := 0) rfl (tx_inc5 j) (by decide) rfl (fun ls hl => ?_)
      refine lv_goto (tgt := 18) hx hb dL_law_361 (by decide) ?_
      exact ih _ _ _ ⟨j + 1, (p_soS S (xs (5 * j + 1)) (xs (5 * j + 2))), (m_soS M (xs (5 * j + 1)) (xs (5 * j + 2))), by omega, by omega, (ok4 S M g3 (xs (5 * j + 1)) (xs (5 * j + 2))).2, T, hl⟩
    · refine lv_tableIn (off := 198) (tgt := 230) hx hb dL_law_32 (by decide) (by decide) rfl (by decide) ?_
      refine lv_aload_n hx hb dL_law_230 rfl (lv_at hl 2 rfl) ?_
      refine lv_aload_n hx hb dL_law_231 rfl (lv_at hl 3 rfl) ?_
      refine lv_iload_n hx hb dL_law_232 rfl (lv_at hl 0 rfl) ?_
      refine lv_iconst (v := 1) hx hb dL_law_233 (by decide) ?_
      refine lv_iadd hx hb dL_law_234 ?_
      refine lx_top (w := nI (5 * j + 1)) (nI_add (5 * j) 1) ?_
      refine j_sld C T (i := 5 * j + 1) (by omega) (by omega) dL_law_235 ?_
      refine j_callX C T (n := 1) (As := [.int (xs (5 * j + 1))]) (rest := []) (met_turn l D cA o h S.1 S.2 (xs (5 * j + 1))) q178 q179 q180 q181 rfl rfl (by decide +kernel) (by decide) rfl hl.1 (Nat.le_of_ble_eq_true rfl) (by decide) rfl dL_law_236 (fun H locs T => ?_)
      refine lv_aload_n hx hb dL_law_239 rfl (lv_at hl 1 rfl) ?_
      refine lv_aload_n hx hb dL_law_240 rfl (lv_at hl 3 rfl) ?_
      refine lv_iload_n hx hb dL_law_241 rfl (lv_at hl 0 rfl) ?_
      refine lv_iconst (v := 1) hx hb dL_law_242 (by decide) ?_
      refine lv_iadd hx hb dL_law_243 ?_
      refine lx_top (w := nI (5 * j + 1)) (nI_add (5 * j) 1) ?_
      refine j_sld C T (i := 5 * j + 1) (by omega) (by omega) dL_law_244 ?_
      refine j_callM C T (n := 1) (As := [.int (xs (5 * j + 1))]) (rest := [.int _]) (mm_turn l D cB o2 h2 M (fun _ => 0) (xs (5 * j + 1))) q292 q293 q294 q295 rfl rfl (by decide +kernel) (by decide) rfl hl.1 (Nat.le_of_ble_eq_true rfl) (by decide) rfl dL_law_245 (fun H locs T => ?_)
      refine lv_icmp_eq (tgt := 358) hx hb dL_law_248 (by decide) (fun _ => ?_) (fun hq_ => absurd (ok5 S M g3 (xs (5 * j + 1))).1 hq_)
      refine lv_iinc (v := nI (5 * (j + 1))) (lv' := [(3, .int (nI (5 * (j + 1)))), (2, .ref o2), (1, .ref o), (0, .ref b)]) hx hb dL_law_358 hl (k := 0) rfl (tx_inc5 j) (by decide) rfl (fun ls hl => ?_)
      refine lv_goto (tgt := 18) hx hb dL_law_361 (by decide) ?_
      exact ih _ _ _ ⟨j + 1, (p_tuS S (xs (5 * j + 1))), (m_tuS M (xs (5 * j + 1))), by omega, by omega, (ok5 S M g3 (xs (5 * j + 1))).2, T, hl⟩
    · refine lv_tableIn (off := 221) (tgt := 253) hx hb dL_law_32 (by decide) (by decide) rfl (by decide) ?_
      refine lv_aload_n hx hb dL_law_253 rfl (lv_at hl 2 rfl) ?_
      refine lv_aload_n hx hb dL_law_254 rfl (lv_at hl 3 rfl) ?_
      refine lv_iload_n hx hb dL_law_255 rfl (lv_at hl 0 rfl) ?_
      refine lv_iconst (v := 1) hx hb dL_law_256 (by decide) ?_
      refine lv_iadd hx hb dL_law_257 ?_
      refine lx_top (w := nI (5 * j + 1)) (nI_add (5 * j) 1) ?_
      refine j_sld C T (i := 5 * j + 1) (by omega) (by omega) dL_law_258 ?_
      refine j_callX C T (n := 1) (As := [.int (xs (5 * j + 1))]) (rest := []) (met_value l D cA o h S.1 S.2 (xs (5 * j + 1)) (ok6 S M g3 (xs (5 * j + 1))).1) q182 q183 q184 q185 rfl rfl (by decide +kernel) (by decide) rfl hl.1 (Nat.le_of_ble_eq_true rfl) (by decide) rfl dL_law_259 (fun H locs T => ?_)
      refine lv_aload_n hx hb dL_law_262 rfl (lv_at hl 1 rfl) ?_
      refine lv_aload_n hx hb dL_law_263 rfl (lv_at hl 3 rfl) ?_
      refine lv_iload_n hx hb dL_law_264 rfl (lv_at hl 0 rfl) ?_
      refine lv_iconst (v := 1) hx hb dL_law_265 (by decide) ?_
      refine lv_iadd hx hb dL_law_266 ?_
      refine lx_top (w := nI (5 * j + 1)) (nI_add (5 * j) 1) ?_
      refine j_sld C T (i := 5 * j + 1) (by omega) (by omega) dL_law_267 ?_
      refine j_callM C T (n := 1) (As := [.int (xs (5 * j + 1))]) (rest := [.int _]) (mm_value l D cB o2 h2 M (fun _ => 0) (xs (5 * j + 1)) (ok6 S M g3 0).2.1) q296 q297 q298 q299 rfl rfl (by decide +kernel) (by decide) rfl hl.1 (Nat.le_of_ble_eq_true rfl) (by decide) rfl dL_law_268 (fun H locs T => ?_)
      refine lv_icmp_eq (tgt := 358) hx hb dL_law_271 (by decide) (fun _ => ?_) (fun hq_ => absurd (ok6 S M g3 (xs (5 * j + 1))).2.2.1 hq_)
      refine lv_iinc (v := nI (5 * (j + 1))) (lv' := [(3, .int (nI (5 * (j + 1)))), (2, .ref o2), (1, .ref o), (0, .ref b)]) hx hb dL_law_358 hl (k := 0) rfl (tx_inc5 j) (by decide) rfl (fun ls hl => ?_)
      refine lv_goto (tgt := 18) hx hb dL_law_361 (by decide) ?_
      exact ih _ _ _ ⟨j + 1, (p_valS S (xs (5 * j + 1))), (m_vaF M (xs (5 * j + 1))), by omega, by omega, (ok6 S M g3 (xs (5 * j + 1))).2.2.2, T, hl⟩
    · refine lv_tableIn (off := 244) (tgt := 276) hx hb dL_law_32 (by decide) (by decide) rfl (by decide) ?_
      refine lv_aload_n hx hb dL_law_276 rfl (lv_at hl 2 rfl) ?_
      refine lv_aload_n hx hb dL_law_277 rfl (lv_at hl 3 rfl) ?_
      refine lv_iload_n hx hb dL_law_278 rfl (lv_at hl 0 rfl) ?_
      refine lv_iconst (v := 1) hx hb dL_law_279 (by decide) ?_
      refine lv_iadd hx hb dL_law_280 ?_
      refine lx_top (w := nI (5 * j + 1)) (nI_add (5 * j) 1) ?_
      refine j_sld C T (i := 5 * j + 1) (by omega) (by omega) dL_law_281 ?_
      refine j_callX C T (n := 1) (As := [.int (xs (5 * j + 1))]) (rest := []) (met_slope l D cA o h S.1 S.2 (xs (5 * j + 1)) (ok7 S M g3 (xs (5 * j + 1))).1) q206 q207 q208 q209 rfl rfl (by decide +kernel) (by decide) rfl hl.1 (Nat.le_of_ble_eq_true rfl) (by decide) rfl dL_law_282 (fun H locs T => ?_)
      refine lv_aload_n hx hb dL_law_285 rfl (lv_at hl 1 rfl) ?_
      refine lv_aload_n hx hb dL_law_286 rfl (lv_at hl 3 rfl) ?_
      refine lv_iload_n hx hb dL_law_287 rfl (lv_at hl 0 rfl) ?_
      refine lv_iconst (v := 1) hx hb dL_law_288 (by decide) ?_
      refine lv_iadd hx hb dL_law_289 ?_
      refine lx_top (w := nI (5 * j + 1)) (nI_add (5 * j) 1) ?_
      refine j_sld C T (i := 5 * j + 1) (by omega) (by omega) dL_law_290 ?_
      refine j_callM C T (n := 1) (As := [.int (xs (5 * j + 1))]) (rest := [.int _]) (mm_slope l D cB o2 h2 M (fun _ => 0) (xs (5 * j + 1)) (ok6 S M g3 0).2.1) q304 q305 q306 q307 rfl rfl (by decide +kernel) (by decide) rfl hl.1 (Nat.le_of_ble_eq_true rfl) (by decide) rfl dL_law_291 (fun H locs T => ?_)
      refine lv_icmp_eq (tgt := 358) hx hb dL_law_294 (by decide) (fun _ => ?_) (fun hq_ => absurd (ok7 S M g3 (xs (5 * j + 1))).2.1 hq_)
      refine lv_iinc (v := nI (5 * (j + 1))) (lv' := [(3, .int (nI (5 * (j + 1)))), (2, .ref o2), (1, .ref o), (0, .ref b)]) hx hb dL_law_358 hl (k := 0) rfl (tx_inc5 j) (by decide) rfl (fun ls hl => ?_)
      refine lv_goto (tgt := 18) hx hb dL_law_361 (by decide) ?_
      exact ih _ _ _ ⟨j + 1, (p_sloS S (xs (5 * j + 1))), (m_slS M (xs (5 * j + 1))), by omega, by omega, (ok7 S M g3 (xs (5 * j + 1))).2.2, T, hl⟩
    · refine lv_tableIn (off := 267) (tgt := 299) hx hb dL_law_32 (by decide) (by decide) rfl (by decide) ?_
      refine lv_aload_n hx hb dL_law_299 rfl (lv_at hl 2 rfl) ?_
      refine lv_aload_n hx hb dL_law_300 rfl (lv_at hl 3 rfl) ?_
      refine lv_iload_n hx hb dL_law_301 rfl (lv_at hl 0 rfl) ?_
      refine lv_iconst (v := 1) hx hb dL_law_302 (by decide) ?_
      refine lv_iadd hx hb dL_law_303 ?_
      refine lx_top (w := nI (5 * j + 1)) (nI_add (5 * j) 1) ?_
      refine j_sld C T (i := 5 * j + 1) (by omega) (by omega) dL_law_304 ?_
      refine j_callX C T (n := 1) (As := [.int (xs (5 * j + 1))]) (rest := []) (met_left l D cA o h S.1 S.2 (xs (5 * j + 1))) q214 q215 q216 q217 rfl rfl (by decide +kernel) (by decide) rfl hl.1 (Nat.le_of_ble_eq_true rfl) (by decide) rfl dL_law_305 (fun H locs T => ?_)
      refine lv_aload_n hx hb dL_law_308 rfl (lv_at hl 1 rfl) ?_
      refine lv_aload_n hx hb dL_law_309 rfl (lv_at hl 3 rfl) ?_
      refine lv_iload_n hx hb dL_law_310 rfl (lv_at hl 0 rfl) ?_
      refine lv_iconst (v := 1) hx hb dL_law_311 (by decide) ?_
      refine lv_iadd hx hb dL_law_312 ?_
      refine lx_top (w := nI (5 * j + 1)) (nI_add (5 * j) 1) ?_
      refine j_sld C T (i := 5 * j + 1) (by omega) (by omega) dL_law_313 ?_
      refine j_callM C T (n := 1) (As := [.int (xs (5 * j + 1))]) (rest := [.int _]) (mm_left l D cB o2 h2 M (fun _ => 0) (xs (5 * j + 1))) q309 q310 q311 q312 rfl rfl (by decide +kernel) (by decide) rfl hl.1 (Nat.le_of_ble_eq_true rfl) (by decide) rfl dL_law_314 (fun H locs T => ?_)
      refine lv_icmp_eq (tgt := 358) hx hb dL_law_317 (by decide) (fun _ => ?_) (fun hq_ => absurd (ok8 S M g3 (xs (5 * j + 1))).1 hq_)
      refine lv_iinc (v := nI (5 * (j + 1))) (lv' := [(3, .int (nI (5 * (j + 1)))), (2, .ref o2), (1, .ref o), (0, .ref b)]) hx hb dL_law_358 hl (k := 0) rfl (tx_inc5 j) (by decide) rfl (fun ls hl => ?_)
      refine lv_goto (tgt := 18) hx hb dL_law_361 (by decide) ?_
      exact ih _ _ _ ⟨j + 1, S, M, by omega, by omega, g3, T, hl⟩
    · refine lv_tableIn (off := 290) (tgt := 322) hx hb dL_law_32 (by decide) (by decide) rfl (by decide) ?_
      refine lv_aload_n hx hb dL_law_322 rfl (lv_at hl 2 rfl) ?_
      refine lv_aload_n hx hb dL_law_323 rfl (lv_at hl 3 rfl) ?_
      refine lv_iload_n hx hb dL_law_324 rfl (lv_at hl 0 rfl) ?_
      refine lv_iconst (v := 1) hx hb dL_law_325 (by decide) ?_
      refine lv_iadd hx hb dL_law_326 ?_
      refine lx_top (w := nI (5 * j + 1)) (nI_add (5 * j) 1) ?_
      refine j_sld C T (i := 5 * j + 1) (by omega) (by omega) dL_law_327 ?_
      refine j_callX C T (n := 1) (As := [.int (xs (5 * j + 1))]) (rest := []) (met_right l D cA o h S.1 S.2 (xs (5 * j + 1))) q218 q219 q220 q221 rfl rfl (by decide +kernel) (by decide) rfl hl.1 (Nat.le_of_ble_eq_true rfl) (by decide) rfl dL_law_328 (fun H locs T => ?_)
      refine lv_aload_n hx hb dL_law_331 rfl (lv_at hl 1 rfl) ?_
      refine lv_aload_n hx hb dL_law_332 rfl (lv_at hl 3 rfl) ?_
      refine lv_iload_n hx hb dL_law_333 rfl (lv_at hl 0 rfl) ?_
      refine lv_iconst (v := 1) hx hb dL_law_334 (by decide) ?_
      refine lv_iadd hx hb dL_law_335 ?_
      refine lx_top (w := nI (5 * j + 1)) (nI_add (5 * j) 1) ?_
      refine j_sld C T (i := 5 * j + 1) (by omega) (by omega) dL_law_336 ?_
      refine j_callM C T (n := 1) (As := [.int (xs (5 * j + 1))]) (rest := [.int _]) (mm_right l D cB o2 h2 M (fun _ => 0) (xs (5 * j + 1))) q313 q314 q315 q316 rfl rfl (by decide +kernel) (by decide) rfl hl.1 (Nat.le_of_ble_eq_true rfl) (by decide) rfl dL_law_337 (fun H locs T => ?_)
      refine lv_icmp_eq (tgt := 358) hx hb dL_law_340 (by decide) (fun _ => ?_) (fun hq_ => absurd (ok8 S M g3 (xs (5 * j + 1))).2 hq_)
      refine lv_iinc (v := nI (5 * (j + 1))) (lv' := [(3, .int (nI (5 * (j + 1)))), (2, .ref o2), (1, .ref o), (0, .ref b)]) hx hb dL_law_358 hl (k := 0) rfl (tx_inc5 j) (by decide) rfl (fun ls hl => ?_)
      refine lv_goto (tgt := 18) hx hb dL_law_361 (by decide) ?_
      exact ih _ _ _ ⟨j + 1, S, M, by omega, by omega, g3, T, hl⟩
    · refine lv_tableIn (off := 313) (tgt := 345) hx hb dL_law_32 (by decide) (by decide) rfl (by decide) ?_
      refine lv_aload_n hx hb dL_law_345 rfl (lv_at hl 2 rfl) ?_
      refine j_callX C T (n := 0) (As := []) (rest := []) (met_joints l D cA o h S.1 S.2) q222 q223 q224 q225 rfl rfl (by decide +kernel) (by decide) rfl hl.1 (Nat.le_of_ble_eq_true rfl) (by decide) rfl dL_law_346 (fun H locs T => ?_)
      refine lv_aload_n hx hb dL_law_349 rfl (lv_at hl 1 rfl) ?_
      refine j_callM C T (n := 0) (As := []) (rest := [.int _]) (mm_joints l D cB o2 h2 M (fun _ => 0)) q317 q318 q319 q320 rfl rfl (by decide +kernel) (by decide) rfl hl.1 (Nat.le_of_ble_eq_true rfl) (by decide) rfl dL_law_350 (fun H locs T => ?_)
      refine lv_icmp_eq (tgt := 358) hx hb dL_law_353 (by decide) (fun _ => ?_) (fun hq_ => absurd (ok9 S M g3) hq_)
      refine lv_iinc (v := nI (5 * (j + 1))) (lv' := [(3, .int (nI (5 * (j + 1)))), (2, .ref o2), (1, .ref o), (0, .ref b)]) hx hb dL_law_358 hl (k := 0) rfl (tx_inc5 j) (by decide) rfl (fun ls hl => ?_)
      refine lv_goto (tgt := 18) hx hb dL_law_361 (by decide) ?_
      exact ih _ _ _ ⟨j + 1, S, M, by omega, by omega, g3, T, hl⟩
    · refine lv_tableOut (tgt := 358) hx hb dL_law_32 (Or.inr (by rw [nI_toInt (by omega)]; omega)) (by decide) ?_
      refine lv_iinc (v := nI (5 * (j + 1))) (lv' := [(3, .int (nI (5 * (j + 1)))), (2, .ref o2), (1, .ref o), (0, .ref b)]) hx hb dL_law_358 hl (k := 0) rfl (tx_inc5 j) (by decide) rfl (fun ls hl => ?_)
      refine lv_goto (tgt := 18) hx hb dL_law_361 (by decide) ?_
      exact ih _ _ _ ⟨j + 1, S, M, by omega, by omega, g3, T, hl⟩
  · exact ⟨0, (tkX1, fun _ => 0), tmX1, rfl, Nat.zero_le _, ok0, T, lv_sub hl [0, 1, 2, 3] rfl⟩
end
section
/-! sums, places, evaluation by fuel -/
def sm (f : Nat → Nat) : Nat → Nat
  | 0 => 0
  | k + 1 => sm f k + f k
theorem sm_congr {f g : Nat → Nat} {k : Nat} (h : ∀ i, i < k → f i = g i) : sm f k = sm g k := by
  induction k with
  | zero => rfl
  | succ k ih =>
    simp only [sm]
    rw [ih (fun i hi => h i (by omega)), h k (by omega)]
theorem sm_upd {f g : Nat → Nat} {n k : Nat} (hn : n < k) (h : ∀ i, i < k → i ≠ n → g i = f i) : sm g k + f n = sm f k + g n := by
  induction k with
  | zero => omega
  | succ k ih =>
    simp only [sm]
    by_cases e : n = k
    · subst e
      rw [sm_congr (f := g) (g := f) (fun i hi => h i (by omega) (by omega))]
      omega
    · have h1 := ih (by omega) (fun i hi hne => h i (by omega) hne)
      rw [h k (by omega) (fun q => e q.symm)]
      omega
theorem sm_le {f g : Nat → Nat} {k : Nat} (h : ∀ i, i < k → f i ≤ g i) : sm f k ≤ sm g k := by
  induction k with
  | zero => exact Nat.le_refl _
  | succ k ih =>
    simp only [sm]
    have h1 := ih (fun i hi => h i (by omega))
    have h2 := h k (by omega)
    omega
theorem sm_pos {f : Nat → Nat} {k n : Nat} (hn : n < k) (h : 0 < f n) : 0 < sm f k := by
  induction k with
  | zero => omega
  | succ k ih =>
    simp only [sm]
    by_cases e : n = k
    · subst e; omega
    · have := ih (by omega); omega
theorem php : ∀ (N : Nat) (g : Nat → Nat), (∀ d, d ≤ N → ∃ m, m < N ∧ g m = d) → False := by
  intro N
  induction N with
  | zero =>
    intro g h
    obtain ⟨m, hm, -⟩ := h 0 (Nat.le_refl _)
    omega
  | succ N ih =>
    intro g h
    refine ih (fun m => if g m = N + 1 then g N else g m) (fun d hd => ?_)
    obtain ⟨m, hm, hg⟩ := h d (by omega)
    by_cases e : m = N
    · subst e
      obtain ⟨m2, hm2, hg2⟩ := h (m + 1) (Nat.le_refl _)
      refine ⟨m2, ?_, ?_⟩
      · rcases Nat.lt_or_ge m2 m with q | q
        · exact q
        · have : m2 = m := by omega
          subst this
          omega
      · simp only [hg2, if_true]
        exact hg
    · refine ⟨m, by omega, ?_⟩
      have : ¬ g m = N + 1 := by omega
      simp only [this, if_false]
      exact hg
/-- evaluation by fuel -/
def gev {α : Type} (K Lc Rc : Nat → Nat) (lf : Nat → α) (op : Nat → α → α → α) : Nat → Nat → α
  | 0, n => lf n
  | k + 1, n => if K n = 2 then op n (gev K Lc Rc lf op k (Lc n)) (gev K Lc Rc lf op k (Rc n)) else lf n
/-- a tree of nodes 0 .. 30 in tables: kind 0 none, 1 leaf, 2 joint; children, parent, depth; J joints -/
def Tr (K Lc Rc par dep : Nat → Nat) (J : Nat) : Prop :=
  (∀ n, K n ≤ 2) ∧ (∀ n, 31 ≤ n → K n = 0) ∧ ¬ K 0 = 0 ∧
  (∀ n, K n = 2 → ¬ K (Lc n) = 0 ∧ ¬ K (Rc n) = 0 ∧ ¬ Lc n = Rc n ∧ ¬ Lc n = 0 ∧ ¬ Rc n = 0 ∧ par (Lc n) = n ∧ par (Rc n) = n ∧ dep (Lc n) = dep n + 1 ∧ dep (Rc n) = dep n + 1) ∧
  (∀ n, ¬ n = 0 → ¬ K n = 0 → K (par n) = 2 ∧ (Lc (par n) = n ∨ Rc (par n) = n)) ∧
  dep 0 = 0 ∧ sm (fun n => if K n = 2 then 1 else 0) 31 = J ∧ sm (fun n => if K n = 0 then 0 else 1) 31 = 2 * J + 1
section TR
variable {K Lc Rc par dep : Nat → Nat} {J : Nat}
theorem Tr.k2 (h : Tr K Lc Rc par dep J) (n : Nat) : K n ≤ 2 := h.1 n
theorem Tr.lt (h : Tr K Lc Rc par dep J) {n : Nat} (hn : ¬ K n = 0) : n < 31 := by
  rcases Nat.lt_or_ge n 31 with q | q
  · exact q
  · exact absurd (h.2.1 n q) hn
theorem Tr.root (h : Tr K Lc Rc par dep J) : ¬ K 0 = 0 := h.2.2.1
theorem Tr.ch (h : Tr K Lc Rc par dep J) {n : Nat} (hn : K n = 2) : ¬ K (Lc n) = 0 ∧ ¬ K (Rc n) = 0 ∧ ¬ Lc n = Rc n ∧ ¬ Lc n = 0 ∧ ¬ Rc n = 0 ∧ par (Lc n) = n ∧ par (Rc n) = n ∧ dep (Lc n) = dep n + 1 ∧ dep (Rc n) = dep n + 1 := h.2.2.2.1 n hn
theorem Tr.up (h : Tr K Lc Rc par dep J) {n : Nat} (h0 : ¬ n = 0) (hn : ¬ K n = 0) : K (par n) = 2 ∧ (Lc (par n) = n ∨ Rc (par n) = n) := h.2.2.2.2.1 n h0 hn
theorem Tr.d0 (h : Tr K Lc Rc par dep J) : dep 0 = 0 := h.2.2.2.2.2.1
theorem Tr.cj (h : Tr K Lc Rc par dep J) : sm (fun n => if K n = 2 then 1 else 0) 31 = J := h.2.2.2.2.2.2.1
theorem Tr.cn (h : Tr K Lc Rc par dep J) : sm (fun n => if K n = 0 then 0 else 1) 31 = 2 * J + 1 := h.2.2.2.2.2.2.2
theorem sm_const1 (k : Nat) : sm (fun _ => 1) k = k := by
  induction k with
  | zero => rfl
  | succ k ih => simp only [sm]; omega
theorem Tr.J15 (h : Tr K Lc Rc par dep J) : J ≤ 15 := by
  have h1 := h.cn
  have h2 : sm (fun n => if K n = 0 then 0 else 1) 31 ≤ sm (fun _ => 1) 31 := sm_le (fun i _ => by split <;> omega)
  rw [sm_const1] at h2
  omega
theorem Tr.dup (h : Tr K Lc Rc par dep J) {n : Nat} (h0 : ¬ n = 0) (hn : ¬ K n = 0) : dep n = dep (par n) + 1 := by
  obtain ⟨h1, h2⟩ := h.up h0 hn
  have h3 := h.ch h1
  rcases h2 with q | q
  · rw [q] at h3; exact h3.2.2.2.2.2.2.2.1
  · rw [q] at h3; exact h3.2.2.2.2.2.2.2.2
theorem Tr.anc (h : Tr K Lc Rc par dep J) : ∀ (k n : Nat), ¬ K n = 0 → dep n = k → ∀ d, d ≤ k → ∃ m, m < 31 ∧ dep m = d := by
  intro k
  induction k with
  | zero =>
    intro n hn hd d hd2
    exact ⟨n, h.lt hn, by omega⟩
  | succ k ih =>
    intro n hn hd d hd2
    by_cases e : d = k + 1
    · exact ⟨n, h.lt hn, by omega⟩
    · have h0 : ¬ n = 0 := fun q => by rw [q, h.d0] at hd; omega
      have h1 := h.dup h0 hn
      exact ih (par n) (by rw [(h.up h0 hn).1]; decide) (by omega) d (by omega)
theorem Tr.d30 (h : Tr K Lc Rc par dep J) {n : Nat} (hn : ¬ K n = 0) : dep n ≤ 30 := by
  rcases Nat.lt_or_ge 30 (dep n) with q | q
  · exact (php 31 dep (fun d hd => h.anc _ n hn rfl d (by omega))).elim
  · exact q
theorem gev_stable {α : Type} (h : Tr K Lc Rc par dep J) (lf : Nat → α) (op : Nat → α → α → α) : ∀ (k n : Nat), ¬ K n = 0 → 31 ≤ k + dep n → gev K Lc Rc lf op k n = gev K Lc Rc lf op (k + 1) n := by
  intro k
  induction k with
  | zero =>
    intro n hn hd
    have := h.d30 hn
    omega
  | succ k ih =>
    intro n hn hd
    rw [gev, gev]
    by_cases e : K n = 2
    · have h1 := h.ch e
      rw [if_pos e, if_pos e, ih (Lc n) h1.1 (by omega), ih (Rc n) h1.2.1 (by omega)]
    · rw [if_neg e, if_neg e]
theorem gev_joint {α : Type} (h : Tr K Lc Rc par dep J) (lf : Nat → α) (op : Nat → α → α → α) {n : Nat} (hn : K n = 2) : gev K Lc Rc lf op 31 n = op n (gev K Lc Rc lf op 31 (Lc n)) (gev K Lc Rc lf op 31 (Rc n)) := by
  rw [gev_stable h lf op 31 n (by omega) (by omega), gev, if_pos hn]
theorem gev_leaf {α : Type} (lf : Nat → α) (op : Nat → α → α → α) {n : Nat} (hn : ¬ K n = 2) : gev K Lc Rc lf op 31 n = lf n := by
  rw [gev, if_neg hn]
/-- from the leaves upwards -/
theorem Tr.rec (h : Tr K Lc Rc par dep J) (P : Nat → Prop) (hl : ∀ n, K n = 1 → P n) (hj : ∀ n, K n = 2 → P (Lc n) → P (Rc n) → P n) : ∀ n, ¬ K n = 0 → P n := by
  have key : ∀ (k n : Nat), ¬ K n = 0 → 31 ≤ k + dep n → P n := by
    intro k
    induction k with
    | zero =>
      intro n hn hd
      have := h.d30 hn
      omega
    | succ k ih =>
      intro n hn hd
      have := h.k2 n
      by_cases e : K n = 2
      · have h1 := h.ch e
        exact hj n e (ih _ h1.1 (by omega)) (ih _ h1.2.1 (by omega))
      · exact hl n (by omega)
  intro n hn
  exact key 31 n hn (by omega)
/-- a leaf becomes a joint over two new leaves -/
theorem Tr.grow (h : Tr K Lc Rc par dep J) {n l r : Nat} (hn : K n = 1) (hl : K l = 0) (hr : K r = 0) (hl3 : l < 31) (hr3 : r < 31) (hlr : ¬ l = r) : Tr (va_up (va_up (va_up K l 1) r 1) n 2) (va_up Lc n l) (va_up Rc n r) (va_up (va_up par l n) r n) (va_up (va_up dep l (dep n + 1)) r (dep n + 1)) (J + 1) := by
  have hn3 := h.lt (n := n) (by omega)
  have hk0 := h.root
  have e1 : ¬ n = l := fun q => by subst q; omega
  have e2 : ¬ n = r := fun q => by subst q; omega
  have e3 : ¬ l = 0 := fun q => by subst q; exact hk0 hl
  have e4 : ¬ r = 0 := fun q => by subst q; exact hk0 hr
  obtain ⟨t1, t2, t3, t4, t5, t6, t7, t8⟩ := h
  refine ⟨?_, ?_, ?_, ?_, ?_, ?_, ?_, ?_⟩
  · intro m; simp only [va_up]; split
    · omega
    · split
      · omega
      · split
        · omega
        · exact t1 m
  · intro m hm; simp only [va_up]; rw [if_neg (by omega), if_neg (by omega), if_neg (by omega)]; exact t2 m hm
  · simp only [va_up]; grind
  · intro m hm
    have t4m := t4 m
    simp only [va_up] at hm ⊢
    grind
  · intro m hm hk
    have t5m := t5 m
    simp only [va_up] at hk ⊢
    grind
  · simp only [va_up]; grind
  · have a1 : _ + (if K n = 2 then 1 else 0) = _ + (if va_up (va_up (va_up K l 1) r 1) n 2 n = 2 then 1 else 0) := sm_upd (f := fun i => if K i = 2 then 1 else 0) (g := fun i => if va_up (va_up (va_up K l 1) r 1) n 2 i = 2 then 1 else 0) hn3 (fun i hi hne => by simp only [va_up]; grind)
    have b1 : va_up (va_up (va_up K l 1) r 1) n 2 n = 2 := by simp [va_up]
    rw [b1, hn, if_pos rfl, if_neg (by decide)] at a1
    omega
  · have a1 := sm_upd (f := fun i => if K i = 0 then 0 else 1) (g := fun i => if va_up K l 1 i = 0 then 0 else 1) hl3 (fun i hi hne => by simp only [va_up]; grind)
    have a2 := sm_upd (f := fun i => if va_up K l 1 i = 0 then 0 else 1) (g := fun i => if va_up (va_up K l 1) r 1 i = 0 then 0 else 1) hr3 (fun i hi hne => by simp only [va_up]; grind)
    have a3 := sm_congr (k := 31) (f := fun i => if va_up (va_up (va_up K l 1) r 1) n 2 i = 0 then 0 else 1) (g := fun i => if va_up (va_up K l 1) r 1 i = 0 then 0 else 1) (fun i hi => by simp only [va_up]; grind)
    rw [a3]
    have b1 : va_up K l 1 l = 1 := by simp [va_up]
    have b2 : va_up K l 1 r = 0 := by simp only [va_up]; rw [if_neg (fun q => hlr q.symm)]; exact hr
    have b3 : va_up (va_up K l 1) r 1 r = 1 := by simp [va_up]
    simp only [b1, b2, b3, hl] at a1 a2
    simp at a1 a2
    omega
/-- a joint over two leaves becomes a leaf -/
theorem Tr.shrink (h : Tr K Lc Rc par dep J) {n : Nat} (hn : K n = 2) (hl : K (Lc n) = 1) (hr : K (Rc n) = 1) : Tr (va_up (va_up (va_up K (Lc n) 0) (Rc n) 0) n 1) Lc Rc par dep (J - 1) ∧ 1 ≤ J := by
  have hn3 := h.lt (n := n) (by omega)
  have hl3 := h.lt (n := Lc n) (by omega)
  have hr3 := h.lt (n := Rc n) (by omega)
  obtain ⟨c1, c2, c3, c4, c5, c6, c7, c8, c9⟩ := h.ch hn
  have e1 : ¬ n = Lc n := fun q => by rw [← q] at hl; omega
  have e2 : ¬ n = Rc n := fun q => by rw [← q] at hr; omega
  have hJ : 1 ≤ J := by
    have := h.cj
    have h2 := sm_pos (f := fun n => if K n = 2 then 1 else 0) hn3 (by simp [hn])
    omega
  obtain ⟨t1, t2, t3, t4, t5, t6, t7, t8⟩ := h
  refine ⟨⟨?_, ?_, ?_, ?_, ?_, t6, ?_, ?_⟩, hJ⟩
  · intro m; simp only [va_up]; split
    · omega
    · split
      · omega
      · split
        · omega
        · exact t1 m
  · intro m hm; simp only [va_up]; rw [if_neg (by omega), if_neg (by omega), if_neg (by omega)]; exact t2 m hm
  · simp only [va_up]; grind
  · intro m hm
    have hm1 : ¬ m = n ∧ K m = 2 := by
      simp only [va_up] at hm
      clear t4 t5 t1 t2
      grind
    obtain ⟨d1, d2, d3, d4, d5, d6, d7, d8, d9⟩ := t4 m hm1.2
    have f1 : ¬ Lc m = Lc n := fun q => hm1.1 (by rw [← d6, q, c6])
    have f2 : ¬ Lc m = Rc n := fun q => hm1.1 (by rw [← d6, q, c7])
    have f3 : ¬ Rc m = Lc n := fun q => hm1.1 (by rw [← d7, q, c6])
    have f4 : ¬ Rc m = Rc n := fun q => hm1.1 (by rw [← d7, q, c7])
    refine ⟨?_, ?_, d3, d4, d5, d6, d7, d8, d9⟩
    · simp only [va_up]
      split
      · omega
      · exact d1
    · simp only [va_up]
      split
      · omega
      · exact d2
  · intro m hm hk
    have t5m := t5 m hm
    simp only [va_up] at hk ⊢
    grind
  · have a1 : _ + (if K n = 2 then 1 else 0) = _ + (if va_up (va_up (va_up K (Lc n) 0) (Rc n) 0) n 1 n = 2 then 1 else 0) := sm_upd (f := fun i => if K i = 2 then 1 else 0) (g := fun i => if va_up (va_up (va_up K (Lc n) 0) (Rc n) 0) n 1 i = 2 then 1 else 0) hn3 (fun i hi hne => by simp only [va_up]; grind)
    have b1 : va_up (va_up (va_up K (Lc n) 0) (Rc n) 0) n 1 n = 1 := by simp [va_up]
    rw [b1, hn, if_pos rfl, if_neg (by decide)] at a1
    omega
  · have a1 := sm_upd (f := fun i => if K i = 0 then 0 else 1) (g := fun i => if va_up K (Lc n) 0 i = 0 then 0 else 1) hl3 (fun i hi hne => by simp only [va_up]; grind)
    have a2 := sm_upd (f := fun i => if va_up K (Lc n) 0 i = 0 then 0 else 1) (g := fun i => if va_up (va_up K (Lc n) 0) (Rc n) 0 i = 0 then 0 else 1) hr3 (fun i hi hne => by simp only [va_up]; grind)
    have a3 := sm_congr (k := 31) (f := fun i => if va_up (va_up (va_up K (Lc n) 0) (Rc n) 0) n 1 i = 0 then 0 else 1) (g := fun i => if va_up (va_up K (Lc n) 0) (Rc n) 0 i = 0 then 0 else 1) (fun i hi => by simp only [va_up]; grind)
    rw [a3]
    have b1 : va_up K (Lc n) 0 (Lc n) = 0 := by simp [va_up]
    have b2 : va_up K (Lc n) 0 (Rc n) = 1 := by simp only [va_up]; rw [if_neg (fun q => c3 q.symm)]; exact hr
    have b3 : va_up (va_up K (Lc n) 0) (Rc n) 0 (Rc n) = 0 := by simp [va_up]
    simp only [b1, b2, b3, hl] at a1 a2
    simp at a1 a2
    omega
/-- a joint's children change places -/
theorem Tr.turn (h : Tr K Lc Rc par dep J) {n : Nat} (hn : K n = 2) : Tr K (va_up Lc n (Rc n)) (va_up Rc n (Lc n)) par dep J := by
  obtain ⟨c1, c2, c3, c4, c5, c6, c7, c8, c9⟩ := h.ch hn
  obtain ⟨t1, t2, t3, t4, t5, t6, t7, t8⟩ := h
  refine ⟨t1, t2, t3, ?_, ?_, t6, t7, t8⟩
  · intro m hm
    have t4m := t4 m hm
    simp only [va_up]
    grind
  · intro m hm hk
    have t5m := t5 m hm hk
    simp only [va_up]
    grind
end TR
end
section
/-! small rows on numbers and tables -/
theorem pl_ix {n : Nat} (h : n < 1000) : ix (nI n) = n := nI_clamp (by omega)
theorem pl_nI {a b : Nat} (ha : a < 1000) (hb : b < 1000) (h : nI a = nI b) : a = b := (nI_eq (by omega) (by omega)).mp h
theorem pl_pos {n : Nat} (h : n < 1000) : ¬ nI n < 0 := nI_pos (by omega)
theorem pl_pos' {n : Nat} (h : n < 1000) : 0 ≤ nI n := nI_pos' (by omega)
theorem pl_in {n N : Nat} (h : n < N) (hN : N < 1000) : vp_in (nI n) N := vp_in_nI h (by omega)
theorem pl_m1 {n : Nat} (h : n < 1000) : ¬ nI n = -1 := fun q => pl_pos h (by rw [q]; decide)
theorem pl_in_lt {v : Int32} {N : Nat} (h : vp_in v N) (hN : N < 1000) : v = nI (ix v) ∧ ix v < N := tx_nI h (by omega)
theorem fS_eq (F : xF) (k i : Nat) (x : Int32) (a n : Nat) : fS F k i x a n = if a = k ∧ n = i then x else F a n := by
  unfold fS upd
  by_cases h : a = k
  · subst h
    by_cases h2 : n = i
    · simp [h2]
    · simp [h2]
  · simp [h]
theorem fS_ne {F : xF} {k i : Nat} {x : Int32} {a : Nat} (h : ¬ a = k) : fS F k i x a = F a := by
  unfold fS
  rw [if_neg h]
theorem fS_at {F : xF} {k i : Nat} {x : Int32} (n : Nat) : fS F k i x k n = if n = i then x else F k n := by
  unfold fS upd
  rw [if_pos rfl]
theorem gS_eq (G : xG) (k : Nat) (x : Int32) (a : Nat) : gS G k x a = if a = k then x else G a := rfl
theorem sm_add (f g : Nat → Nat) (k : Nat) : sm (fun i => f i + g i) k = sm f k + sm g k := by
  induction k with
  | zero => rfl
  | succ k ih =>
    simp only [sm]
    omega
/-! ancestors by going up; weights -/
def itp (par : Nat → Nat) : Nat → Nat → Nat
  | 0, n => n
  | k + 1, n => par (itp par k n)
abbrev pl_anc (par dep : Nat → Nat) (n m : Nat) : Prop := dep n ≤ dep m ∧ itp par (dep m - dep n) m = n
def pl_w (K par dep : Nat → Nat) (n : Nat) : Nat := sm (fun m => if K m = 1 ∧ pl_anc par dep n m then 1 else 0) 31
section AN
variable {K Lc Rc par dep : Nat → Nat} {J : Nat}
theorem pl_anc_self (n : Nat) : pl_anc par dep n n := ⟨Nat.le_refl _, by rw [Nat.sub_self]; rfl⟩
theorem pl_anc_up {n c m : Nat} (hd : dep c = dep n + 1) (hp : par c = n) (h : pl_anc par dep c m) : pl_anc par dep n m := by
  obtain ⟨h1, h2⟩ := h
  refine ⟨by omega, ?_⟩
  have e : dep m - dep n = (dep m - dep c) + 1 := by omega
  rw [e, itp, h2, hp]
theorem pl_anc_eq {a b m : Nat} (hd : dep a = dep b) (h1 : pl_anc par dep a m) (h2 : pl_anc par dep b m) : a = b := by
  rw [← h1.2, ← h2.2, hd]
theorem pl_w_leaf (h : Tr K Lc Rc par dep J) {n : Nat} (hn : K n = 1) : 1 ≤ pl_w K par dep n :=
  sm_pos (f := fun m => if K m = 1 ∧ pl_anc par dep n m then 1 else 0) (n := n) (h.lt (by omega)) (by
    show 0 < if K n = 1 ∧ pl_anc par dep n n then 1 else 0
    rw [if_pos ⟨hn, pl_anc_self n⟩]
    decide)
theorem pl_w_joint (h : Tr K Lc Rc par dep J) {n : Nat} (hn : K n = 2) : pl_w K par dep (Lc n) + pl_w K par dep (Rc n) ≤ pl_w K par dep n := by
  obtain ⟨c1, c2, c3, c4, c5, c6, c7, c8, c9⟩ := h.ch hn
  unfold pl_w
  rw [← sm_add]
  refine sm_le (fun i _ => ?_)
  by_cases a1 : K i = 1 ∧ pl_anc par dep (Lc n) i
  · have a2 : ¬ (K i = 1 ∧ pl_anc par dep (Rc n) i) := fun q => c3 (pl_anc_eq (by omega) a1.2 q.2)
    rw [if_pos a1, if_neg a2, if_pos ⟨a1.1, pl_anc_up c8 c6 a1.2⟩]
    omega
  · rw [if_neg a1]
    by_cases a2 : K i = 1 ∧ pl_anc par dep (Rc n) i
    · rw [if_pos a2, if_pos ⟨a2.1, pl_anc_up c9 c7 a2.2⟩]
      omega
    · rw [if_neg a2]
      omega
theorem pl_leaves (h : Tr K Lc Rc par dep J) : sm (fun n => if K n = 1 then 1 else 0) 31 = J + 1 := by
  have h1 := h.cj
  have h2 := h.cn
  have h3 : sm (fun n => (if K n = 1 then 1 else 0) + (if K n = 2 then 1 else 0)) 31 = sm (fun n => if K n = 0 then 0 else 1) 31 := sm_congr (fun i _ => by
    have := h.k2 i
    rcases (by omega : K i = 0 ∨ K i = 1 ∨ K i = 2) with q | q | q <;> rw [q] <;> rfl)
  rw [sm_add] at h3
  omega
theorem pl_w_le (h : Tr K Lc Rc par dep J) (n : Nat) : pl_w K par dep n ≤ 16 := by
  have h1 := pl_leaves h
  have h2 := h.J15
  have h3 : pl_w K par dep n ≤ sm (fun n => if K n = 1 then 1 else 0) 31 := sm_le (fun i _ => by
    by_cases a : K i = 1 ∧ pl_anc par dep n i
    · rw [if_pos a, if_pos a.1]
      exact Nat.le_refl _
    · rw [if_neg a]
      exact Nat.zero_le _)
  omega
theorem pl_w_pos (h : Tr K Lc Rc par dep J) : ∀ n, ¬ K n = 0 → 1 ≤ pl_w K par dep n :=
  h.rec (fun n => 1 ≤ pl_w K par dep n) (fun n hn => pl_w_leaf h hn) (fun n hn h1 h2 => by
    have := pl_w_joint h hn
    omega)
theorem gev_congr {α : Type} (h : Tr K Lc Rc par dep J) {lf lf' : Nat → α} {op op' : Nat → α → α → α} (hl : ∀ n, K n = 1 → lf n = lf' n) (ho : ∀ n x y, K n = 2 → op n x y = op' n x y) : ∀ n, ¬ K n = 0 → gev K Lc Rc lf op 31 n = gev K Lc Rc lf' op' 31 n :=
  h.rec (fun n => gev K Lc Rc lf op 31 n = gev K Lc Rc lf' op' 31 n) (fun n hn => by
    rw [gev_leaf lf op (by omega), gev_leaf lf' op' (by omega), hl n hn]) (fun n hn h1 h2 => by
    rw [gev_joint h lf op hn, gev_joint h lf' op' hn, h1, h2, ho n _ _ hn])
end AN
/-! values, their change with one leaf -/
def pl_dc (s x y dx dy : Int32) : Int32 := if s = 0 then dx + dy else if s = 1 then dx * y + x * dy else if s = 2 then dx - dy else dy - dx
def pl_v (K Lc Rc : Nat → Nat) (V so : Nat → Int32) (n : Nat) : Int32 := gev K Lc Rc V (fun n x y => p_calc (so n) x y) 31 n
def pl_d (K Lc Rc : Nat → Nat) (V so : Nat → Int32) (x n : Nat) : Int32 := gev K Lc Rc (fun n => if n = x then (1 : Int32) else 0) (fun n a b => pl_dc (so n) (pl_v K Lc Rc V so (Lc n)) (pl_v K Lc Rc V so (Rc n)) a b) 31 n
theorem pl_lin (s x y dx dy : Int32) (h : dx = 0 ∨ dy = 0) : p_calc s (x + dx) (y + dy) = p_calc s x y + pl_dc s x y dx dy := by
  unfold p_calc pl_dc
  rcases h with rfl | rfl
  · by_cases h0 : s = 0
    · simp only [h0, if_true]
      grind
    · simp only [h0, if_false]
      by_cases h1 : s = 1
      · simp only [h1, if_true]
        grind
      · simp only [h1, if_false]
        by_cases h2 : s = 2
        · simp only [h2, if_true]
          grind
        · simp only [h2, if_false]
          grind
  · by_cases h0 : s = 0
    · simp only [h0, if_true]
      grind
    · simp only [h0, if_false]
      by_cases h1 : s = 1
      · simp only [h1, if_true]
        grind
      · simp only [h1, if_false]
        by_cases h2 : s = 2
        · simp only [h2, if_true]
          grind
        · simp only [h2, if_false]
          grind
theorem pl_dc0 (s x y : Int32) : pl_dc s x y 0 0 = 0 := by
  unfold pl_dc
  split
  · rfl
  · split
    · grind
    · split <;> rfl
section DV
variable {K Lc Rc par dep : Nat → Nat} {J : Nat} {V so : Nat → Int32}
theorem pl_v_leaf {n : Nat} (hn : K n = 1) : pl_v K Lc Rc V so n = V n := gev_leaf _ _ (by omega)
theorem pl_v_joint (h : Tr K Lc Rc par dep J) {n : Nat} (hn : K n = 2) : pl_v K Lc Rc V so n = p_calc (so n) (pl_v K Lc Rc V so (Lc n)) (pl_v K Lc Rc V so (Rc n)) := gev_joint h _ _ hn
theorem pl_d_leaf {x n : Nat} (hn : K n = 1) : pl_d K Lc Rc V so x n = if n = x then 1 else 0 := gev_leaf _ _ (by omega)
theorem pl_d_joint (h : Tr K Lc Rc par dep J) {x n : Nat} (hn : K n = 2) : pl_d K Lc Rc V so x n = pl_dc (so n) (pl_v K Lc Rc V so (Lc n)) (pl_v K Lc Rc V so (Rc n)) (pl_d K Lc Rc V so x (Lc n)) (pl_d K Lc Rc V so x (Rc n)) := gev_joint h _ _ hn
theorem pl_v_congr (h : Tr K Lc Rc par dep J) {V' so' : Nat → Int32} (hl : ∀ n, K n = 1 → V n = V' n) (ho : ∀ n, K n = 2 → so n = so' n) {n : Nat} (hn : ¬ K n = 0) : pl_v K Lc Rc V so n = pl_v K Lc Rc V' so' n :=
  gev_congr h hl (fun n x y hn => by rw [ho n hn]) n hn
theorem pl_d_anc (h : Tr K Lc Rc par dep J) (x : Nat) : ∀ n, ¬ K n = 0 → ¬ pl_d K Lc Rc V so x n = 0 → pl_anc par dep n x := by
  refine h.rec (fun n => ¬ pl_d K Lc Rc V so x n = 0 → pl_anc par dep n x) (fun n hn hd => ?_) (fun n hn h1 h2 hd => ?_)
  · rw [pl_d_leaf hn] at hd
    by_cases e : n = x
    · rw [e]
      exact pl_anc_self x
    · rw [if_neg e] at hd
      exact absurd rfl hd
  · obtain ⟨c1, c2, c3, c4, c5, c6, c7, c8, c9⟩ := h.ch hn
    by_cases e1 : pl_d K Lc Rc V so x (Lc n) = 0
    · by_cases e2 : pl_d K Lc Rc V so x (Rc n) = 0
      · rw [pl_d_joint h hn, e1, e2, pl_dc0] at hd
        exact absurd rfl hd
      · exact pl_anc_up c9 c7 (h2 e2)
    · exact pl_anc_up c8 c6 (h1 e1)
theorem pl_slope (h : Tr K Lc Rc par dep J) {V' : Nat → Int32} {x : Nat} (hx : V' x = V x + 1) (hv : ∀ n, ¬ n = x → V' n = V n) : ∀ n, ¬ K n = 0 → pl_v K Lc Rc V' so n = pl_v K Lc Rc V so n + pl_d K Lc Rc V so x n := by
  refine h.rec (fun n => pl_v K Lc Rc V' so n = pl_v K Lc Rc V so n + pl_d K Lc Rc V so x n) (fun n hn => ?_) (fun n hn h1 h2 => ?_)
  · rw [pl_v_leaf hn, pl_v_leaf hn, pl_d_leaf hn]
    by_cases e : n = x
    · rw [if_pos e, e, hx]
    · rw [if_neg e, hv n e, Int32.add_zero]
  · obtain ⟨c1, c2, c3, c4, c5, c6, c7, c8, c9⟩ := h.ch hn
    rw [pl_v_joint h hn, pl_v_joint h hn, pl_d_joint h hn, h1, h2]
    refine pl_lin _ _ _ _ _ ?_
    by_cases e1 : pl_d K Lc Rc V so x (Lc n) = 0
    · exact Or.inl e1
    · by_cases e2 : pl_d K Lc Rc V so x (Rc n) = 0
      · exact Or.inr e2
      · exact absurd (pl_anc_eq (by omega) (pl_d_anc h x _ c1 e1) (pl_d_anc h x _ c2 e2)) c3
end DV
end
section
/-! the reference's evaluation is the tree's value -/
def pl_ME (K Lc Rc : Nat → Nat) (M : xF) : Prop := (∀ n, M 0 n = 0 ↔ K n = 0) ∧ (∀ n, ¬ K n = 0 → (M 1 n = 0 ↔ K n = 1)) ∧ (∀ n, K n = 2 → M 4 n = nI (Lc n) ∧ M 5 n = nI (Rc n))
theorem pl_ei (M : xF) : ∀ j i, i < j → lpN m_eiB j M 6 i = m_kn M i ∧ lpN m_eiB j M 7 i = M 2 i := by
  intro j
  induction j with
  | zero => intro i hi; omega
  | succ j ih =>
    intro i hi
    have k0 := m_ei_keep M j 0 (by decide)
    have k1 := m_ei_keep M j 1 (by decide)
    have k2 := m_ei_keep M j 2 (by decide)
    have kk : m_kn (lpN m_eiB j M) j = m_kn M j := by
      unfold m_kn
      rw [k0, k1]
    have eq : m_eiB j (lpN m_eiB j M) = fS (fS (lpN m_eiB j M) 6 j (m_kn M j)) 7 j (M 2 j) := by
      show fS (fS (lpN m_eiB j M) 6 j (m_kn (lpN m_eiB j M) j)) 7 j (lpN m_eiB j M 2 j) = _
      rw [kk, k2]
    rw [lpN_succ, eq]
    by_cases e : i = j
    · subst e
      simp [fS_eq]
    · have := ih i (by omega)
      simp [fS_eq, e, this]
section EV
variable {K Lc Rc par dep : Nat → Nat} {J : Nat}
/-- what is known is right -/
def pl_snd (K Lc Rc : Nat → Nat) (V so : Nat → Int32) (F : xF) : Prop := ∀ n, n < 31 → ¬ F 6 n = 0 → F 7 n = pl_v K Lc Rc V so n
theorem pl_en (h : Tr K Lc Rc par dep J) {M F : xF} (hM : pl_ME K Lc Rc M) (hk : ∀ a, a ≠ 6 ∧ a ≠ 7 → F a = M a) (hs : pl_snd K Lc Rc (M 2) (M 3) F) (k : Nat) : pl_snd K Lc Rc (M 2) (M 3) (m_enB k F) ∧ (∀ n, ¬ F 6 n = 0 → ¬ m_enB k F 6 n = 0) ∧ (K k = 2 → ¬ F 6 (Lc k) = 0 → ¬ F 6 (Rc k) = 0 → ¬ m_enB k F 6 k = 0) := by
  obtain ⟨m0, m1, m4⟩ := hM
  have e0 := hk 0 (by decide)
  have e1 := hk 1 (by decide)
  have e3 := hk 3 (by decide)
  have e4 := hk 4 (by decide)
  have e5 := hk 5 (by decide)
  by_cases hK : K k = 2
  · obtain ⟨c1, c2, c3, c4, c5, c6, c7, c8, c9⟩ := h.ch hK
    have l3 := h.lt c1
    have r3 := h.lt c2
    have a0 : ¬ M 0 k = 0 := fun q => by have := (m0 k).mp q; omega
    have a1 : ¬ M 1 k = 0 := fun q => by have := (m1 k (by omega)).mp q; omega
    have il : ix (M 4 k) = Lc k := by rw [(m4 k hK).1]; exact pl_ix (by omega)
    have ir : ix (M 5 k) = Rc k := by rw [(m4 k hK).2]; exact pl_ix (by omega)
    unfold m_enB
    rw [e0, e1, e3, e4, e5, if_neg a0, if_neg a1, il, ir]
    by_cases b1 : F 6 (Lc k) = 0
    · rw [if_pos b1]
      exact ⟨hs, fun n hn => hn, fun _ q => absurd b1 q⟩
    · rw [if_neg b1]
      by_cases b2 : F 6 (Rc k) = 0
      · rw [if_pos b2]
        exact ⟨hs, fun n hn => hn, fun _ _ q => absurd b2 q⟩
      · rw [if_neg b2]
        refine ⟨fun n hn h6 => ?_, fun n hn => ?_, fun _ _ _ => ?_⟩
        · by_cases e : n = k
          · subst e
            rw [fS_ne (by decide), fS_at, if_pos rfl, pl_v_joint h hK, hs _ l3 b1, hs _ r3 b2]
          · rw [fS_ne (by decide), fS_at, if_neg e]
            rw [fS_at, if_neg e, fS_ne (by decide)] at h6
            exact hs n hn h6
        · rw [fS_at]
          split
          · decide
          · rw [fS_ne (by decide)]
            exact hn
        · rw [fS_at, if_pos rfl]
          decide
  · have e : m_enB k F = F := by
      unfold m_enB
      rw [e0, e1]
      by_cases a0 : M 0 k = 0
      · rw [if_pos a0]
      · have a2 : ¬ K k = 0 := fun q => a0 ((m0 k).mpr q)
        have := h.k2 k
        rw [if_neg a0, if_pos ((m1 k a2).mpr (by omega))]
    rw [e]
    exact ⟨hs, fun n hn => hn, fun q => absurd q hK⟩
theorem pl_er (h : Tr K Lc Rc par dep J) {M F : xF} (hM : pl_ME K Lc Rc M) (hk : ∀ a, a ≠ 6 ∧ a ≠ 7 → F a = M a) (hs : pl_snd K Lc Rc (M 2) (M 3) F) : ∀ j, pl_snd K Lc Rc (M 2) (M 3) (lpN m_enB j F) ∧ (∀ n, ¬ F 6 n = 0 → ¬ lpN m_enB j F 6 n = 0) ∧ (∀ i, i < j → K i = 2 → ¬ F 6 (Lc i) = 0 → ¬ F 6 (Rc i) = 0 → ¬ lpN m_enB j F 6 i = 0) := by
  intro j
  induction j with
  | zero => exact ⟨hs, fun n hn => hn, fun i hi => absurd hi (Nat.not_lt_zero i)⟩
  | succ j ih =>
    obtain ⟨i1, i2, i3⟩ := ih
    obtain ⟨s1, s2, s3⟩ := pl_en h hM (F := lpN m_enB j F) (fun a ha => by rw [m_en_keep _ _ _ ha]; exact hk a ha) i1 j
    rw [lpN_succ]
    refine ⟨s1, fun n hn => s2 n (i2 n hn), fun i hi hK h1 h2 => ?_⟩
    by_cases e : i = j
    · subst e
      exact s3 hK (i2 _ h1) (i2 _ h2)
    · exact s2 i (i3 i (by omega) hK h1 h2)
theorem pl_ers (h : Tr K Lc Rc par dep J) {M F : xF} (hM : pl_ME K Lc Rc M) (hk : ∀ a, a ≠ 6 ∧ a ≠ 7 → F a = M a) (hs : pl_snd K Lc Rc (M 2) (M 3) F) (hl : ∀ n, K n = 1 → ¬ F 6 n = 0) : ∀ r, pl_snd K Lc Rc (M 2) (M 3) (lpN (fun _ F => m_er F) r F) ∧ (∀ n, K n = 1 → ¬ lpN (fun _ F => m_er F) r F 6 n = 0) ∧ (∀ n, ¬ K n = 0 → 31 ≤ r + dep n → ¬ lpN (fun _ F => m_er F) r F 6 n = 0) := by
  intro r
  induction r with
  | zero =>
    refine ⟨hs, hl, fun n hn hd => ?_⟩
    have := h.d30 hn
    omega
  | succ r ih =>
    obtain ⟨i1, i2, i3⟩ := ih
    obtain ⟨s1, s2, s3⟩ := pl_er h hM (F := lpN (fun _ F => m_er F) r F) (fun a ha => by rw [m_er_keep _ _ _ ha]; exact hk a ha) i1 31
    rw [lpN_succ]
    unfold m_er at s1 s2 s3 i2 i3 ⊢
    refine ⟨s1, fun n hn => s2 n (i2 n hn), fun n hn hd => ?_⟩
    have := h.k2 n
    by_cases e : K n = 2
    · obtain ⟨c1, c2, c3, c4, c5, c6, c7, c8, c9⟩ := h.ch e
      exact s3 n (h.lt hn) e (i3 _ c1 (by omega)) (i3 _ c2 (by omega))
    · exact s2 n (i2 n (by omega))
theorem pl_mev (h : Tr K Lc Rc par dep J) {M : xF} (hM : pl_ME K Lc Rc M) {n : Nat} (hn : ¬ K n = 0) : m_ev M 7 n = pl_v K Lc Rc (M 2) (M 3) n := by
  have e := pl_ei M 31
  have hM2 := hM
  obtain ⟨m0, m1, m4⟩ := hM2
  have hs : pl_snd K Lc Rc (M 2) (M 3) (lpN m_eiB 31 M) := by
    intro i hi h6
    obtain ⟨e1, e2⟩ := e i hi
    rw [e1] at h6
    unfold m_kn at h6
    by_cases a0 : M 0 i = 0
    · rw [if_pos a0] at h6
      exact absurd rfl h6
    · rw [if_neg a0] at h6
      have a2 : ¬ K i = 0 := fun q => a0 ((m0 i).mpr q)
      by_cases a1 : M 1 i = 0
      · rw [e2, pl_v_leaf ((m1 i a2).mp a1)]
      · rw [if_neg a1] at h6
        exact absurd rfl h6
  have hl : ∀ i, K i = 1 → ¬ lpN m_eiB 31 M 6 i = 0 := by
    intro i hi
    rw [(e i (h.lt (by omega))).1]
    unfold m_kn
    rw [if_neg (fun q => by have := (m0 i).mp q; omega), if_pos ((m1 i (by omega)).mpr hi)]
    decide
  have := pl_ers h hM (F := lpN m_eiB 31 M) (fun a ha => m_ei_keep M 31 a ha) hs hl 31
  exact this.1 n (h.lt hn) (this.2.2 n hn (by omega))
/-- the reference's kinds -/
theorem pl_mleaf (h : Tr K Lc Rc par dep J) {M : xF} (hM : pl_ME K Lc Rc M) {n : Nat} (hn : n < 31) : m_isLeaf M (nI n) = (if K n = 1 then 1 else 0) ∧ m_isJoint M (nI n) = (if K n = 2 then 1 else 0) := by
  obtain ⟨m0, m1, m4⟩ := hM
  have := h.k2 n
  have a1 : ¬ nI n < 0 := pl_pos (by omega)
  have a2 : ¬ (31 : Int32) ≤ nI n := nI_ge (a := n) (b := 31) hn (by decide)
  unfold m_isLeaf m_isJoint
  rw [if_neg a1, if_neg a2, if_neg a1, if_neg a2, pl_ix (by omega)]
  by_cases k0 : K n = 0
  · rw [if_pos ((m0 n).mpr k0), if_pos ((m0 n).mpr k0), k0]
    exact ⟨rfl, rfl⟩
  · rw [if_neg (fun q => k0 ((m0 n).mp q)), if_neg (fun q => k0 ((m0 n).mp q))]
    by_cases k1 : K n = 1
    · rw [if_pos ((m1 n k0).mpr k1), if_pos ((m1 n k0).mpr k1), k1]
      exact ⟨rfl, rfl⟩
    · rw [if_neg (fun q => k1 ((m1 n k0).mp q)), if_neg (fun q => k1 ((m1 n k0).mp q)), if_neg k1, if_pos (by omega)]
      exact ⟨rfl, rfl⟩
theorem pl_mout {M : xF} {v : Int32} (hv : ¬ vp_in v 31) : m_isLeaf M v = 0 ∧ m_isJoint M v = 0 := by
  constructor
  · by_cases e : m_isLeaf M v = 0
    · exact e
    · exact absurd (m_isLeaf_in e) hv
  · by_cases e : m_isJoint M v = 0
    · exact e
    · exact absurd (m_isJoint_in e) hv
theorem pl_pout {F : xF} {v : Int32} (hv : ¬ vp_in v 31) : p_kindOf F v = 0 := by
  by_cases e : p_kindOf F v = 0
  · exact e
  · exact absurd (p_kindOf_in e).1 hv
theorem pl_pin {F : xF} {n : Nat} (hn : n < 31) : p_kindOf F (nI n) = F 0 n := by
  have a1 : ¬ nI n < 0 := pl_pos (by omega)
  have a2 : nI n ≤ (30 : Int32) := nI_le (a := n) (b := 30) (by omega) (by decide)
  unfold p_kindOf
  rw [if_neg a1, if_pos a2, pl_ix (by omega)]
end EV
end
section
/-! the recorded steps: what the linear functions mean -/
def pl_woA (F : xF) (e : Nat) : Int32 := F 14 (ix (F 26 e)) * p_of (p_sj F e) (p_ng F e) (p_lv F e) * F 14 (ix (F 27 e))
def pl_woB (F : xF) (e : Nat) : Int32 := F 14 (ix (F 26 e)) * (p_of (p_sj F e) (p_ng F e) (p_lv F e) * F 15 (ix (F 27 e)) + p_os (p_sj F e) (p_ng F e) (p_lv F e)) + F 15 (ix (F 26 e))
theorem pl_woF (F : xF) (e : Nat) : p_woF F e = fS (fS F 14 (31 + e) (pl_woA F e)) 15 (31 + e) (pl_woB F e) := rfl
/-- the numbers of step e are worked out -/
def pl_NE (F : xF) (e : Nat) : Prop := F 14 (31 + e) = pl_woA F e ∧ F 15 (31 + e) = pl_woB F e
/-- what step e is: bt and tp, the bottom and the top of what a slot's function spans -/
def pl_SF (K Lc Rc bt tp : Nat → Nat) (F : xF) (e : Nat) : Prop := okE F e ∧ vp_in (F 23 e) 31 ∧ K (ix (F 21 e)) = 1 ∧ K (ix (F 22 e)) = 2 ∧ ¬ K (ix (F 23 e)) = 0 ∧ (ix (F 25 e) < 31 + e ∧ ix (F 26 e) < 31 + e ∧ ix (F 27 e) < 31 + e) ∧ bt (ix (F 25 e)) = ix (F 21 e) ∧ bt (ix (F 26 e)) = ix (F 22 e) ∧ bt (ix (F 27 e)) = ix (F 23 e) ∧ (F 24 e = 0 → tp (ix (F 25 e)) = Rc (ix (F 22 e)) ∧ tp (ix (F 27 e)) = Lc (ix (F 22 e))) ∧ (¬ F 24 e = 0 → tp (ix (F 25 e)) = Lc (ix (F 22 e)) ∧ tp (ix (F 27 e)) = Rc (ix (F 22 e))) ∧ bt (31 + e) = ix (F 23 e) ∧ tp (31 + e) = tp (ix (F 26 e))
def pl_CS (K Lc Rc bt tp : Nat → Nat) (E : Nat) (F : xF) : Prop := (∀ s, s < 31 → F 14 s = 1 ∧ F 15 s = 0 ∧ bt s = s ∧ tp s = s) ∧ ∀ e, e < E → pl_SF K Lc Rc bt tp F e ∧ pl_NE F e
def pl_so4 (K : Nat → Nat) (so : Nat → Int32) : Prop := ∀ n, K n = 2 → so n = 0 ∨ so n = 1 ∨ so n = 2 ∨ so n = 3
theorem pl_NE_of {F F' : xF} {e : Nat} (h21 : F' 21 e = F 21 e) (h22 : F' 22 e = F 22 e) (h24 : F' 24 e = F 24 e) (h25 : F' 25 e = F 25 e) (h26 : F' 26 e = F 26 e) (h27 : F' 27 e = F 27 e) (h1 : F' 1 (ix (F 22 e)) = F 1 (ix (F 22 e))) (h2 : F' 2 (ix (F 21 e)) = F 2 (ix (F 21 e))) (q1 : F' 14 (ix (F 25 e)) = F 14 (ix (F 25 e)) ∧ F' 15 (ix (F 25 e)) = F 15 (ix (F 25 e))) (q2 : F' 14 (ix (F 26 e)) = F 14 (ix (F 26 e)) ∧ F' 15 (ix (F 26 e)) = F 15 (ix (F 26 e))) (q3 : F' 14 (ix (F 27 e)) = F 14 (ix (F 27 e)) ∧ F' 15 (ix (F 27 e)) = F 15 (ix (F 27 e))) (q4 : F' 14 (31 + e) = F 14 (31 + e) ∧ F' 15 (31 + e) = F 15 (31 + e)) (h : pl_NE F e) : pl_NE F' e := by
  unfold pl_NE pl_woA pl_woB p_ng p_sj p_lv at h ⊢
  rw [h21, h22, h24, h25, h26, h27, h1, h2, q1.1, q1.2, q2.1, q2.2, q3.1, q3.2, q4.1, q4.2]
  exact h
theorem pl_wo_14 (F : xF) (e n : Nat) : p_woF F e 14 n = if n = 31 + e then pl_woA F e else F 14 n := by
  rw [pl_woF, fS_ne (by decide), fS_at]
theorem pl_wo_15 (F : xF) (e n : Nat) : p_woF F e 15 n = if n = 31 + e then pl_woB F e else F 15 n := by
  rw [pl_woF, fS_at, fS_ne (by decide)]
/-- after workOut the step's numbers are worked out -/
theorem pl_NE_wo {F F' : xF} {e : Nat} (hs : ix (F 25 e) < 31 + e ∧ ix (F 26 e) < 31 + e ∧ ix (F 27 e) < 31 + e) (hk : ∀ a, a ≠ 18 → F' a = p_woF F e a) : pl_NE F' e := by
  have k1 : F' 1 = F 1 := by rw [hk 1 (by decide), p_wo_keep _ _ _ (by decide)]
  have k2 : F' 2 = F 2 := by rw [hk 2 (by decide), p_wo_keep _ _ _ (by decide)]
  have k21 : F' 21 = F 21 := by rw [hk 21 (by decide), p_wo_keep _ _ _ (by decide)]
  have k22 : F' 22 = F 22 := by rw [hk 22 (by decide), p_wo_keep _ _ _ (by decide)]
  have k24 : F' 24 = F 24 := by rw [hk 24 (by decide), p_wo_keep _ _ _ (by decide)]
  have k25 : F' 25 = F 25 := by rw [hk 25 (by decide), p_wo_keep _ _ _ (by decide)]
  have k26 : F' 26 = F 26 := by rw [hk 26 (by decide), p_wo_keep _ _ _ (by decide)]
  have k27 : F' 27 = F 27 := by rw [hk 27 (by decide), p_wo_keep _ _ _ (by decide)]
  have k14 : ∀ n, F' 14 n = if n = 31 + e then pl_woA F e else F 14 n := fun n => by rw [hk 14 (by decide), pl_wo_14]
  have k15 : ∀ n, F' 15 n = if n = 31 + e then pl_woB F e else F 15 n := fun n => by rw [hk 15 (by decide), pl_wo_15]
  obtain ⟨s1, s2, s3⟩ := hs
  have n1 : ¬ ix (F 25 e) = 31 + e := by omega
  have n2 : ¬ ix (F 26 e) = 31 + e := by omega
  have n3 : ¬ ix (F 27 e) = 31 + e := by omega
  have eA : pl_woA F' e = pl_woA F e := by
    unfold pl_woA p_ng p_sj p_lv
    rw [k21, k22, k24, k25, k26, k27, k1, k2, k14, k14, k14, k15, if_neg n1, if_neg n2, if_neg n3, if_neg n1]
  have eB : pl_woB F' e = pl_woB F e := by
    unfold pl_woB p_ng p_sj p_lv
    rw [k21, k22, k24, k25, k26, k27, k1, k2, k14, k14, k15, k15, k15, if_neg n1, if_neg n2, if_neg n1, if_neg n2, if_neg n3]
  unfold pl_NE
  rw [eA, eB, k14, k15, if_pos rfl, if_pos rfl]
  exact ⟨rfl, rfl⟩
/-- the joint as a function of its other child -/
theorem pl_fix {s : Int32} (hs : s = 0 ∨ s = 1 ∨ s = 2 ∨ s = 3) (b leaf x : Int32) : p_of s (p_neg s b) leaf * x + p_os s (p_neg s b) leaf = if b = 0 then p_calc s x leaf else p_calc s leaf x := by
  unfold p_of p_os p_neg p_calc
  by_cases hb : b = 0
  · subst hb
    rcases hs with rfl | rfl | rfl | rfl <;> simp <;> grind
  · rcases hs with rfl | rfl | rfl | rfl <;> simp [hb] <;> grind
theorem pl_fixd {s : Int32} (hs : s = 0 ∨ s = 1 ∨ s = 2 ∨ s = 3) (b leaf x dl dx : Int32) : p_oc s dl * x + p_of s (p_neg s b) leaf * dx + p_os s (p_neg s b) dl = if b = 0 then pl_dc s x leaf dx dl else pl_dc s leaf x dl dx := by
  unfold p_of p_os p_neg p_oc pl_dc
  by_cases hb : b = 0
  · subst hb
    rcases hs with rfl | rfl | rfl | rfl <;> simp <;> grind
  · rcases hs with rfl | rfl | rfl | rfl <;> simp [hb] <;> grind
section SEM
variable {K Lc Rc par dep bt tp : Nat → Nat} {J E : Nat} {F : xF}
/-- what the slots below it mean gives what step e means -/
theorem pl_one (h : Tr K Lc Rc par dep J) (hs : pl_so4 K (F 1)) {e : Nat} (hf : pl_SF K Lc Rc bt tp F e) (ih : ∀ s, s < 31 + e → F 14 s * pl_v K Lc Rc (F 2) (F 1) (bt s) + F 15 s = pl_v K Lc Rc (F 2) (F 1) (tp s)) : p_lv F e = pl_v K Lc Rc (F 2) (F 1) (tp (ix (F 25 e))) ∧ p_of (p_sj F e) (p_ng F e) (p_lv F e) * (F 14 (ix (F 27 e)) * pl_v K Lc Rc (F 2) (F 1) (ix (F 23 e)) + F 15 (ix (F 27 e))) + p_os (p_sj F e) (p_ng F e) (p_lv F e) = pl_v K Lc Rc (F 2) (F 1) (ix (F 22 e)) ∧ p_vs F e (pl_v K Lc Rc (F 2) (F 1) (ix (F 23 e))) = pl_v K Lc Rc (F 2) (F 1) (ix (F 22 e)) := by
  obtain ⟨f1, f2, f3, f4, f5, ⟨f6, f7, f8⟩, f9, f10, f11, f12, f13, f14, f15⟩ := hf
  have i1 := ih _ f6
  have i3 := ih _ f8
  rw [f9, pl_v_leaf f3] at i1
  rw [f11] at i3
  have hl : p_lv F e = pl_v K Lc Rc (F 2) (F 1) (tp (ix (F 25 e))) := i1
  have hv := pl_v_joint (V := F 2) (so := F 1) h f4
  refine ⟨hl, ?_, ?_⟩
  · unfold p_ng
    rw [i3, pl_fix (s := p_sj F e) (hs _ f4), hl, hv]
    by_cases hb : F 24 e = 0
    · rw [if_pos hb, (f12 hb).1, (f12 hb).2]
      rfl
    · rw [if_neg hb, (f13 hb).1, (f13 hb).2]
      rfl
  · unfold p_vs
    rw [i3, hl, hv]
    by_cases hb : F 24 e = 0
    · rw [if_pos hb, (f12 hb).1, (f12 hb).2]
      rfl
    · rw [if_neg hb, (f13 hb).1, (f13 hb).2]
      rfl
theorem pl_sem (h : Tr K Lc Rc par dep J) (hs : pl_so4 K (F 1)) (hc : pl_CS K Lc Rc bt tp E F) : ∀ s, s < 31 + E → F 14 s * pl_v K Lc Rc (F 2) (F 1) (bt s) + F 15 s = pl_v K Lc Rc (F 2) (F 1) (tp s) := by
  intro s
  induction s using Nat.strongRecOn with
  | _ s ih =>
    intro hsE
    rcases Nat.lt_or_ge s 31 with q | q
    · obtain ⟨a1, a2, a3, a4⟩ := hc.1 s q
      rw [a1, a2, a3, a4]
      grind
    · obtain ⟨e, rfl⟩ : ∃ e, s = 31 + e := ⟨s - 31, by omega⟩
      obtain ⟨hf, hn⟩ := hc.2 e (by omega)
      obtain ⟨o1, o2, o3⟩ := pl_one h hs hf (fun s hs => ih s hs (by omega))
      obtain ⟨f1, f2, f3, f4, f5, ⟨f6, f7, f8⟩, f9, f10, f11, f12, f13, f14, f15⟩ := hf
      have i2 := ih _ f7 (by omega)
      rw [f10, ← o2] at i2
      rw [f14, f15, ← i2, hn.1, hn.2]
      unfold pl_woA pl_woB
      grind
/-- changeStep's numbers mean the change -/
theorem pl_csem (h : Tr K Lc Rc par dep J) (hs : pl_so4 K (F 1)) (hc : pl_CS K Lc Rc bt tp E F) {x e : Nat} (hx : x < 31) (he : e < E) (ih : ∀ s, s < 31 + e → F 16 s * pl_v K Lc Rc (F 2) (F 1) (bt s) + F 14 s * pl_d K Lc Rc (F 2) (F 1) x (bt s) + F 17 s = pl_d K Lc Rc (F 2) (F 1) x (tp s)) : p_csA F e (nI x) * pl_v K Lc Rc (F 2) (F 1) (bt (31 + e)) + F 14 (31 + e) * pl_d K Lc Rc (F 2) (F 1) x (bt (31 + e)) + p_csB F e (nI x) = pl_d K Lc Rc (F 2) (F 1) x (tp (31 + e)) := by
  obtain ⟨hf, hn⟩ := hc.2 e he
  obtain ⟨o1, o2, o3⟩ := pl_one h hs hf (fun s hs2 => pl_sem h hs hc s (by omega))
  obtain ⟨f1, f2, f3, f4, f5, ⟨f6, f7, f8⟩, f9, f10, f11, f12, f13, f14, f15⟩ := hf
  have i1 := ih _ f6
  have i2 := ih _ f7
  have i3 := ih _ f8
  have v3 := pl_sem h hs hc _ (show ix (F 27 e) < 31 + E by omega)
  rw [f9, pl_v_leaf f3, pl_d_leaf f3] at i1
  rw [f10] at i2
  rw [f11] at i3 v3
  have hl : p_dl F e (nI x) = pl_d K Lc Rc (F 2) (F 1) x (tp (ix (F 25 e))) := by
    rw [← i1]
    unfold p_dl p_own
    have l31 := pl_in_lt f1.2.1 (by decide)
    by_cases q : ix (F 21 e) = x
    · rw [if_pos q, if_pos (by rw [l31.1, q]), Int32.mul_one]
    · rw [if_neg q, if_neg (fun w => q (by rw [w]; exact pl_ix (by omega))), Int32.mul_zero]
  have hd : p_oc (p_sj F e) (p_dl F e (nI x)) * (F 14 (ix (F 27 e)) * pl_v K Lc Rc (F 2) (F 1) (ix (F 23 e)) + F 15 (ix (F 27 e))) + p_of (p_sj F e) (p_ng F e) (p_lv F e) * (F 16 (ix (F 27 e)) * pl_v K Lc Rc (F 2) (F 1) (ix (F 23 e)) + F 14 (ix (F 27 e)) * pl_d K Lc Rc (F 2) (F 1) x (ix (F 23 e)) + F 17 (ix (F 27 e))) + p_os (p_sj F e) (p_ng F e) (p_dl F e (nI x)) = pl_d K Lc Rc (F 2) (F 1) x (ix (F 22 e)) := by
    unfold p_ng
    rw [v3, i3, pl_fixd (s := p_sj F e) (hs _ f4), o1, hl, pl_d_joint h f4]
    by_cases hb : F 24 e = 0
    · rw [if_pos hb, (f12 hb).1, (f12 hb).2]
      rfl
    · rw [if_neg hb, (f13 hb).1, (f13 hb).2]
      rfl
  rw [f14, f15, ← i2, ← hd, ← o2, hn.1]
  unfold p_csA p_csB pl_woA
  generalize p_oc (p_sj F e) (p_dl F e (nI x)) = oc
  generalize p_of (p_sj F e) (p_ng F e) (p_lv F e) = of_
  generalize p_os (p_sj F e) (p_ng F e) (p_dl F e (nI x)) = od
  generalize p_os (p_sj F e) (p_ng F e) (p_lv F e) = os_
  generalize pl_v K Lc Rc (F 2) (F 1) (ix (F 23 e)) = v
  generalize pl_d K Lc Rc (F 2) (F 1) x (ix (F 23 e)) = d
  grind
end SEM
end
section
/-! a contracted tree: its record; renew, value and slope over it -/
def pl_SO (K : Nat → Nat) (E : Nat) (F : xF) : Prop := ∀ n, K n = 2 → ∃ i, i < E ∧ F 28 n = nI i ∧ ix (F 22 i) = n ∧ (K (ix (F 23 i)) = 2 → ∃ i2, i < i2 ∧ i2 < E ∧ F 28 (ix (F 23 i)) = nI i2)
def pl_TP (K bt tp : Nat → Nat) (E t : Nat) (F : xF) : Prop := K t = 1 ∧ ∃ s, s < 31 + E ∧ F 9 t = nI s ∧ bt s = t ∧ tp s = 0
def pl_Con (K Lc Rc : Nat → Nat) (S : xS) : Prop := ∃ (bt tp : Nat → Nat) (E t : Nat), pl_CS K Lc Rc bt tp E S.1 ∧ pl_SO K E S.1 ∧ pl_TP K bt tp E t S.1 ∧ E ≤ 15 ∧ S.2 20 = nI E ∧ S.2 10 = nI t
theorem pl_SF_of {K Lc Rc bt tp : Nat → Nat} {F F' : xF} {e : Nat} (h21 : F' 21 e = F 21 e) (h22 : F' 22 e = F 22 e) (h23 : F' 23 e = F 23 e) (h24 : F' 24 e = F 24 e) (h25 : F' 25 e = F 25 e) (h26 : F' 26 e = F 26 e) (h27 : F' 27 e = F 27 e) (h : pl_SF K Lc Rc bt tp F e) : pl_SF K Lc Rc bt tp F' e := by
  unfold pl_SF okE at h ⊢
  rw [h21, h22, h23, h24, h25, h26, h27]
  exact h
theorem pl_SO_of {K : Nat → Nat} {E : Nat} {F F' : xF} (h22 : F' 22 = F 22) (h23 : F' 23 = F 23) (h28 : F' 28 = F 28) (h : pl_SO K E F) : pl_SO K E F' := by
  unfold pl_SO at h ⊢
  rw [h22, h23, h28]
  exact h
theorem pl_TP_of {K bt tp : Nat → Nat} {E t : Nat} {F F' : xF} (h9 : F' 9 = F 9) (h : pl_TP K bt tp E t F) : pl_TP K bt tp E t F' := by
  unfold pl_TP at h ⊢
  rw [h9]
  exact h
theorem pl_CS_of {K Lc Rc bt tp : Nat → Nat} {E : Nat} {F F' : xF} (hk : ∀ a, a ≠ 13 ∧ a ≠ 16 ∧ a ≠ 17 ∧ a ≠ 18 → F' a = F a) (h : pl_CS K Lc Rc bt tp E F) : pl_CS K Lc Rc bt tp E F' := by
  have h1 := hk 1 (by decide)
  have h2 := hk 2 (by decide)
  have h14 := hk 14 (by decide)
  have h15 := hk 15 (by decide)
  have h21 := hk 21 (by decide)
  have h22 := hk 22 (by decide)
  have h23 := hk 23 (by decide)
  have h24 := hk 24 (by decide)
  have h25 := hk 25 (by decide)
  have h26 := hk 26 (by decide)
  have h27 := hk 27 (by decide)
  refine ⟨fun s hs => by rw [h14, h15]; exact h.1 s hs, fun e he => ⟨pl_SF_of (by rw [h21]) (by rw [h22]) (by rw [h23]) (by rw [h24]) (by rw [h25]) (by rw [h26]) (by rw [h27]) (h.2 e he).1, pl_NE_of (by rw [h21]) (by rw [h22]) (by rw [h24]) (by rw [h25]) (by rw [h26]) (by rw [h27]) (by rw [h1]) (by rw [h2]) (by rw [h14, h15]; exact ⟨rfl, rfl⟩) (by rw [h14, h15]; exact ⟨rfl, rfl⟩) (by rw [h14, h15]; exact ⟨rfl, rfl⟩) (by rw [h14, h15]; exact ⟨rfl, rfl⟩) (h.2 e he).2⟩⟩
theorem pl_Con_of {K Lc Rc : Nat → Nat} {S S' : xS} (hk : ∀ a, a ≠ 13 ∧ a ≠ 16 ∧ a ≠ 17 ∧ a ≠ 18 → S'.1 a = S.1 a) (h20 : S'.2 20 = S.2 20) (h10 : S'.2 10 = S.2 10) (h : pl_Con K Lc Rc S) : pl_Con K Lc Rc S' := by
  obtain ⟨bt, tp, E, t, c1, c2, c3, c4, c5, c6⟩ := h
  exact ⟨bt, tp, E, t, pl_CS_of hk c1, pl_SO_of (hk 22 (by decide)) (hk 23 (by decide)) (hk 28 (by decide)) c2, pl_TP_of (hk 9 (by decide)) c3, c4, by rw [h20]; exact c5, by rw [h10]; exact c6⟩
theorem pl_Con_okSt {K Lc Rc : Nat → Nat} {S : xS} (h : pl_Con K Lc Rc S) : okSt S := by
  obtain ⟨bt, tp, E, t, c1, c2, c3, c4, c5, c6⟩ := h
  refine ⟨by rw [c5]; exact pl_in (by omega) (by decide), fun e he => ?_⟩
  rw [c5, pl_ix (by omega)] at he
  exact (c1.2 e he).1.1
/-! renew -/
theorem pl_rn {K Lc Rc bt tp : Nat → Nat} {E : Nat} {F0 F1 : xF} {G : xG} {node : Int32} (hE : E ≤ 15) (hc : pl_CS K Lc Rc bt tp E F0) (hk : ∀ a, a ≠ 1 ∧ a ≠ 2 → F1 a = F0 a) (h1 : ∀ n, ¬ n = ix node → F1 1 n = F0 1 n) (h2 : ∀ n, ¬ n = ix node → F1 2 n = F0 2 n) (hnode : vp_in node 31) : ∀ j, j ≤ E → (∀ s, (lpN (p_rnB node) j (p_rz F1, G)).1 18 s = 0 ∨ s < 31 ∨ 31 + j ≤ s → (lpN (p_rnB node) j (p_rz F1, G)).1 14 s = F0 14 s ∧ (lpN (p_rnB node) j (p_rz F1, G)).1 15 s = F0 15 s) ∧ (∀ e, e < j → pl_NE (lpN (p_rnB node) j (p_rz F1, G)).1 e) := by
  intro j
  have kp : ∀ j a, a ≠ 14 ∧ a ≠ 15 ∧ a ≠ 18 → (lpN (p_rnB node) j (p_rz F1, G)).1 a = F1 a := fun j a ha => by
    rw [p_rn_keep _ _ _ _ ha]
    exact p_rz_keep F1 46 a ha.2.2
  induction j with
  | zero =>
    intro _
    rw [lpN_zero]
    refine ⟨fun s _ => ?_, fun e he => absurd he (Nat.not_lt_zero e)⟩
    show p_rz F1 14 s = _ ∧ p_rz F1 15 s = _
    unfold p_rz
    rw [p_rz_keep _ _ _ (by decide), p_rz_keep _ _ _ (by decide), hk 14 (by decide), hk 15 (by decide)]
    exact ⟨rfl, rfl⟩
  | succ j ih =>
    intro hj
    obtain ⟨i1, i2⟩ := ih (by omega)
    have kpj := kp j
    rw [lpN_succ]
    generalize lpN (p_rnB node) j (p_rz F1, G) = T at i1 i2 kpj
    obtain ⟨f, hn⟩ := hc.2 j (by omega)
    obtain ⟨f1, f2, f3, f4, f5, ⟨f6, f7, f8⟩, -⟩ := f
    have t1 := kpj 1 (by decide)
    have t2 := kpj 2 (by decide)
    have t21 := (kpj 21 (by decide)).trans (hk 21 (by decide))
    have t22 := (kpj 22 (by decide)).trans (hk 22 (by decide))
    have t24 := (kpj 24 (by decide)).trans (hk 24 (by decide))
    have t25 := (kpj 25 (by decide)).trans (hk 25 (by decide))
    have t26 := (kpj 26 (by decide)).trans (hk 26 (by decide))
    have t27 := (kpj 27 (by decide)).trans (hk 27 (by decide))
    have W : (∀ s, (fS (p_woF T.1 j) 18 (31 + j) 1) 18 s = 0 ∨ s < 31 ∨ 31 + (j + 1) ≤ s → (fS (p_woF T.1 j) 18 (31 + j) 1) 14 s = F0 14 s ∧ (fS (p_woF T.1 j) 18 (31 + j) 1) 15 s = F0 15 s) ∧ (∀ e, e < j + 1 → pl_NE (fS (p_woF T.1 j) 18 (31 + j) 1) e) := by
      constructor
      · intro s hs
        rw [fS_at, p_wo_keep _ _ _ (by decide)] at hs
        rw [fS_ne (by decide), fS_ne (by decide), pl_wo_14, pl_wo_15]
        by_cases e : s = 31 + j
        · rw [if_pos e] at hs
          rcases hs with q | q | q
          · exact absurd q (by decide)
          · omega
          · omega
        · rw [if_neg e] at hs
          rw [if_neg e, if_neg e]
          refine i1 s ?_
          rcases hs with q | q | q
          · exact Or.inl q
          · exact Or.inr (Or.inl q)
          · exact Or.inr (Or.inr (by omega))
      · intro e he
        by_cases q : e = j
        · subst q
          refine pl_NE_wo (F := T.1) (by rw [t25, t26, t27]; exact ⟨f6, f7, f8⟩) (fun a ha => fS_ne ha)
        · obtain ⟨g, -⟩ := hc.2 e (by omega)
          obtain ⟨g1, g2, g3, g4, g5, ⟨g6, g7, g8⟩, -⟩ := g
          have kk : ∀ a, a ≠ 14 → a ≠ 15 → a ≠ 18 → fS (p_woF T.1 j) 18 (31 + j) 1 a = T.1 a := fun a q1 q2 q3 => by
            rw [fS_ne q3, p_wo_keep _ _ _ ⟨q1, q2⟩]
          have kv : ∀ s, ¬ s = 31 + j → fS (p_woF T.1 j) 18 (31 + j) 1 14 s = T.1 14 s ∧ fS (p_woF T.1 j) 18 (31 + j) 1 15 s = T.1 15 s := fun s hs => by
            rw [fS_ne (by decide), fS_ne (by decide), pl_wo_14, pl_wo_15, if_neg hs, if_neg hs]
            exact ⟨rfl, rfl⟩
          refine pl_NE_of (F := T.1) (by rw [kk 21 (by decide) (by decide) (by decide)]) (by rw [kk 22 (by decide) (by decide) (by decide)]) (by rw [kk 24 (by decide) (by decide) (by decide)]) (by rw [kk 25 (by decide) (by decide) (by decide)]) (by rw [kk 26 (by decide) (by decide) (by decide)]) (by rw [kk 27 (by decide) (by decide) (by decide)]) (by rw [kk 1 (by decide) (by decide) (by decide)]) (by rw [kk 2 (by decide) (by decide) (by decide)]) (kv _ ?_) (kv _ ?_) (kv _ ?_) (kv _ ?_) (i2 e (by omega))
          · rw [t25]; omega
          · rw [t26]; omega
          · rw [t27]; omega
          · omega
    unfold p_rnB
    by_cases u : p_use T.1 j = 0
    · rw [if_pos u]
      by_cases a1 : T.1 21 j = node
      · rw [if_pos a1]
        exact W
      · rw [if_neg a1]
        by_cases a2 : T.1 22 j = node
        · rw [if_pos a2]
          exact W
        · rw [if_neg a2]
          refine ⟨fun s hs => i1 s ?_, fun e he => ?_⟩
          · rcases hs with q | q | q
            · exact Or.inl q
            · exact Or.inr (Or.inl q)
            · exact Or.inr (Or.inr (by omega))
          · by_cases q : e = j
            · subst q
              have u25 : T.1 18 (ix (T.1 25 e)) = 0 := by
                by_cases z : T.1 18 (ix (T.1 25 e)) = 0
                · exact z
                · unfold p_use at u
                  rw [if_neg z] at u
                  exact absurd u (by decide)
              have u26 : T.1 18 (ix (T.1 26 e)) = 0 := by
                by_cases z : T.1 18 (ix (T.1 26 e)) = 0
                · exact z
                · unfold p_use at u
                  rw [if_pos u25, if_neg z] at u
                  exact absurd u (by decide)
              have u27 : T.1 18 (ix (T.1 27 e)) = 0 := by
                by_cases z : T.1 18 (ix (T.1 27 e)) = 0
                · exact z
                · unfold p_use at u
                  rw [if_pos u25, if_pos u26, if_neg z] at u
                  exact absurd u (by decide)
              rw [t25] at u25
              rw [t26] at u26
              rw [t27] at u27
              have n31 := pl_in_lt hnode (by decide)
              have l31 := pl_in_lt f1.2.1 (by decide)
              have p31 := pl_in_lt f1.2.2.1 (by decide)
              refine pl_NE_of (F := F0) (by rw [t21]) (by rw [t22]) (by rw [t24]) (by rw [t25]) (by rw [t26]) (by rw [t27]) ?_ ?_ (i1 _ (Or.inl u25)) (i1 _ (Or.inl u26)) (i1 _ (Or.inl u27)) (i1 _ (Or.inr (Or.inr (Nat.le_refl _)))) hn
              · rw [t1]
                refine h1 _ (fun z => a2 ?_)
                rw [t22, p31.1, z, ← n31.1]
              · rw [t2]
                refine h2 _ (fun z => a1 ?_)
                rw [t21, l31.1, z, ← n31.1]
            · exact i2 e (by omega)
    · rw [if_neg u]
      exact W
/-- set or setSort on a contracted tree -/
theorem pl_Con_rn {K Lc Rc : Nat → Nat} {S : xS} {F1 : xF} {node : Int32} (h : pl_Con K Lc Rc S) (hk : ∀ a, a ≠ 1 ∧ a ≠ 2 → F1 a = S.1 a) (h1 : ∀ n, ¬ n = ix node → F1 1 n = S.1 1 n) (h2 : ∀ n, ¬ n = ix node → F1 2 n = S.1 2 n) (hnode : vp_in node 31) : pl_Con K Lc Rc (p_rn node (F1, S.2)) ∧ (∀ a, a ≠ 14 ∧ a ≠ 15 ∧ a ≠ 18 → (p_rn node (F1, S.2)).1 a = F1 a) ∧ (∀ a, a < 29 → (p_rn node (F1, S.2)).2 a = S.2 a) := by
  obtain ⟨bt, tp, E, t, c1, c2, c3, c4, c5, c6⟩ := h
  have kp : ∀ a, a ≠ 14 ∧ a ≠ 15 ∧ a ≠ 18 → (p_rn node (F1, S.2)).1 a = F1 a := fun a ha => by
    unfold p_rn
    rw [p_rn_keep _ _ _ _ ha]
    exact p_rz_keep F1 46 a ha.2.2
  have kg : ∀ a, a < 29 → (p_rn node (F1, S.2)).2 a = S.2 a := fun a ha => by
    unfold p_rn
    rw [p_rn_G _ _ _ _ ha]
  refine ⟨⟨bt, tp, E, t, ?_, pl_SO_of (by rw [kp 22 (by decide), hk 22 (by decide)]) (by rw [kp 23 (by decide), hk 23 (by decide)]) (by rw [kp 28 (by decide), hk 28 (by decide)]) c2, pl_TP_of (by rw [kp 9 (by decide), hk 9 (by decide)]) c3, c4, by rw [kg 20 (by decide)]; exact c5, by rw [kg 10 (by decide)]; exact c6⟩, kp, kg⟩
  obtain ⟨r1, r2⟩ := pl_rn (G := S.2) c4 c1 hk h1 h2 hnode E (Nat.le_refl _)
  have eq : p_rn node (F1, S.2) = lpN (p_rnB node) E (p_rz F1, S.2) := by
    unfold p_rn
    show lpN (p_rnB node) (ix (S.2 20)) (p_rz F1, S.2) = _
    rw [c5, pl_ix (by omega)]
  refine ⟨fun s hs => ?_, fun e he => ⟨?_, ?_⟩⟩
  · rw [eq, (r1 s (Or.inr (Or.inl hs))).1, (r1 s (Or.inr (Or.inl hs))).2]
    exact c1.1 s hs
  · refine pl_SF_of (F := S.1) ?_ ?_ ?_ ?_ ?_ ?_ ?_ (c1.2 e he).1
    · rw [kp 21 (by decide), hk 21 (by decide)]
    · rw [kp 22 (by decide), hk 22 (by decide)]
    · rw [kp 23 (by decide), hk 23 (by decide)]
    · rw [kp 24 (by decide), hk 24 (by decide)]
    · rw [kp 25 (by decide), hk 25 (by decide)]
    · rw [kp 26 (by decide), hk 26 (by decide)]
    · rw [kp 27 (by decide), hk 27 (by decide)]
  · rw [eq]
    exact r2 e he
end
section
/-! value and slope on a contracted tree -/
theorem pl_vs_of {F F' : xF} (hk : ∀ a, a ≠ 13 → F' a = F a) (e : Nat) (v : Int32) : p_vs F' e v = p_vs F e v := by
  unfold p_vs p_sj p_lv
  rw [hk 24 (by decide), hk 14 (by decide), hk 15 (by decide), hk 27 (by decide), hk 1 (by decide), hk 22 (by decide), hk 25 (by decide), hk 2 (by decide), hk 21 (by decide)]
section ASK
variable {K Lc Rc par dep bt tp : Nat → Nat} {J E : Nat} {F0 : xF}
theorem pl_vd (h : Tr K Lc Rc par dep J) (h0 : ∀ n, F0 0 n = nI (K n)) (hs : pl_so4 K (F0 1)) (hE : E ≤ 15) (hc : pl_CS K Lc Rc bt tp E F0) (hso : pl_SO K E F0) : ∀ (t : Nat) (F : xF) (n d : Nat), (∀ a, a ≠ 13 → F a = F0 a) → ¬ K n = 0 → d + t ≤ 16 → (K n = 2 → ∃ i, F0 28 n = nI i ∧ i < E ∧ E ≤ t + i) → okVd t F (nI n) d ∧ (∀ a, a ≠ 13 → (p_vdL t F (nI n) d).1 a = F0 a) ∧ (∀ i, i < d → (p_vdL t F (nI n) d).1 13 i = F 13 i) ∧ d ≤ (p_vdL t F (nI n) d).2.2 ∧ (p_vdL t F (nI n) d).2.2 ≤ 16 ∧ vp_in (p_vdL t F (nI n) d).2.1 31 ∧ (∀ i, d ≤ i → i < (p_vdL t F (nI n) d).2.2 → ∃ e, e < E ∧ (p_vdL t F (nI n) d).1 13 i = nI e) ∧ p_vuL (p_vdL t F (nI n) d).1 (p_vdL t F (nI n) d).2.2 ((p_vdL t F (nI n) d).1 2 (ix (p_vdL t F (nI n) d).2.1)) = p_vuL (p_vdL t F (nI n) d).1 d (pl_v K Lc Rc (F0 2) (F0 1) n) := by
  intro t
  induction t with
  | zero =>
    intro F n d hk hn hd hi
    have n3 := h.lt hn
    have k1 : K n = 1 := by
      have := h.k2 n
      rcases (by omega : K n = 1 ∨ K n = 2) with q | q
      · exact q
      · obtain ⟨i, a1, a2, a3⟩ := hi q
        omega
    have iv : vp_in (nI n) 31 := pl_in n3 (by decide)
    refine ⟨⟨hd, iv⟩, hk, fun i _ => rfl, Nat.le_refl _, hd, iv, fun i q1 q2 => absurd (Nat.lt_of_lt_of_le q2 q1) (Nat.lt_irrefl _), ?_⟩
    show p_vuL F d (F 2 (ix (nI n))) = _
    rw [pl_ix (by omega), hk 2 (by decide), pl_v_leaf k1]
    rfl
  | succ t ih =>
    intro F n d hk hn hd hi
    have n3 := h.lt hn
    have := h.k2 n
    have iv : vp_in (nI n) 31 := pl_in n3 (by decide)
    have ixn : ix (nI n) = n := pl_ix (by omega)
    by_cases k2 : K n = 2
    · have e2 : F 0 (ix (nI n)) = 2 := by
        rw [ixn, hk 0 (by decide), h0 n, k2]
        rfl
      obtain ⟨i, a1, a2, a3⟩ := hso n k2 |> fun ⟨i, b1, b2, b3, b4⟩ => (⟨i, b2, b1, ⟨b3, b4⟩⟩ : ∃ i, F0 28 n = nI i ∧ i < E ∧ (ix (F0 22 i) = n ∧ (K (ix (F0 23 i)) = 2 → ∃ i2, i < i2 ∧ i2 < E ∧ F0 28 (ix (F0 23 i)) = nI i2)))
      obtain ⟨a3, a4⟩ := a3
      obtain ⟨i', b1, b2, b3⟩ := hi k2
      have ei : i' = i := pl_nI (by omega) (by omega) (by rw [← b1, a1])
      subst ei
      obtain ⟨hf, hne⟩ := hc.2 i' a2
      have o31 := pl_in_lt hf.2.1 (by decide)
      have r28 : F 28 (ix (nI n)) = nI i' := by rw [ixn, hk 28 (by decide), a1]
      have r23 : F 23 (ix (F 28 (ix (nI n)))) = nI (ix (F0 23 i')) := by
        rw [r28, pl_ix (by omega), hk 23 (by decide)]
        exact o31.1
      have hstep : p_vdL (t + 1) F (nI n) d = p_vdL t (fS F 13 d (nI i')) (nI (ix (F0 23 i'))) (d + 1) := by
        rw [p_vdL, if_pos e2, r23, r28]
      have hk' : ∀ a, a ≠ 13 → fS F 13 d (nI i') a = F0 a := fun a ha => by rw [fS_ne ha]; exact hk a ha
      obtain ⟨j1, j2, j3, j4, j5, j6, j7, j8⟩ := ih (fS F 13 d (nI i')) (ix (F0 23 i')) (d + 1) hk' hf.2.2.2.2.1 (by omega) (fun q => by
        obtain ⟨i2, c1, c2, c3⟩ := a4 q
        exact ⟨i2, c3, c2, by omega⟩)
      rw [hstep]
      have hd13 : (p_vdL t (fS F 13 d (nI i')) (nI (ix (F0 23 i'))) (d + 1)).1 13 d = nI i' := by
        rw [j3 d (by omega), fS_at, if_pos rfl]
      refine ⟨?_, j2, fun i hi => ?_, by omega, j5, j6, fun i q1 q2 => ?_, ?_⟩
      · rw [okVd]
        refine ⟨by omega, iv, fun _ => ?_⟩
        rw [r23, r28]
        exact ⟨pl_in (by omega) (by decide), j1⟩
      · rw [j3 i (by omega), fS_at, if_neg (by omega)]
      · by_cases z : i = d
        · exact ⟨i', a2, by rw [z]; exact hd13⟩
        · exact j7 i (by omega) q2
      · rw [j8]
        show p_vuL _ d (p_vs _ (ix (_ : Int32)) _) = _
        rw [hd13, pl_ix (by omega), pl_vs_of j2]
        have o := pl_one h hs hf (fun s hs2 => pl_sem h hs hc s (by omega))
        rw [o.2.2, a3]
    · have e2 : ¬ F 0 (ix (nI n)) = 2 := by
        rw [ixn, hk 0 (by decide), h0 n]
        intro q
        exact k2 (pl_nI (b := 2) (by omega) (by decide) q)
      have k1 : K n = 1 := by omega
      have hstep : p_vdL (t + 1) F (nI n) d = (F, nI n, d) := by rw [p_vdL, if_neg e2]
      rw [hstep]
      refine ⟨?_, hk, fun i _ => rfl, Nat.le_refl _, show d ≤ 16 by omega, iv, fun i q1 q2 => absurd (Nat.lt_of_lt_of_le q2 q1) (Nat.lt_irrefl _), ?_⟩
      · rw [okVd]
        exact ⟨by omega, iv, fun q => absurd q e2⟩
      · show p_vuL F d (F 2 (ix (nI n))) = _
        rw [ixn, hk 2 (by decide), pl_v_leaf k1]
theorem pl_val (h : Tr K Lc Rc par dep J) {S : xS} (h0 : ∀ n, S.1 0 n = nI (K n)) (hs : pl_so4 K (S.1 1)) (hC : pl_Con K Lc Rc S) {n : Nat} (hn : ¬ K n = 0) : okV S (nI n) ∧ p_vv S (nI n) = pl_v K Lc Rc (S.1 2) (S.1 1) n ∧ ∀ a, a ≠ 13 → (p_vd S (nI n)).1 a = S.1 a := by
  obtain ⟨bt, tp, E, t, c1, c2, c3, c4, c5, c6⟩ := hC
  obtain ⟨j1, j2, j3, j4, j5, j6, j7, j8⟩ := pl_vd h h0 hs c4 c1 c2 16 S.1 n 0 (fun a _ => rfl) hn (by omega) (fun q => by
    obtain ⟨i, b1, b2, b3, b4⟩ := c2 n q
    exact ⟨i, b2, b1, by omega⟩)
  refine ⟨⟨j1, j5, j6, fun i hi => ?_⟩, ?_, j2⟩
  · obtain ⟨e, he, q⟩ := j7 i (Nat.zero_le _) hi
    unfold p_vd
    rw [q, pl_ix (by omega)]
    refine ⟨pl_in (by omega) (by decide), okE_of (c1.2 e he).1.1 (j2 21 (by decide)) (j2 22 (by decide)) (j2 25 (by decide)) (j2 26 (by decide)) (j2 27 (by decide))⟩
  · unfold p_vv p_vd
    rw [j8]
    rfl
theorem pl_sz (F : xF) : ∀ j s, s < j → lpN p_szB j F 16 s = 0 ∧ lpN p_szB j F 17 s = 0 := by
  intro j
  induction j with
  | zero => intro s hs; omega
  | succ j ih =>
    intro s hs
    rw [lpN_succ]
    generalize lpN p_szB j F = T at ih
    show fS (fS T 16 j 0) 17 j 0 16 s = 0 ∧ fS (fS T 16 j 0) 17 j 0 17 s = 0
    by_cases e : s = j
    · rw [fS_ne (by decide), fS_at, if_pos e, fS_at, if_pos e]
      exact ⟨rfl, rfl⟩
    · rw [fS_ne (by decide), fS_at, if_neg e, fS_at, if_neg e, fS_ne (by decide)]
      exact ih s (by omega)
theorem pl_sc (h : Tr K Lc Rc par dep J) {S : xS} (hs : pl_so4 K (S.1 1)) (hE : E ≤ 15) (hc : pl_CS K Lc Rc bt tp E S.1) {x : Nat} (hx : x < 31) : ∀ j, j ≤ E → ∀ s, s < 31 + j → (lpN (p_scB (nI x)) j (lpN p_szB 46 S.1, S.2)).1 16 s * pl_v K Lc Rc (S.1 2) (S.1 1) (bt s) + S.1 14 s * pl_d K Lc Rc (S.1 2) (S.1 1) x (bt s) + (lpN (p_scB (nI x)) j (lpN p_szB 46 S.1, S.2)).1 17 s = pl_d K Lc Rc (S.1 2) (S.1 1) x (tp s) := by
  intro j
  have kp : ∀ j a, a ≠ 16 ∧ a ≠ 17 → (lpN (p_scB (nI x)) j (lpN p_szB 46 S.1, S.2)).1 a = S.1 a := fun j a ha => by
    rw [p_sc_keep _ _ _ _ ha]
    exact p_sz_keep S.1 46 a ha
  induction j with
  | zero =>
    intro _ s hs2
    rw [lpN_zero]
    obtain ⟨z1, z2⟩ := pl_sz S.1 46 s (by omega)
    obtain ⟨b1, b2, b3, b4⟩ := hc.1 s (by omega)
    show lpN p_szB 46 S.1 16 s * _ + _ + lpN p_szB 46 S.1 17 s = _
    rw [z1, z2, b1, b3, b4]
    grind
  | succ j ih =>
    intro hj s hs2
    have i1 := ih (by omega)
    have kpj := kp j
    rw [lpN_succ]
    generalize lpN (p_scB (nI x)) j (lpN p_szB 46 S.1, S.2) = T at i1 kpj
    have t1 := kpj 1 (by decide)
    have t2 := kpj 2 (by decide)
    have t14 := kpj 14 (by decide)
    show p_csF T.1 j (nI x) 16 s * _ + _ + p_csF T.1 j (nI x) 17 s = _
    unfold p_csF
    rw [fS_ne (by decide), fS_at, fS_at, fS_ne (by decide)]
    by_cases e : s = 31 + j
    · subst e
      rw [if_pos rfl, if_pos rfl]
      have q := pl_csem (F := T.1) (E := E) (bt := bt) (tp := tp) h (by rw [t1]; exact hs) (pl_CS_of (fun a ha => kpj a ⟨ha.2.1, ha.2.2.1⟩) hc) hx (show j < E by omega) (by
        rw [t1, t2, t14]
        exact i1)
      rw [t1, t2, t14] at q
      exact q
    · rw [if_neg e, if_neg e]
      exact i1 s (by omega)
theorem pl_slo (h : Tr K Lc Rc par dep J) {S : xS} (hs : pl_so4 K (S.1 1)) (hC : pl_Con K Lc Rc S) {x : Nat} (hx : x < 31) : p_sv (p_sc (nI x) S) (nI x) = pl_d K Lc Rc (S.1 2) (S.1 1) x 0 ∧ (vp_in (S.2 10) 31 ∧ vp_in (S.1 9 (ix (S.2 10))) 46) ∧ (∀ a, a ≠ 16 ∧ a ≠ 17 → (p_sc (nI x) S).1 a = S.1 a) ∧ (∀ a, a < 29 → (p_sc (nI x) S).2 a = S.2 a) := by
  obtain ⟨bt, tp, E, t, c1, c2, ⟨k1, s, s1, s2, s3, s4⟩, c4, c5, c6⟩ := hC
  have t3 := h.lt (n := t) (by omega)
  have kp : ∀ a, a ≠ 16 ∧ a ≠ 17 → (p_sc (nI x) S).1 a = S.1 a := fun a ha => by
    unfold p_sc
    rw [p_sc_keep _ _ _ _ ha]
    exact p_sz_keep S.1 46 a ha
  have kg : ∀ a, a < 29 → (p_sc (nI x) S).2 a = S.2 a := fun a ha => by
    unfold p_sc
    rw [p_sc_G _ _ _ _ ha]
  have eq : p_sc (nI x) S = lpN (p_scB (nI x)) E (lpN p_szB 46 S.1, S.2) := by
    unfold p_sc
    rw [c5, pl_ix (by omega)]
  have q := pl_sc h hs c4 c1 hx E (Nat.le_refl _) s s1
  rw [← eq, s3, s4, pl_v_leaf k1, pl_d_leaf k1] at q
  have ixt : ix (nI t) = t := pl_ix (by omega)
  refine ⟨?_, ?_, kp, kg⟩
  · unfold p_sv
    rw [kg 10 (by decide), kp 9 (by decide), kp 2 (by decide), kp 14 (by decide), c6, ixt, s2, pl_ix (by omega), ← q]
    by_cases e : t = x
    · rw [if_pos (by rw [e]), if_pos e, Int32.mul_one]
    · rw [if_neg (fun z => e (pl_nI (by omega) (by omega) z)), if_neg e, Int32.mul_zero]
  · rw [c6, ixt, s2]
    exact ⟨pl_in t3 (by decide), pl_in (by omega) (by decide)⟩
end ASK
end
section
/-! the tree while it is contracted, in plain tables: al who is there, cl cr cp children and parent, sl slots, t the top, e steps done, w weights -/
def pl_CT (K Lc Rc w : Nat → Nat) (al : Nat → Bool) (cl cr cp sl bt tp : Nat → Nat) (t e : Nat) : Prop :=
  al t = true ∧
  (∀ n, al n = true → ¬ K n = 0 ∧ 1 ≤ w n ∧ sl n < 31 + e ∧ bt (sl n) = n) ∧
  (∀ n, al n = true → K n = 2 → al (cl n) = true ∧ al (cr n) = true ∧ ¬ cl n = cr n ∧ cp (cl n) = n ∧ cp (cr n) = n ∧ w (cl n) + w (cr n) ≤ w n ∧ ¬ cl n = t ∧ ¬ cr n = t ∧ tp (sl (cl n)) = Lc n ∧ tp (sl (cr n)) = Rc n) ∧
  (∀ n, al n = true → ¬ n = t → al (cp n) = true ∧ K (cp n) = 2 ∧ (cl (cp n) = n ∨ cr (cp n) = n)) ∧
  tp (sl t) = 0
theorem pl_up {α : Type} (f : Nat → α) (k : Nat) (v : α) (j : Nat) : va_up f k v j = if j = k then v else f j := rfl
section CT
variable {K Lc Rc w : Nat → Nat} {al : Nat → Bool} {cl cr cp sl bt tp : Nat → Nat} {t e l p o : Nat}
theorem pl_CT_near (h : pl_CT K Lc Rc w al cl cr cp sl bt tp t e) (hl : al l = true) (hk : K l = 1) (ht : ¬ l = t) (hp : cp l = p) (ho : (cl p = l ∧ cr p = o) ∨ (cr p = l ∧ cl p = o)) : al p = true ∧ K p = 2 ∧ al o = true ∧ ¬ o = l ∧ ¬ o = p ∧ ¬ l = p ∧ ¬ o = t ∧ cp o = p ∧ w l + w o ≤ w p ∧ (¬ p = t → al (cp p) = true ∧ K (cp p) = 2 ∧ (cl (cp p) = p ∨ cr (cp p) = p) ∧ ¬ cp p = p ∧ ¬ cp p = o ∧ ¬ cp p = l) := by
  obtain ⟨h1, h2, h3, h4, h5⟩ := h
  have a1 := h4 l hl ht
  rw [hp] at a1
  obtain ⟨a1, a2, a3⟩ := a1
  obtain ⟨b1, b2, b3, b4, b5, b6, b7, b8, b9, b10⟩ := h3 p a1 a2
  have wl := (h2 l hl).2.1
  have lp : ¬ l = p := fun q => by rw [q] at hk; omega
  have key : al o = true ∧ ¬ o = l ∧ ¬ o = t ∧ cp o = p ∧ w l + w o ≤ w p := by
    rcases ho with ⟨q1, q2⟩ | ⟨q1, q2⟩
    · rw [q1, q2] at b3 b6
      rw [q2] at b2 b5 b8
      exact ⟨b2, fun z => b3 z.symm, b8, b5, b6⟩
    · rw [q1, q2] at b3 b6
      rw [q2] at b1 b4 b7
      exact ⟨b1, b3, b7, b4, by omega⟩
  obtain ⟨k1, k2, k3, k4, k5⟩ := key
  have wo := (h2 o k1).2.1
  refine ⟨a1, a2, k1, k2, fun q => by rw [q] at k5; omega, lp, k3, k4, k5, fun q => ?_⟩
  obtain ⟨c1, c2, c3⟩ := h4 p a1 q
  obtain ⟨d1, d2, d3, d4, d5, d6, d7, d8, d9, d10⟩ := h3 _ c1 c2
  have wp : w p < w (cp p) := by
    have e1 := (h2 _ d1).2.1
    have e2 := (h2 _ d2).2.1
    rcases c3 with z | z
    · rw [z] at d6
      omega
    · rw [z] at d6
      omega
  refine ⟨c1, c2, c3, fun z => by rw [z] at wp; omega, fun z => by rw [z] at wp; omega, fun z => by rw [z] at c2; omega⟩
/-- the joint is the top -/
theorem pl_CT_top (h : pl_CT K Lc Rc w al cl cr cp sl bt tp t e) (hl : al l = true) (hk : K l = 1) (ht : ¬ l = t) (hp : cp l = p) (ho : (cl p = l ∧ cr p = o) ∨ (cr p = l ∧ cl p = o)) (hpt : p = t) : pl_CT K Lc Rc w (va_up (va_up al l false) p false) cl cr (va_up cp o (cp p)) (va_up sl o (31 + e)) (va_up bt (31 + e) o) (va_up tp (31 + e) (tp (sl p))) o (e + 1) := by
  obtain ⟨n1, n2, n3, n4, n5, n6, n7, n8, n9, -⟩ := pl_CT_near h hl hk ht hp ho
  obtain ⟨h1, h2, h3, h4, h5⟩ := h
  have alive : ∀ n, va_up (va_up al l false) p false n = true → al n = true ∧ ¬ n = l ∧ ¬ n = p := fun n hn => by
    rw [pl_up, pl_up] at hn
    by_cases z1 : n = p
    · rw [if_pos z1] at hn
      exact absurd hn (by decide)
    · rw [if_neg z1] at hn
      by_cases z2 : n = l
      · rw [if_pos z2] at hn
        exact absurd hn (by decide)
      · rw [if_neg z2] at hn
        exact ⟨hn, z2, z1⟩
  have alive' : ∀ n, al n = true → ¬ n = l → ¬ n = p → va_up (va_up al l false) p false n = true := fun n a1 a2 a3 => by
    rw [pl_up, pl_up, if_neg a3, if_neg a2]
    exact a1
  refine ⟨alive' o n3 n4 n5, fun n hn => ?_, fun n hn k2 => ?_, fun n hn hno => ?_, ?_⟩
  · obtain ⟨a1, a2, a3⟩ := alive n hn
    obtain ⟨b1, b2, b3, b4⟩ := h2 n a1
    refine ⟨b1, b2, ?_, ?_⟩
    · rw [pl_up]
      split <;> omega
    · rw [pl_up, pl_up]
      by_cases z : n = o
      · rw [if_pos z, if_pos rfl, z]
      · rw [if_neg z, if_neg (by omega)]
        exact b4
  · obtain ⟨a1, a2, a3⟩ := alive n hn
    obtain ⟨b1, b2, b3, b4, b5, b6, b7, b8, b9, b10⟩ := h3 n a1 k2
    have e1 : ¬ cl n = l := fun z => a3 (by rw [← b4, z, hp])
    have e2 : ¬ cl n = p := fun z => b7 (by rw [z, hpt])
    have e3 : ¬ cl n = o := fun z => a3 (by rw [← b4, z, n8])
    have e4 : ¬ cr n = l := fun z => a3 (by rw [← b5, z, hp])
    have e5 : ¬ cr n = p := fun z => b8 (by rw [z, hpt])
    have e6 : ¬ cr n = o := fun z => a3 (by rw [← b5, z, n8])
    have s1 := (h2 _ b1).2.2.1
    have s2 := (h2 _ b2).2.2.1
    refine ⟨alive' _ b1 e1 e2, alive' _ b2 e4 e5, b3, ?_, ?_, b6, e3, e6, ?_, ?_⟩
    · rw [pl_up, if_neg e3]; exact b4
    · rw [pl_up, if_neg e6]; exact b5
    · rw [pl_up sl, if_neg e3, pl_up, if_neg (by omega)]; exact b9
    · rw [pl_up sl, if_neg e6, pl_up, if_neg (by omega)]; exact b10
  · obtain ⟨a1, a2, a3⟩ := alive n hn
    have nt : ¬ n = t := fun z => a3 (by rw [z, hpt])
    obtain ⟨b1, b2, b3⟩ := h4 n a1 nt
    rw [pl_up cp, if_neg hno]
    refine ⟨alive' _ b1 (fun z => by rw [z] at b2; omega) (fun z => ?_), b2, b3⟩
    rw [z] at b3
    rcases ho with ⟨q1, q2⟩ | ⟨q1, q2⟩
    · rcases b3 with y | y
      · exact a2 (by rw [← y, q1])
      · exact hno (by rw [← y, q2])
    · rcases b3 with y | y
      · exact hno (by rw [← y, q2])
      · exact a2 (by rw [← y, q1])
  · rw [pl_up sl, if_pos rfl, pl_up, if_pos rfl, hpt]
    exact h5
/-- the joint hangs on the left or on the right of q: there the other child comes -/
theorem pl_CT_sub (h : pl_CT K Lc Rc w al cl cr cp sl bt tp t e) (hl : al l = true) (hk : K l = 1) (ht : ¬ l = t) (hp : cp l = p) (ho : (cl p = l ∧ cr p = o) ∨ (cr p = l ∧ cl p = o)) (hpt : ¬ p = t) {cl' cr' : Nat → Nat} (hc : (cl (cp p) = p ∧ cl' = va_up cl (cp p) o ∧ cr' = cr) ∨ (cr (cp p) = p ∧ cl' = cl ∧ cr' = va_up cr (cp p) o)) : pl_CT K Lc Rc w (va_up (va_up al l false) p false) cl' cr' (va_up cp o (cp p)) (va_up sl o (31 + e)) (va_up bt (31 + e) o) (va_up tp (31 + e) (tp (sl p))) t (e + 1) := by
  obtain ⟨n1, n2, n3, n4, n5, n6, n7, n8, n9, n10⟩ := pl_CT_near h hl hk ht hp ho
  obtain ⟨m1, m2, m3, m4, m5, m6⟩ := n10 hpt
  obtain ⟨h1, h2, h3, h4, h5⟩ := h
  have alive : ∀ n, va_up (va_up al l false) p false n = true → al n = true ∧ ¬ n = l ∧ ¬ n = p := fun n hn => by
    rw [pl_up, pl_up] at hn
    by_cases z1 : n = p
    · rw [if_pos z1] at hn
      exact absurd hn (by decide)
    · rw [if_neg z1] at hn
      by_cases z2 : n = l
      · rw [if_pos z2] at hn
        exact absurd hn (by decide)
      · rw [if_neg z2] at hn
        exact ⟨hn, z2, z1⟩
  have alive' : ∀ n, al n = true → ¬ n = l → ¬ n = p → va_up (va_up al l false) p false n = true := fun n a1 a2 a3 => by
    rw [pl_up, pl_up, if_neg a3, if_neg a2]
    exact a1
  have wl := (h2 l hl).2.1
  have slp := (h2 p n1).2.2.1
  obtain ⟨d1, d2, d3, d4, d5, d6, d7, d8, d9, d10⟩ := h3 _ m1 m2
  refine ⟨alive' t h1 (fun z => ht z.symm) (fun z => hpt z.symm), fun n hn => ?_, fun n hn k2 => ?_, fun n hn hno => ?_, ?_⟩
  · obtain ⟨a1, a2, a3⟩ := alive n hn
    obtain ⟨b1, b2, b3, b4⟩ := h2 n a1
    refine ⟨b1, b2, ?_, ?_⟩
    · rw [pl_up]
      split <;> omega
    · rw [pl_up, pl_up]
      by_cases z : n = o
      · rw [if_pos z, if_pos rfl, z]
      · rw [if_neg z, if_neg (by omega)]
        exact b4
  · obtain ⟨a1, a2, a3⟩ := alive n hn
    obtain ⟨b1, b2, b3, b4, b5, b6, b7, b8, b9, b10⟩ := h3 n a1 k2
    have e1 : ¬ cl n = l := fun z => a3 (by rw [← b4, z, hp])
    have e3 : ¬ cl n = o := fun z => a3 (by rw [← b4, z, n8])
    have e4 : ¬ cr n = l := fun z => a3 (by rw [← b5, z, hp])
    have e6 : ¬ cr n = o := fun z => a3 (by rw [← b5, z, n8])
    have s1 := (h2 _ b1).2.2.1
    have s2 := (h2 _ b2).2.2.1
    by_cases nq : n = cp p
    · rcases hc with ⟨q1, r1, r2⟩ | ⟨q1, r1, r2⟩ <;> rw [r1, r2]
      · have e5 : ¬ cr n = p := fun z => b3 (by rw [z, nq, q1])
        have ec : va_up cl (cp p) o n = o := by rw [pl_up, if_pos nq]
        have eq : cl n = p := by rw [nq, q1]
        rw [ec]
        rw [eq] at b6 b9
        refine ⟨alive' _ n3 n4 n5, alive' _ b2 e4 e5, fun z => e6 z.symm, ?_, ?_, by omega, n7, b8, ?_, ?_⟩
        · rw [pl_up, if_pos rfl, nq]
        · rw [pl_up, if_neg e6]; exact b5
        · rw [pl_up sl, if_pos rfl, pl_up, if_pos rfl]; exact b9
        · rw [pl_up sl, if_neg e6, pl_up, if_neg (by omega)]; exact b10
      · have e5 : ¬ cl n = p := fun z => b3 (by rw [z, nq, q1])
        have ec : va_up cr (cp p) o n = o := by rw [pl_up, if_pos nq]
        have eq : cr n = p := by rw [nq, q1]
        rw [ec]
        rw [eq] at b6 b10
        refine ⟨alive' _ b1 e1 e5, alive' _ n3 n4 n5, e3, ?_, ?_, by omega, b7, n7, ?_, ?_⟩
        · rw [pl_up, if_neg e3]; exact b4
        · rw [pl_up, if_pos rfl, nq]
        · rw [pl_up sl, if_neg e3, pl_up, if_neg (by omega)]; exact b9
        · rw [pl_up sl, if_pos rfl, pl_up, if_pos rfl]; exact b10
    · have e2 : ¬ cl n = p := fun z => nq (by rw [← b4, z])
      have e5 : ¬ cr n = p := fun z => nq (by rw [← b5, z])
      have f1 : cl' n = cl n := by
        rcases hc with ⟨q1, r1, r2⟩ | ⟨q1, r1, r2⟩ <;> rw [r1]
        rw [pl_up, if_neg nq]
      have f2 : cr' n = cr n := by
        rcases hc with ⟨q1, r1, r2⟩ | ⟨q1, r1, r2⟩ <;> rw [r2]
        rw [pl_up, if_neg nq]
      rw [f1, f2]
      refine ⟨alive' _ b1 e1 e2, alive' _ b2 e4 e5, b3, ?_, ?_, b6, b7, b8, ?_, ?_⟩
      · rw [pl_up, if_neg e3]; exact b4
      · rw [pl_up, if_neg e6]; exact b5
      · rw [pl_up sl, if_neg e3, pl_up, if_neg (by omega)]; exact b9
      · rw [pl_up sl, if_neg e6, pl_up, if_neg (by omega)]; exact b10
  · obtain ⟨a1, a2, a3⟩ := alive n hn
    by_cases no : n = o
    · rw [no, pl_up cp, if_pos rfl]
      refine ⟨alive' _ m1 m6 m4, m2, ?_⟩
      rcases hc with ⟨q1, r1, r2⟩ | ⟨q1, r1, r2⟩
      · rw [r1, pl_up, if_pos rfl]; exact Or.inl rfl
      · rw [r2, pl_up, if_pos rfl]; exact Or.inr rfl
    · obtain ⟨b1, b2, b3⟩ := h4 n a1 hno
      rw [pl_up cp, if_neg no]
      have g1 : ¬ cp n = p := fun z => by
        rw [z] at b3
        rcases ho with ⟨q1, q2⟩ | ⟨q1, q2⟩
        · rcases b3 with y | y
          · exact a2 (by rw [← y, q1])
          · exact no (by rw [← y, q2])
        · rcases b3 with y | y
          · exact no (by rw [← y, q2])
          · exact a2 (by rw [← y, q1])
      refine ⟨alive' _ b1 (fun z => by rw [z] at b2; omega) g1, b2, ?_⟩
      by_cases nq : cp n = cp p
      · rw [nq] at b3 ⊢
        rcases hc with ⟨q1, r1, r2⟩ | ⟨q1, r1, r2⟩ <;> rw [r1, r2]
        · rcases b3 with y | y
          · exact absurd (by rw [← y, q1]) a3
          · exact Or.inr y
        · rcases b3 with y | y
          · exact Or.inl y
          · exact absurd (by rw [← y, q1]) a3
      · rcases hc with ⟨q1, r1, r2⟩ | ⟨q1, r1, r2⟩ <;> rw [r1, r2]
        · rw [pl_up, if_neg nq]; exact b3
        · rw [pl_up, if_neg nq]; exact b3
  · have st := (h2 t h1).2.2.1
    rw [pl_up sl, if_neg (fun z => n7 z.symm), pl_up, if_neg (by omega)]
    exact h5
/-- if the top is a leaf no joint is left -/
theorem pl_CT_end (h : pl_CT K Lc Rc w al cl cr cp sl bt tp t e) (hw : ∀ n, w n ≤ 16) (hk : K t = 1) : ∀ n, K n = 2 → al n = false := by
  have key : ∀ k n, 17 ≤ k + w n → al n = true → K n = 2 → False := by
    intro k
    induction k with
    | zero => intro n h1 _ _; have := hw n; omega
    | succ k ih =>
      intro n h1 h2 h3
      obtain ⟨t1, t2, t3, t4, t5⟩ := h
      have nt : ¬ n = t := fun z => by rw [z] at h3; omega
      obtain ⟨a1, a2, a3⟩ := t4 n h2 nt
      obtain ⟨b1, b2, b3, b4, b5, b6, b7⟩ := t3 _ a1 a2
      have w1 := (t2 _ b1).2.1
      have w2 := (t2 _ b2).2.1
      refine ih (cp n) ?_ a1 a2
      rcases a3 with z | z <;> rw [z] at b6 <;> omega
  intro n hn
  cases hb : al n with
  | false => rfl
  | true => exact (key 17 n (by omega) hb hn).elim
end CT
end
section
/-! takeLeaf: what it leaves in each array -/
theorem pl_tl2_ne (F : xF) (l p b : Int32) (e : Nat) {a : Nat} (h : ¬ a = 6 ∧ ¬ a = 7) : p_tl2 F l p b e a = p_tl1 F l p b e a := by
  unfold p_tl2
  split
  · split
    · rw [fS_ne h.1]
    · rw [fS_ne h.2]
  · rfl
theorem pl_tl1_6 (F : xF) (l p b : Int32) (e : Nat) : p_tl1 F l p b e 6 = F 6 ∧ p_tl1 F l p b e 7 = F 7 := by
  constructor <;> (unfold p_tl1; iterate 9 rw [fS_ne (by decide)])
section RD
variable (S : xS) (l p b : Int32)
theorem pl_tl_F (a : Nat) (h : ¬ a = 14 ∧ ¬ a = 15) : (p_tl S l p b).1 a = p_tl3 S.1 l p b (ix (S.2 20)) a := p_wo_keep _ _ _ h
theorem pl_tl3_keep (F : xF) (e a : Nat) (h : ¬ a = 6 ∧ ¬ a = 7 ∧ ¬ a = 8 ∧ ¬ a = 9 ∧ (a < 21 ∨ 28 < a)) : p_tl3 F l p b e a = F a := by
  unfold p_tl3
  rw [fS_ne h.2.2.2.1, fS_ne h.2.2.1, pl_tl2_ne _ _ _ _ _ ⟨h.1, h.2.1⟩]
  unfold p_tl1
  rw [fS_ne h.2.2.1]
  iterate 8 rw [fS_ne (by omega)]
theorem pl_tl3_6 (F : xF) (e n : Nat) : p_tl3 F l p b e 6 n = if 0 ≤ F 8 (ix p) ∧ F 6 (ix (F 8 (ix p))) = p ∧ n = ix (F 8 (ix p)) then p_oth F p b else F 6 n := by
  have q := (pl_tl1_6 F l p b e).1
  unfold p_tl3
  rw [fS_ne (by decide), fS_ne (by decide)]
  unfold p_tl2
  by_cases h1 : 0 ≤ F 8 (ix p)
  · rw [if_pos h1]
    by_cases h2 : F 6 (ix (F 8 (ix p))) = p
    · rw [if_pos h2, fS_at, q]
      by_cases h3 : n = ix (F 8 (ix p))
      · rw [if_pos h3, if_pos ⟨h1, h2, h3⟩]
      · rw [if_neg h3, if_neg (fun z => h3 z.2.2)]
    · rw [if_neg h2, fS_ne (by decide), q, if_neg (fun z => h2 z.2.1)]
  · rw [if_neg h1, q, if_neg (fun z => h1 z.1)]
theorem pl_tl3_7 (F : xF) (e n : Nat) : p_tl3 F l p b e 7 n = if 0 ≤ F 8 (ix p) ∧ ¬ F 6 (ix (F 8 (ix p))) = p ∧ n = ix (F 8 (ix p)) then p_oth F p b else F 7 n := by
  have q := (pl_tl1_6 F l p b e).2
  unfold p_tl3
  rw [fS_ne (by decide), fS_ne (by decide)]
  unfold p_tl2
  by_cases h1 : 0 ≤ F 8 (ix p)
  · rw [if_pos h1]
    by_cases h2 : F 6 (ix (F 8 (ix p))) = p
    · rw [if_pos h2, fS_ne (by decide), q, if_neg (fun z => z.2.1 h2)]
    · rw [if_neg h2, fS_at, q]
      by_cases h3 : n = ix (F 8 (ix p))
      · rw [if_pos h3, if_pos ⟨h1, h2, h3⟩]
      · rw [if_neg h3, if_neg (fun z => h3 z.2.2)]
  · rw [if_neg h1, q, if_neg (fun z => h1 z.1)]
theorem pl_tl3_8 (F : xF) (e n : Nat) : p_tl3 F l p b e 8 n = if n = ix l then -1 else if n = ix (p_oth F p b) then F 8 (ix p) else F 8 n := by
  unfold p_tl3
  rw [fS_ne (by decide), fS_at, pl_tl2_ne _ _ _ _ _ (by decide)]
  unfold p_tl1
  rw [fS_at]
  iterate 8 rw [fS_ne (by decide)]
theorem pl_tl3_9 (F : xF) (e n : Nat) : p_tl3 F l p b e 9 n = if n = ix (p_oth F p b) then nI (31 + e) else F 9 n := by
  unfold p_tl3
  rw [fS_at, fS_ne (by decide), pl_tl2_ne _ _ _ _ _ (by decide)]
  unfold p_tl1
  iterate 9 rw [fS_ne (by decide)]
theorem pl_tl3_r (F : xF) (e n : Nat) : p_tl3 F l p b e 21 n = (if n = e then l else F 21 n) ∧ p_tl3 F l p b e 22 n = (if n = e then p else F 22 n) ∧ p_tl3 F l p b e 23 n = (if n = e then p_oth F p b else F 23 n) ∧ p_tl3 F l p b e 24 n = (if n = e then b else F 24 n) ∧ p_tl3 F l p b e 25 n = (if n = e then F 9 (ix l) else F 25 n) ∧ p_tl3 F l p b e 26 n = (if n = e then F 9 (ix p) else F 26 n) ∧ p_tl3 F l p b e 27 n = (if n = e then F 9 (ix (p_oth F p b)) else F 27 n) ∧ p_tl3 F l p b e 28 n = (if n = ix p then nI e else F 28 n) := by
  unfold p_tl3
  refine ⟨?_, ?_, ?_, ?_, ?_, ?_, ?_, ?_⟩ <;> rw [fS_ne (by decide), fS_ne (by decide), pl_tl2_ne _ _ _ _ _ (by decide)] <;> unfold p_tl1 <;> simp [fS_eq]
theorem pl_tl_G : (p_tl S l p b).2 20 = S.2 20 + 1 ∧ (p_tl S l p b).2 10 = (if 0 ≤ S.1 8 (ix p) then S.2 10 else p_oth S.1 p b) ∧ (p_tl S l p b).2 11 = S.2 11 ∧ (p_tl S l p b).2 19 = S.2 19 ∧ (p_tl S l p b).2 5 = S.2 5 := by
  refine ⟨?_, ?_, ?_, ?_, ?_⟩
  · show p_tlG2 S.1 S.2 p b 20 = _
    unfold p_tlG2
    split <;> rfl
  · show p_tlG2 S.1 S.2 p b 10 = _
    unfold p_tlG2
    split <;> rfl
  · show p_tlG2 S.1 S.2 p b 11 = _
    unfold p_tlG2
    split <;> rfl
  · show p_tlG2 S.1 S.2 p b 19 = _
    unfold p_tlG2
    split <;> rfl
  · show p_tlG2 S.1 S.2 p b 5 = _
    unfold p_tlG2
    split <;> rfl
end RD
/-! the machine's arrays hold the plain tables -/
def pl_FR (K : Nat → Nat) (al : Nat → Bool) (cl cr cp sl : Nat → Nat) (t e : Nat) (S : xS) : Prop :=
  (∀ n, al n = true → K n = 2 → S.1 6 n = nI (cl n) ∧ S.1 7 n = nI (cr n)) ∧
  (∀ n, al n = true → ¬ n = t → S.1 8 n = nI (cp n)) ∧ S.1 8 t = -1 ∧
  (∀ n, K n = 1 → al n = false → S.1 8 n = -1) ∧
  (∀ n, al n = true → S.1 9 n = nI (sl n)) ∧ S.2 10 = nI t ∧ S.2 20 = nI e
def pl_DN (K : Nat → Nat) (al : Nat → Bool) (e : Nat) (F : xF) : Prop := ∀ n, K n = 2 → al n = false → ∃ i, i < e ∧ F 28 n = nI i ∧ ix (F 22 i) = n ∧ (K (ix (F 23 i)) = 2 → al (ix (F 23 i)) = true ∨ ∃ i2, i < i2 ∧ i2 < e ∧ F 28 (ix (F 23 i)) = nI i2)
def pl_cnt (K : Nat → Nat) (al : Nat → Bool) : Nat := sm (fun n => if al n = true ∧ K n = 2 then 1 else 0) 31
/-- all that holds while the tree is contracted, e steps done -/
def pl_IV (K Lc Rc w : Nat → Nat) (J e : Nat) (S : xS) : Prop := ∃ (al : Nat → Bool) (cl cr cp sl bt tp : Nat → Nat) (t : Nat), pl_CT K Lc Rc w al cl cr cp sl bt tp t e ∧ pl_FR K al cl cr cp sl t e S ∧ pl_DN K al e S.1 ∧ pl_CS K Lc Rc bt tp e S.1 ∧ pl_cnt K al + e = J
theorem pl_SF_bt {K Lc Rc bt tp bt' tp' : Nat → Nat} {F : xF} {e : Nat} (hb : ∀ s, s ≤ 31 + e → bt' s = bt s ∧ tp' s = tp s) (h : pl_SF K Lc Rc bt tp F e) : pl_SF K Lc Rc bt' tp' F e := by
  obtain ⟨f1, f2, f3, f4, f5, ⟨f6, f7, f8⟩, f9, f10, f11, f12, f13, f14, f15⟩ := h
  have b1 := hb _ (Nat.le_of_lt f6)
  have b2 := hb _ (Nat.le_of_lt f7)
  have b3 := hb _ (Nat.le_of_lt f8)
  have b4 := hb _ (Nat.le_refl _)
  unfold pl_SF
  rw [b1.1, b1.2, b2.1, b2.2, b3.1, b3.2, b4.1, b4.2]
  exact ⟨f1, f2, f3, f4, f5, ⟨f6, f7, f8⟩, f9, f10, f11, f12, f13, f14, f15⟩
end
section
/-! one leaf taken: the invariant holds after it -/
section TK
variable {K Lc Rc par dep w : Nat → Nat} {J : Nat} {al : Nat → Bool} {cl cr cp sl bt tp : Nat → Nat} {t e l p o : Nat} {S : xS} {b : Int32}
theorem pl_al (n : Nat) : va_up (va_up al l false) p false n = true ↔ al n = true ∧ ¬ n = l ∧ ¬ n = p := by
  rw [pl_up, pl_up]
  by_cases z1 : n = p
  · rw [if_pos z1]
    exact ⟨fun q => absurd q (by decide), fun q => absurd z1 q.2.2⟩
  · rw [if_neg z1]
    by_cases z2 : n = l
    · rw [if_pos z2]
      exact ⟨fun q => absurd q (by decide), fun q => absurd z2 q.2.1⟩
    · rw [if_neg z2]
      exact ⟨fun q => ⟨q, z2, z1⟩, fun q => q.1⟩
theorem pl_cnt_take (hp : al p = true) (kp : K p = 2) (kl : K l = 1) (p3 : p < 31) : pl_cnt K (va_up (va_up al l false) p false) + 1 = pl_cnt K al := by
  have q := sm_upd (f := fun n => if al n = true ∧ K n = 2 then 1 else 0) (g := fun n => if va_up (va_up al l false) p false n = true ∧ K n = 2 then 1 else 0) p3 (fun i _ hne => by
    show (if va_up (va_up al l false) p false i = true ∧ K i = 2 then 1 else 0) = if al i = true ∧ K i = 2 then 1 else 0
    by_cases z : K i = 2
    · have zl : ¬ i = l := fun y => by rw [y] at z; omega
      rw [pl_up, pl_up, if_neg hne, if_neg zl]
    · rw [if_neg (fun y => z y.2), if_neg (fun y => z y.2)])
  have a1 : (if al p = true ∧ K p = 2 then 1 else 0) = (1 : Nat) := if_pos ⟨hp, kp⟩
  have a2 : (if va_up (va_up al l false) p false p = true ∧ K p = 2 then 1 else 0) = (0 : Nat) := if_neg (fun y => by
    have := (pl_al (al := al) (l := l) p).mp y.1
    exact this.2.2 rfl)
  rw [a1, a2] at q
  exact q
theorem pl_tl (h : Tr K Lc Rc par dep J) (C : pl_CT K Lc Rc w al cl cr cp sl bt tp t e) (R : pl_FR K al cl cr cp sl t e S) (D : pl_DN K al e S.1) (B : pl_CS K Lc Rc bt tp e S.1) (hcnt : pl_cnt K al + e = J) (hl : al l = true) (hk : K l = 1) (ht : ¬ l = t) (hp : cp l = p) (hb : (b = 1 ∧ cl p = l ∧ cr p = o) ∨ (b = 0 ∧ cr p = l ∧ cl p = o)) : okTl S (nI l) (nI p) b ∧ pl_IV K Lc Rc w J (e + 1) (p_tl S (nI l) (nI p) b) := by
  have ho : (cl p = l ∧ cr p = o) ∨ (cr p = l ∧ cl p = o) := by
    rcases hb with q | q
    · exact Or.inl q.2
    · exact Or.inr q.2
  obtain ⟨n1, n2, n3, n4, n5, n6, n7, n8, n9, n10⟩ := pl_CT_near C hl hk ht hp ho
  have C2 := C
  obtain ⟨c1, c2, c3, c4, c5⟩ := C2
  obtain ⟨r1, r2, r3, r4, r5, r6, r7⟩ := R
  have l3 := h.lt (c2 l hl).1
  have p3 := h.lt (c2 p n1).1
  have o3 := h.lt (c2 o n3).1
  have sl_l := c2 l hl
  have sl_p := c2 p n1
  have sl_o := c2 o n3
  have hcnt2 := pl_cnt_take (l := l) n1 n2 hk p3
  have J15 := h.J15
  have e15 : e < 15 := by omega
  have xl : ix (nI l) = l := pl_ix (by omega)
  have xp : ix (nI p) = p := pl_ix (by omega)
  have xo : ix (nI o) = o := pl_ix (by omega)
  have xe : ix (S.2 20) = e := by rw [r7]; exact pl_ix (by omega)
  have hoth : p_oth S.1 (nI p) b = nI o := by
    unfold p_oth
    rw [xp]
    rcases hb with ⟨q1, q2, q3⟩ | ⟨q1, q2, q3⟩
    · rw [q1, if_neg (by decide), (r1 p n1 n2).2, q3]
    · rw [q1, if_pos rfl, (r1 p n1 n2).1, q3]
  have hb01 : b = 0 ∨ b = 1 := by
    rcases hb with q | q
    · exact Or.inr q.1
    · exact Or.inl q.1
  have T6 := pl_tl3_6 (nI l) (nI p) b S.1 e
  have T7 := pl_tl3_7 (nI l) (nI p) b S.1 e
  have T8 := pl_tl3_8 (nI l) (nI p) b S.1 e
  have T9 := pl_tl3_9 (nI l) (nI p) b S.1 e
  have Tr_ := pl_tl3_r (nI l) (nI p) b S.1 e
  have Tk := pl_tl3_keep (nI l) (nI p) b S.1 e
  simp only [hoth, xl, xp, xo] at T6 T7 T8 T9 Tr_
  rw [r5 l hl, r5 p n1, r5 o n3] at Tr_
  have hq8 : ¬ p = t → S.1 8 p = nI (cp p) ∧ cp p < 31 := fun q => ⟨r2 p n1 q, h.lt (c2 _ (n10 q).1).1⟩
  have hE : okE (p_tl3 S.1 (nI l) (nI p) b e) e := by
    unfold okE
    rw [(Tr_ e).1, (Tr_ e).2.1, (Tr_ e).2.2.2.2.1, (Tr_ e).2.2.2.2.2.1, (Tr_ e).2.2.2.2.2.2.1, if_pos rfl, if_pos rfl, if_pos rfl, if_pos rfl, if_pos rfl]
    exact ⟨e15, pl_in l3 (by decide), pl_in p3 (by decide), pl_in (by omega) (by decide), pl_in (by omega) (by decide), pl_in (by omega) (by decide)⟩
  constructor
  · unfold okTl
    rw [xp, xe, hoth, r7]
    refine ⟨pl_in l3 (by decide), pl_in p3 (by decide), hb01, pl_in e15 (by decide), pl_in o3 (by decide), fun q => ?_, hE⟩
    by_cases z : p = t
    · rw [z, r3] at q
      exact absurd q (by decide)
    · rw [(hq8 z).1]
      exact pl_in (hq8 z).2 (by decide)
  · have P1 : ∀ a, ¬ a = 14 ∧ ¬ a = 15 → (p_tl S (nI l) (nI p) b).1 a = p_tl3 S.1 (nI l) (nI p) b e a := fun a ha => by
      rw [pl_tl_F S _ _ _ a ha, xe]
    have PW : ∀ a, (p_tl S (nI l) (nI p) b).1 a = p_woF (p_tl3 S.1 (nI l) (nI p) b e) e a := fun a => by
      show p_woF (p_tl3 S.1 (nI l) (nI p) b (ix (S.2 20))) (ix (S.2 20)) a = _
      rw [xe]
    obtain ⟨G20, G10, -, -, -⟩ := pl_tl_G S (nI l) (nI p) b
    rw [xp, hoth] at G10
    rw [r7, nI_1] at G20
    generalize p_tl S (nI l) (nI p) b = S' at P1 PW G20 G10
    have P14 : ∀ n, ¬ n = 31 + e → S'.1 14 n = S.1 14 n ∧ S'.1 15 n = S.1 15 n := fun n hn => by
      rw [PW, PW, pl_wo_14, pl_wo_15, if_neg hn, if_neg hn, Tk 14 (by decide), Tk 15 (by decide)]
      exact ⟨rfl, rfl⟩
    have Q : ∀ n, ¬ n = e → S'.1 21 n = S.1 21 n ∧ S'.1 22 n = S.1 22 n ∧ S'.1 23 n = S.1 23 n ∧ S'.1 24 n = S.1 24 n ∧ S'.1 25 n = S.1 25 n ∧ S'.1 26 n = S.1 26 n ∧ S'.1 27 n = S.1 27 n := fun n hn => by
      obtain ⟨q1, q2, q3, q4, q5, q6, q7, q8⟩ := Tr_ n
      rw [P1 21 (by decide), P1 22 (by decide), P1 23 (by decide), P1 24 (by decide), P1 25 (by decide), P1 26 (by decide), P1 27 (by decide), q1, q2, q3, q4, q5, q6, q7, if_neg hn, if_neg hn, if_neg hn, if_neg hn, if_neg hn, if_neg hn, if_neg hn]
      exact ⟨rfl, rfl, rfl, rfl, rfl, rfl, rfl⟩
    have Qe : S'.1 21 e = nI l ∧ S'.1 22 e = nI p ∧ S'.1 23 e = nI o ∧ S'.1 24 e = b ∧ S'.1 25 e = nI (sl l) ∧ S'.1 26 e = nI (sl p) ∧ S'.1 27 e = nI (sl o) := by
      obtain ⟨q1, q2, q3, q4, q5, q6, q7, q8⟩ := Tr_ e
      rw [P1 21 (by decide), P1 22 (by decide), P1 23 (by decide), P1 24 (by decide), P1 25 (by decide), P1 26 (by decide), P1 27 (by decide), q1, q2, q3, q4, q5, q6, q7, if_pos rfl, if_pos rfl, if_pos rfl, if_pos rfl, if_pos rfl, if_pos rfl, if_pos rfl]
      exact ⟨rfl, rfl, rfl, rfl, rfl, rfl, rfl⟩
    have Q28 : ∀ n, S'.1 28 n = if n = p then nI e else S.1 28 n := fun n => by
      rw [P1 28 (by decide)]
      exact (Tr_ n).2.2.2.2.2.2.2
    have Q8 : ∀ n, S'.1 8 n = if n = l then -1 else if n = o then S.1 8 p else S.1 8 n := fun n => by
      rw [P1 8 (by decide)]
      exact T8 n
    have Q9 : ∀ n, S'.1 9 n = if n = o then nI (31 + e) else S.1 9 n := fun n => by
      rw [P1 9 (by decide)]
      exact T9 n
    -- the record
    have B' : pl_CS K Lc Rc (va_up bt (31 + e) o) (va_up tp (31 + e) (tp (sl p))) (e + 1) S'.1 := by
      refine ⟨fun s hs => ?_, fun i hi => ?_⟩
      · rw [(P14 s (by omega)).1, (P14 s (by omega)).2, pl_up, pl_up, if_neg (by omega), if_neg (by omega)]
        exact B.1 s hs
      · by_cases z : i = e
        · subst z
          obtain ⟨g1, g2, g3, g4, g5, g6, g7⟩ := Qe
          have x1 : ix (nI (sl l)) = sl l := pl_ix (by omega)
          have x2 : ix (nI (sl p)) = sl p := pl_ix (by omega)
          have x3 : ix (nI (sl o)) = sl o := pl_ix (by omega)
          refine ⟨?_, pl_NE_wo (F := p_tl3 S.1 (nI l) (nI p) b i) ?_ (fun a _ => PW a)⟩
          · unfold pl_SF okE
            rw [g1, g2, g3, g4, g5, g6, g7, x1, x2, x3, xl, xp, xo]
            simp only [pl_up]
            rw [if_neg (by omega), if_neg (by omega), if_neg (by omega), if_neg (by omega), if_neg (by omega), if_pos trivial, if_pos trivial, if_neg (by omega)]
            have c3p := c3 p n1 n2
            refine ⟨⟨e15, pl_in l3 (by decide), pl_in p3 (by decide), pl_in (by omega) (by decide), pl_in (by omega) (by decide), pl_in (by omega) (by decide)⟩, pl_in o3 (by decide), hk, n2, sl_o.1, ⟨sl_l.2.2.1, sl_p.2.2.1, sl_o.2.2.1⟩, sl_l.2.2.2, sl_p.2.2.2, sl_o.2.2.2, fun q => ?_, fun q => ?_, rfl, rfl⟩
            · rcases hb with ⟨q1, q2, q3⟩ | ⟨q1, q2, q3⟩
              · rw [q1] at q
                exact absurd q (by decide)
              · rw [← q2, ← q3]
                exact ⟨c3p.2.2.2.2.2.2.2.2.2, c3p.2.2.2.2.2.2.2.2.1⟩
            · rcases hb with ⟨q1, q2, q3⟩ | ⟨q1, q2, q3⟩
              · rw [← q2, ← q3]
                exact ⟨c3p.2.2.2.2.2.2.2.2.1, c3p.2.2.2.2.2.2.2.2.2⟩
              · exact absurd q1 q
          · obtain ⟨q1, q2, q3, q4, q5, q6, q7, q8⟩ := Tr_ i
            rw [q5, q6, q7, if_pos rfl, if_pos rfl, if_pos rfl, x1, x2, x3]
            exact ⟨sl_l.2.2.1, sl_p.2.2.1, sl_o.2.2.1⟩
        · obtain ⟨hf, hn⟩ := B.2 i (by omega)
          obtain ⟨g1, g2, g3, g4, g5, g6, g7⟩ := Q i z
          obtain ⟨f1, f2, f3, f4, f5, ⟨f6, f7, f8⟩, -⟩ := hf
          refine ⟨pl_SF_bt (bt := bt) (tp := tp) (fun s hs => ?_) (pl_SF_of (F := S.1) g1 g2 g3 g4 g5 g6 g7 (B.2 i (by omega)).1), pl_NE_of (F := S.1) g1 g2 g4 g5 g6 g7 ?_ ?_ (P14 _ (by omega)) (P14 _ (by omega)) (P14 _ (by omega)) (P14 _ (by omega)) hn⟩
          · rw [pl_up, pl_up, if_neg (by omega), if_neg (by omega)]
            exact ⟨rfl, rfl⟩
          · rw [P1 1 (by decide), Tk 1 (by decide)]
          · rw [P1 2 (by decide), Tk 2 (by decide)]
    have al_o : va_up (va_up al l false) p false o = true := (pl_al o).mpr ⟨n3, n4, n5⟩
    have D' : pl_DN K (va_up (va_up al l false) p false) (e + 1) S'.1 := by
      intro n k2 hn
      by_cases z : n = p
      · refine ⟨e, by omega, ?_, ?_, fun _ => Or.inl ?_⟩
        · rw [Q28, if_pos z]
        · rw [Qe.2.1, xp, z]
        · rw [Qe.2.2.1, xo]
          exact al_o
      · have an : al n = false := by
          cases hb2 : al n with
          | false => rfl
          | true =>
            have := (pl_al (al := al) (l := l) (p := p) n).mpr ⟨hb2, fun y => by rw [y] at k2; omega, z⟩
            rw [hn] at this
            exact absurd this (by decide)
        obtain ⟨i, i1, i2, i3, i4⟩ := D n k2 an
        have Qi := Q i (by omega)
        refine ⟨i, by omega, ?_, ?_, fun q => ?_⟩
        · rw [Q28, if_neg z, i2]
        · rw [Qi.2.1, i3]
        · rw [Qi.2.2.1] at q ⊢
          by_cases y : ix (S.1 23 i) = p
          · exact Or.inr ⟨e, i1, by omega, by rw [Q28, if_pos y]⟩
          · rcases i4 q with u | ⟨i5, u1, u2, u3⟩
            · exact Or.inl ((pl_al _).mpr ⟨u, fun v => by rw [v] at q; omega, y⟩)
            · exact Or.inr ⟨i5, u1, by omega, by rw [Q28, if_neg y, u3]⟩
    have E4 : ∀ n, K n = 1 → va_up (va_up al l false) p false n = false → S'.1 8 n = -1 := by
      intro n k1 hn
      rw [Q8]
      by_cases z : n = l
      · rw [if_pos z]
      · rw [if_neg z]
        have zp : ¬ n = p := fun y => by rw [y] at k1; omega
        have an : al n = false := by
          cases hb2 : al n with
          | false => rfl
          | true =>
            have := (pl_al (al := al) (l := l) (p := p) n).mpr ⟨hb2, z, zp⟩
            rw [hn] at this
            exact absurd this (by decide)
        rw [if_neg (fun y => by rw [y, n3] at an; exact absurd an (by decide))]
        exact r4 n k1 an
    have E5 : ∀ n, va_up (va_up al l false) p false n = true → S'.1 9 n = nI (va_up sl o (31 + e) n) := by
      intro n hn
      rw [Q9, pl_up]
      by_cases z : n = o
      · rw [if_pos z, if_pos z]
      · rw [if_neg z, if_neg z]
        exact r5 n ((pl_al n).mp hn).1
    by_cases hpt : p = t
    · have q8 : ¬ (0 : Int32) ≤ S.1 8 p := by rw [hpt, r3]; decide
      rw [if_neg q8] at G10
      refine ⟨va_up (va_up al l false) p false, cl, cr, va_up cp o (cp p), va_up sl o (31 + e), va_up bt (31 + e) o, va_up tp (31 + e) (tp (sl p)), o, pl_CT_top C hl hk ht hp ho hpt, ⟨fun n hn k2 => ?_, fun n hn hno => ?_, ?_, E4, E5, G10, G20⟩, D', B', by omega⟩
      · obtain ⟨a1, a2, a3⟩ := (pl_al n).mp hn
        rw [P1 6 (by decide), P1 7 (by decide), T6, T7, if_neg (fun y => q8 y.1), if_neg (fun y => q8 y.1)]
        exact r1 n a1 k2
      · obtain ⟨a1, a2, a3⟩ := (pl_al n).mp hn
        rw [Q8, if_neg a2, if_neg hno, pl_up, if_neg hno]
        exact r2 n a1 (fun y => a3 (by rw [y, hpt]))
      · rw [Q8, if_neg n4, if_pos rfl, hpt]
        exact r3
    · obtain ⟨q8, q3⟩ := hq8 hpt
      obtain ⟨m1, m2, m3, m4, m5, m6⟩ := n10 hpt
      have xq : ix (S.1 8 p) = cp p := by rw [q8]; exact pl_ix (by omega)
      have pos : (0 : Int32) ≤ S.1 8 p := by rw [q8]; exact pl_pos' (by omega)
      have cl3 := h.lt (c2 _ (c3 _ m1 m2).1).1
      rw [if_pos pos, r6] at G10
      rw [xq, (r1 _ m1 m2).1] at T6 T7
      have E2 : ∀ n, va_up (va_up al l false) p false n = true → ¬ n = t → S'.1 8 n = nI (va_up cp o (cp p) n) := by
        intro n hn hno
        obtain ⟨a1, a2, a3⟩ := (pl_al n).mp hn
        rw [Q8, if_neg a2, pl_up]
        by_cases z : n = o
        · rw [if_pos z, if_pos z, q8]
        · rw [if_neg z, if_neg z]
          exact r2 n a1 hno
      have E3 : S'.1 8 t = -1 := by
        rw [Q8, if_neg (fun y => ht y.symm), if_neg (fun y => n7 y.symm)]
        exact r3
      by_cases side : cl (cp p) = p
      · refine ⟨va_up (va_up al l false) p false, va_up cl (cp p) o, cr, va_up cp o (cp p), va_up sl o (31 + e), va_up bt (31 + e) o, va_up tp (31 + e) (tp (sl p)), t, pl_CT_sub C hl hk ht hp ho hpt (Or.inl ⟨side, rfl, rfl⟩), ⟨fun n hn k2 => ?_, E2, E3, E4, E5, G10, G20⟩, D', B', by omega⟩
        obtain ⟨a1, a2, a3⟩ := (pl_al n).mp hn
        rw [P1 6 (by decide), P1 7 (by decide), T6, T7, side, if_neg (c := 0 ≤ S.1 8 p ∧ ¬ nI p = nI p ∧ n = cp p) (fun y => y.2.1 rfl), pl_up]
        refine ⟨?_, (r1 n a1 k2).2⟩
        by_cases z : n = cp p
        · rw [if_pos ⟨pos, rfl, z⟩, if_pos z]
        · rw [if_neg (fun y => z y.2.2), if_neg z]
          exact (r1 n a1 k2).1
      · have ne : ¬ nI (cl (cp p)) = nI p := fun y => side (pl_nI (by omega) (by omega) y)
        have side2 : cr (cp p) = p := by
          rcases m3 with y | y
          · exact absurd y side
          · exact y
        refine ⟨va_up (va_up al l false) p false, cl, va_up cr (cp p) o, va_up cp o (cp p), va_up sl o (31 + e), va_up bt (31 + e) o, va_up tp (31 + e) (tp (sl p)), t, pl_CT_sub C hl hk ht hp ho hpt (Or.inr ⟨side2, rfl, rfl⟩), ⟨fun n hn k2 => ?_, E2, E3, E4, E5, G10, G20⟩, D', B', by omega⟩
        obtain ⟨a1, a2, a3⟩ := (pl_al n).mp hn
        rw [P1 6 (by decide), P1 7 (by decide), T6, T7, if_neg (fun y => ne y.2.1), pl_up]
        refine ⟨(r1 n a1 k2).1, ?_⟩
        by_cases z : n = cp p
        · rw [if_pos ⟨pos, ne, z⟩, if_pos z]
        · rw [if_neg (fun y => z y.2.2), if_neg z]
          exact (r1 n a1 k2).2
end TK
end
section
/-! takeLeaves, listLeaves and the rounds -/
def pl_KP (S S' : xS) : Prop := (∀ a, a < 6 → S'.1 a = S.1 a) ∧ S'.1 12 = S.1 12 ∧ S'.2 11 = S.2 11 ∧ S'.2 19 = S.2 19 ∧ S'.2 5 = S.2 5
theorem pl_KP_refl (S : xS) : pl_KP S S := ⟨fun _ _ => rfl, rfl, rfl, rfl, rfl⟩
theorem pl_KP_trans {S T U : xS} (h1 : pl_KP S T) (h2 : pl_KP T U) : pl_KP S U := ⟨fun a ha => (h2.1 a ha).trans (h1.1 a ha), h2.2.1.trans h1.2.1, h2.2.2.1.trans h1.2.2.1, h2.2.2.2.1.trans h1.2.2.2.1, h2.2.2.2.2.trans h1.2.2.2.2⟩
theorem pl_KP_tl (S : xS) (l p b : Int32) : pl_KP S (p_tl S l p b) := by
  obtain ⟨g1, g2, g3, g4, g5⟩ := pl_tl_G S l p b
  refine ⟨fun a ha => ?_, ?_, g3, g4, g5⟩
  · rw [pl_tl_F S l p b a (by omega), pl_tl3_keep l p b S.1 _ a (by omega)]
  · rw [pl_tl_F S l p b 12 (by decide), pl_tl3_keep l p b S.1 _ 12 (by decide)]
section RND
variable {K Lc Rc par dep w : Nat → Nat} {J e : Nat} {S : xS} {b : Int32}
/-- the leaf stands under a joint, on the side that b says -/
def pl_can (S : xS) (b : Int32) (l : Nat) : Prop := ¬ S.1 8 l < 0 ∧ p_isL S.1 (nI l) (S.1 8 l) = b
theorem pl_tsB (h : Tr K Lc Rc par dep J) (I : pl_IV K Lc Rc w J e S) {i l : Nat} (h12 : S.1 12 (2 * i) = nI l) (hk : K l = 1) : okTsB b i S ∧ pl_KP S (p_tsB b i S) ∧ ((p_tsB b i S = S ∧ ¬ pl_can S b l) ∨ pl_IV K Lc Rc w J (e + 1) (p_tsB b i S)) := by
  obtain ⟨al, cl, cr, cp, sl, bt, tp, t, C, R, D, B, hcnt⟩ := I
  have C2 := C
  obtain ⟨c1, c2, c3, c4, c5⟩ := C2
  have R2 := R
  obtain ⟨r1, r2, r3, r4, r5, r6, r7⟩ := R2
  have l3 := h.lt (n := l) (by omega)
  have xl : ix (nI l) = l := pl_ix (by omega)
  have vl : vp_in (nI l) 31 := pl_in l3 (by decide)
  unfold okTsB p_tsB
  rw [h12, xl]
  have gone : S.1 8 l = -1 → (vp_in (nI l) 31 ∧ (¬ S.1 8 l < 0 → vp_in (S.1 8 l) 31) ∧ (¬ S.1 8 l < 0 → p_isL S.1 (nI l) (S.1 8 l) = b → okTl S (nI l) (S.1 8 l) b)) ∧ pl_KP S (if S.1 8 l < 0 then S else if p_isL S.1 (nI l) (S.1 8 l) = b then p_tl S (nI l) (S.1 8 l) b else S) ∧ (((if S.1 8 l < 0 then S else if p_isL S.1 (nI l) (S.1 8 l) = b then p_tl S (nI l) (S.1 8 l) b else S) = S ∧ ¬ pl_can S b l) ∨ pl_IV K Lc Rc w J (e + 1) (if S.1 8 l < 0 then S else if p_isL S.1 (nI l) (S.1 8 l) = b then p_tl S (nI l) (S.1 8 l) b else S)) := by
    intro q
    have q0 : S.1 8 l < 0 := by rw [q]; decide
    rw [if_pos q0]
    exact ⟨⟨vl, fun z => absurd q0 z, fun z => absurd q0 z⟩, pl_KP_refl S, Or.inl ⟨rfl, fun z => z.1 q0⟩⟩
  cases ha : al l with
  | false => exact gone (r4 l hk ha)
  | true =>
    by_cases ht : l = t
    · exact gone (by rw [ht]; exact r3)
    · have q8 := r2 l ha ht
      obtain ⟨a1, a2, a3⟩ := c4 l ha ht
      have p3 := h.lt (c2 _ a1).1
      have q0 : ¬ S.1 8 l < 0 := by rw [q8]; exact pl_pos (by omega)
      have cl3 := h.lt (c2 _ (c3 _ a1 a2).1).1
      have xp : ix (nI (cp l)) = cp l := pl_ix (by omega)
      have q6 := (r1 _ a1 a2).1
      rw [if_neg q0]
      have hside : ∀ o, ((b = 1 ∧ cl (cp l) = l ∧ cr (cp l) = o) ∨ (b = 0 ∧ cr (cp l) = l ∧ cl (cp l) = o)) → p_isL S.1 (nI l) (S.1 8 l) = b → (vp_in (nI l) 31 ∧ (¬ S.1 8 l < 0 → vp_in (S.1 8 l) 31) ∧ (¬ S.1 8 l < 0 → p_isL S.1 (nI l) (S.1 8 l) = b → okTl S (nI l) (S.1 8 l) b)) ∧ pl_KP S (if p_isL S.1 (nI l) (S.1 8 l) = b then p_tl S (nI l) (S.1 8 l) b else S) ∧ (((if p_isL S.1 (nI l) (S.1 8 l) = b then p_tl S (nI l) (S.1 8 l) b else S) = S ∧ ¬ pl_can S b l) ∨ pl_IV K Lc Rc w J (e + 1) (if p_isL S.1 (nI l) (S.1 8 l) = b then p_tl S (nI l) (S.1 8 l) b else S)) := by
        intro o hb q
        rw [if_pos q, q8]
        have T := pl_tl h C R D B hcnt ha hk ht rfl hb
        exact ⟨⟨vl, fun _ => pl_in p3 (by decide), fun _ _ => T.1⟩, pl_KP_tl _ _ _ _, Or.inr T.2⟩
      have hnot : ¬ p_isL S.1 (nI l) (S.1 8 l) = b → (vp_in (nI l) 31 ∧ (¬ S.1 8 l < 0 → vp_in (S.1 8 l) 31) ∧ (¬ S.1 8 l < 0 → p_isL S.1 (nI l) (S.1 8 l) = b → okTl S (nI l) (S.1 8 l) b)) ∧ pl_KP S (if p_isL S.1 (nI l) (S.1 8 l) = b then p_tl S (nI l) (S.1 8 l) b else S) ∧ (((if p_isL S.1 (nI l) (S.1 8 l) = b then p_tl S (nI l) (S.1 8 l) b else S) = S ∧ ¬ pl_can S b l) ∨ pl_IV K Lc Rc w J (e + 1) (if p_isL S.1 (nI l) (S.1 8 l) = b then p_tl S (nI l) (S.1 8 l) b else S)) := by
        intro q
        rw [if_neg q]
        refine ⟨⟨vl, fun _ => ?_, fun _ z => absurd z q⟩, pl_KP_refl S, Or.inl ⟨rfl, fun z => q z.2⟩⟩
        rw [q8]
        exact pl_in p3 (by decide)
      by_cases q : p_isL S.1 (nI l) (S.1 8 l) = b
      · have q2 := q
        unfold p_isL at q2
        rw [if_neg q0, q8, xp, q6] at q2
        by_cases side : cl (cp l) = l
        · rw [side, if_pos rfl] at q2
          exact hside (cr (cp l)) (Or.inl ⟨q2.symm, side, rfl⟩) q
        · rw [if_neg (fun z => side (pl_nI (by omega) (by omega) z))] at q2
          refine hside (cl (cp l)) (Or.inr ⟨q2.symm, ?_, rfl⟩) q
          rcases a3 with z | z
          · exact absurd z side
          · exact z
      · exact hnot q
theorem pl_ts (h : Tr K Lc Rc par dep J) (I : pl_IV K Lc Rc w J e S) {m : Nat} (hr : ∀ i, i < m → ∃ l, S.1 12 (2 * i) = nI l ∧ K l = 1) : ∀ i, i ≤ m → ∃ e', e ≤ e' ∧ pl_IV K Lc Rc w J e' (lpN (p_tsB b) i S) ∧ pl_KP S (lpN (p_tsB b) i S) ∧ (∀ k, k < i → okTsB b k (lpN (p_tsB b) k S)) ∧ (e' = e → lpN (p_tsB b) i S = S ∧ ∀ k l, k < i → S.1 12 (2 * k) = nI l → K l = 1 → ¬ pl_can S b l) := by
  intro i
  induction i with
  | zero => intro _; exact ⟨e, Nat.le_refl _, I, pl_KP_refl S, fun k hk => absurd hk (Nat.not_lt_zero k), fun _ => ⟨rfl, fun k l hk => absurd hk (Nat.not_lt_zero k)⟩⟩
  | succ i ih =>
    intro hi
    obtain ⟨e', g1, g2, g3, g4, g5⟩ := ih (by omega)
    obtain ⟨l, hl, kl⟩ := hr i (by omega)
    have hl2 : (lpN (p_tsB b) i S).1 12 (2 * i) = nI l := by rw [g3.2.1]; exact hl
    obtain ⟨s1, s2, s3⟩ := pl_tsB (b := b) h g2 hl2 kl
    rw [lpN_succ]
    have ok : ∀ k, k < i + 1 → okTsB b k (lpN (p_tsB b) k S) := fun k hk => by
      by_cases z : k = i
      · rw [z]; exact s1
      · exact g4 k (by omega)
    rcases s3 with ⟨q1, q2⟩ | q
    · rw [q1]
      refine ⟨e', g1, g2, g3, ok, fun z => ?_⟩
      obtain ⟨g6, g7⟩ := g5 z
      refine ⟨g6, fun k l2 hk h12 kl2 => ?_⟩
      by_cases y : k = i
      · rw [y] at h12
        have : l2 = l := by
          have a1 := h.lt (n := l) (by omega)
          have a2 := h.lt (n := l2) (by omega)
          exact pl_nI (by omega) (by omega) (by rw [← h12, hl])
        rw [this]
        rw [g6] at q2
        exact q2
      · exact g7 k l2 (by omega) h12 kl2
    · exact ⟨e' + 1, by omega, q, pl_KP_trans g3 s2, ok, fun z => absurd z (by omega)⟩
theorem sm_ge {f : Nat → Nat} {k : Nat} (h : ∀ i, i < k → 1 ≤ f i) : k ≤ sm f k := by
  induction k with
  | zero => exact Nat.le_refl _
  | succ k ih =>
    have h1 := ih (fun i hi => h i (by omega))
    have h2 := h k (by omega)
    simp only [sm]
    omega
theorem pl_llL {al : Nat → Bool} {cl cr cp sl bt tp : Nat → Nat} {t : Nat} {F0 : xF} (h : Tr K Lc Rc par dep J) (C : pl_CT K Lc Rc w al cl cr cp sl bt tp t e) (h0 : ∀ n, F0 0 n = nI (K n)) (r1 : ∀ n, al n = true → K n = 2 → F0 6 n = nI (cl n) ∧ F0 7 n = nI (cr n)) : ∀ (tt : Nat) (F : xF) (G : xG) (d lv : Nat), (∀ a, a ≠ 12 ∧ a ≠ 13 → F a = F0 a) → G 11 = nI lv → (∀ i, i < d → ∃ n, F 13 i = nI n ∧ al n = true) → sm (fun i => w (ix (F 13 i))) d + lv ≤ 16 → (∀ k, k < lv → ∃ n, F 12 k = nI n ∧ K n = 1 ∧ al n = true) → (1 ≤ lv ∨ ∃ d', d = d' + 1 ∧ w (ix (F 13 d')) ≤ tt) → okLL tt F G d ∧ (∀ a, a ≠ 12 ∧ a ≠ 13 → (p_llL tt F G d).1 a = F0 a) ∧ (∀ a, a ≠ 11 → (p_llL tt F G d).2 a = G a) ∧ ∃ lv', 1 ≤ lv' ∧ lv' ≤ 16 ∧ (p_llL tt F G d).2 11 = nI lv' ∧ ∀ k, k < lv' → ∃ n, (p_llL tt F G d).1 12 k = nI n ∧ K n = 1 ∧ al n = true := by
  obtain ⟨c1, c2, c3, c4, c5⟩ := C
  intro tt
  induction tt with
  | zero =>
    intro F G d lv hk hG hst hsm hrow hdis
    have hlv : 1 ≤ lv := by
      rcases hdis with q | ⟨d', q1, q2⟩
      · exact q
      · obtain ⟨n, a1, a2⟩ := hst d' (by omega)
        have b1 := c2 n a2
        have b2 := h.lt b1.1
        rw [a1, pl_ix (by omega)] at q2
        omega
    exact ⟨trivial, hk, fun a _ => rfl, lv, hlv, by omega, hG, hrow⟩
  | succ tt ih =>
    intro F G d lv hk hG hst hsm hrow hdis
    cases d with
    | zero =>
      have hlv : 1 ≤ lv := by
        rcases hdis with q | ⟨d', q1, q2⟩
        · exact q
        · omega
      exact ⟨trivial, hk, fun a _ => rfl, lv, hlv, by omega, hG, hrow⟩
    | succ d =>
      obtain ⟨n, a1, a2⟩ := hst d (by omega)
      have b1 := c2 n a2
      have n3 := h.lt b1.1
      have xn : ix (F 13 d) = n := by rw [a1]; exact pl_ix (by omega)
      have hd16 : d + 1 ≤ sm (fun i => w (ix (F 13 i))) (d + 1) := sm_ge (fun i hi => by
        obtain ⟨m, e1, e2⟩ := hst i hi
        have e3 := c2 m e2
        have e4 := h.lt e3.1
        show 1 ≤ w (ix (F 13 i))
        rw [e1, pl_ix (by omega)]
        exact e3.2.1)
      have hsm2 : sm (fun i => w (ix (F 13 i))) (d + 1) = sm (fun i => w (ix (F 13 i))) d + w n := by
        simp only [sm]
        rw [xn]
      have vn : vp_in (F 13 d) 31 := by rw [a1]; exact pl_in n3 (by decide)
      have hK : F 0 n = nI (K n) := by rw [hk 0 (by decide)]; exact h0 n
      by_cases k1 : K n = 1
      · have e1 : F 0 (ix (F 13 d)) = 1 := by rw [xn, hK, k1]; rfl
        have xlv : ix (G 11) = lv := by rw [hG]; exact pl_ix (by omega)
        have g := ih (fS F 12 lv (nI n)) (gS G 11 (nI (lv + 1))) d (lv + 1) (fun a ha => by rw [fS_ne ha.1]; exact hk a ha) rfl (fun i hi => by rw [fS_ne (by decide)]; exact hst i (by omega)) (by rw [fS_ne (by decide)]; omega) (fun k hk2 => by
          rw [fS_at]
          by_cases z : k = lv
          · rw [if_pos z]
            exact ⟨n, rfl, k1, a2⟩
          · rw [if_neg z]
            exact hrow k (by omega)) (Or.inl (by omega))
        have hstep : p_llL (tt + 1) F G (d + 1) = p_llL tt (fS F 12 lv (nI n)) (gS G 11 (nI (lv + 1))) d := by
          rw [p_llL, if_pos e1, xlv, a1, hG, nI_1]
        rw [hstep]
        obtain ⟨g1, g2, g3, g4⟩ := g
        refine ⟨?_, g2, fun a ha => ?_, g4⟩
        · rw [okLL]
          refine ⟨by omega, vn, fun _ => ⟨?_, ?_⟩, fun z => absurd e1 z⟩
          · rw [hG]; exact pl_in (by omega) (by decide)
          · rw [xlv, a1, hG, nI_1]
            exact g1
        · rw [g3 a ha, gS_eq, if_neg ha]
      · have k2 : K n = 2 := by
          have := h.k2 n
          omega
        have e1 : ¬ F 0 (ix (F 13 d)) = 1 := by
          rw [xn, hK, k2]
          decide
        obtain ⟨l1, l2⟩ := r1 n a2 k2
        have e6 : F 6 (ix (F 13 d)) = nI (cl n) := by rw [xn, hk 6 (by decide)]; exact l1
        have e7 : F 7 (ix (F 13 d)) = nI (cr n) := by rw [xn, hk 7 (by decide)]; exact l2
        obtain ⟨m1, m2, m3, m4, m5, m6, m7⟩ := c3 n a2 k2
        have w1 := c2 _ m1
        have w2 := c2 _ m2
        have t1 := h.lt w1.1
        have t2 := h.lt w2.1
        have rd : ∀ i, fS (fS F 13 d (nI (cr n))) 13 (d + 1) (nI (cl n)) 13 i = if i = d + 1 then nI (cl n) else if i = d then nI (cr n) else F 13 i := fun i => by
          rw [fS_at, fS_at]
        have sm3 : sm (fun i => w (ix (fS (fS F 13 d (nI (cr n))) 13 (d + 1) (nI (cl n)) 13 i))) (d + 2) = sm (fun i => w (ix (F 13 i))) d + w (cr n) + w (cl n) := by
          have s1 : sm (fun i => w (ix (fS (fS F 13 d (nI (cr n))) 13 (d + 1) (nI (cl n)) 13 i))) d = sm (fun i => w (ix (F 13 i))) d := sm_congr (fun i hi => by
            show w (ix (fS (fS F 13 d (nI (cr n))) 13 (d + 1) (nI (cl n)) 13 i)) = _
            rw [rd, if_neg (by omega), if_neg (by omega)])
          have s2 : ix (fS (fS F 13 d (nI (cr n))) 13 (d + 1) (nI (cl n)) 13 d) = cr n := by
            rw [rd, if_neg (by omega), if_pos rfl]
            exact pl_ix (by omega)
          have s3 : ix (fS (fS F 13 d (nI (cr n))) 13 (d + 1) (nI (cl n)) 13 (d + 1)) = cl n := by
            rw [rd, if_pos rfl]
            exact pl_ix (by omega)
          show sm (fun i => w (ix (fS (fS F 13 d (nI (cr n))) 13 (d + 1) (nI (cl n)) 13 i))) d + w (ix (fS (fS F 13 d (nI (cr n))) 13 (d + 1) (nI (cl n)) 13 d)) + w (ix (fS (fS F 13 d (nI (cr n))) 13 (d + 1) (nI (cl n)) 13 (d + 1))) = _
          rw [s1, s2, s3]
        have g := ih (fS (fS F 13 d (nI (cr n))) 13 (d + 1) (nI (cl n))) G (d + 2) lv (fun a ha => by rw [fS_ne ha.2, fS_ne ha.2]; exact hk a ha) hG (fun i hi => by
          rw [rd]
          by_cases z1 : i = d + 1
          · rw [if_pos z1]; exact ⟨_, rfl, m1⟩
          · rw [if_neg z1]
            by_cases z2 : i = d
            · rw [if_pos z2]; exact ⟨_, rfl, m2⟩
            · rw [if_neg z2]; exact hst i (by omega)) (by rw [sm3]; omega) (fun k hk2 => by rw [fS_ne (by decide), fS_ne (by decide)]; exact hrow k hk2) (by
          rcases hdis with q | ⟨d', q1, q2⟩
          · exact Or.inl q
          · have : d' = d := by omega
            subst this
            refine Or.inr ⟨d' + 1, rfl, ?_⟩
            rw [rd, if_pos rfl, pl_ix (by omega)]
            rw [xn] at q2
            omega)
        have hstep : p_llL (tt + 1) F G (d + 1) = p_llL tt (fS (fS F 13 d (nI (cr n))) 13 (d + 1) (nI (cl n))) G (d + 2) := by
          rw [p_llL, if_neg e1, e6, e7]
        rw [hstep]
        obtain ⟨g1, g2, g3, g4⟩ := g
        refine ⟨?_, g2, g3, g4⟩
        rw [okLL]
        refine ⟨by omega, vn, fun z => absurd z e1, fun _ => ?_⟩
        rw [e6, e7]
        exact g1
end RND
end
section
/-! contract: from the tree as it stands to a contracted one -/
theorem pl_CS_of12 {K Lc Rc bt tp : Nat → Nat} {E : Nat} {F F' : xF} (hk : ∀ a, a ≠ 12 ∧ a ≠ 13 → F' a = F a) (h : pl_CS K Lc Rc bt tp E F) : pl_CS K Lc Rc bt tp E F' := by
  have h1 := hk 1 (by decide)
  have h2 := hk 2 (by decide)
  have h14 := hk 14 (by decide)
  have h15 := hk 15 (by decide)
  have h21 := hk 21 (by decide)
  have h22 := hk 22 (by decide)
  have h23 := hk 23 (by decide)
  have h24 := hk 24 (by decide)
  have h25 := hk 25 (by decide)
  have h26 := hk 26 (by decide)
  have h27 := hk 27 (by decide)
  refine ⟨fun s hs => by rw [h14, h15]; exact h.1 s hs, fun e he => ⟨pl_SF_of (by rw [h21]) (by rw [h22]) (by rw [h23]) (by rw [h24]) (by rw [h25]) (by rw [h26]) (by rw [h27]) (h.2 e he).1, pl_NE_of (by rw [h21]) (by rw [h22]) (by rw [h24]) (by rw [h25]) (by rw [h26]) (by rw [h27]) (by rw [h1]) (by rw [h2]) (by rw [h14, h15]; exact ⟨rfl, rfl⟩) (by rw [h14, h15]; exact ⟨rfl, rfl⟩) (by rw [h14, h15]; exact ⟨rfl, rfl⟩) (by rw [h14, h15]; exact ⟨rfl, rfl⟩) (h.2 e he).2⟩⟩
section CON
variable {K Lc Rc par dep w : Nat → Nat} {J e : Nat}
/-- a round: the invariant stays and at least one step is made -/
theorem pl_rd (h : Tr K Lc Rc par dep J) (hw : ∀ n, w n ≤ 16) {S : xS} (h0 : ∀ n, S.1 0 n = nI (K n)) (I : pl_IV K Lc Rc w J e S) (htop : ∀ t, S.2 10 = nI t → t < 31 → K t = 2) : ok_ll S ∧ ok_ts 1 (p_ll S) ∧ ok_ts 0 (p_ts 1 (p_ll S)) ∧ (∀ a, a < 6 → (p_rd S).1 a = S.1 a) ∧ (p_rd S).2 19 = S.2 19 ∧ (p_rd S).2 5 = S.2 5 ∧ ∃ e', e + 1 ≤ e' ∧ pl_IV K Lc Rc w J e' (p_rd S) := by
  obtain ⟨al, cl, cr, cp, sl, bt, tp, t, C, R, D, B, hcnt⟩ := I
  have C2 := C
  obtain ⟨c1, c2, c3, c4, c5⟩ := C2
  have R2 := R
  obtain ⟨r1, r2, r3, r4, r5, r6, r7⟩ := R2
  have t3 := h.lt (c2 t c1).1
  have kt := htop t r6 t3
  have xt : ix (nI t) = t := pl_ix (by omega)
  have L := pl_llL h C h0 r1 32 (fS S.1 13 0 (S.2 10)) (gS S.2 11 0) 1 0 (fun a ha => fS_ne ha.2) rfl (fun i hi => by
    have : i = 0 := by omega
    rw [this, fS_at, if_pos rfl, r6]
    exact ⟨t, rfl, c1⟩) (by
    show 0 + w (ix (fS S.1 13 0 (S.2 10) 13 0)) + 0 ≤ 16
    rw [fS_at, if_pos rfl, r6, xt]
    have := hw t
    omega) (fun k hk => absurd hk (Nat.not_lt_zero k)) (Or.inr ⟨0, rfl, by
    rw [fS_at, if_pos rfl, r6, xt]
    have := hw t
    omega⟩)
  obtain ⟨L1, L2, L3, lv, v1, v2, v3, v4⟩ := L
  have okll : ok_ll S := L1
  have kp1 : ∀ a, a ≠ 12 ∧ a ≠ 13 → (p_ll S).1 a = S.1 a := L2
  have kg1 : ∀ a, a ≠ 11 → (p_ll S).2 a = S.2 a := fun a ha => by
    have := L3 a ha
    rw [gS_eq, if_neg ha] at this
    exact this
  have v3' : (p_ll S).2 11 = nI lv := v3
  have v4' : ∀ k, k < lv → ∃ n, (p_ll S).1 12 k = nI n ∧ K n = 1 ∧ al n = true := v4
  have I1 : pl_IV K Lc Rc w J e (p_ll S) := by
    refine ⟨al, cl, cr, cp, sl, bt, tp, t, C, ?_, ?_, pl_CS_of12 kp1 B, hcnt⟩
    · unfold pl_FR
      rw [kp1 6 (by decide), kp1 7 (by decide), kp1 8 (by decide), kp1 9 (by decide), kg1 10 (by decide), kg1 20 (by decide)]
      exact R
    · unfold pl_DN
      rw [kp1 28 (by decide), kp1 22 (by decide), kp1 23 (by decide)]
      exact D
  obtain ⟨l0, z1, z2, z3⟩ := v4' 0 (by omega)
  have lt0 : ¬ l0 = t := fun q => by rw [q] at z2; omega
  have z8 : (p_ll S).1 8 l0 = nI (cp l0) := by rw [kp1 8 (by decide)]; exact r2 l0 z3 lt0
  have zc := c4 l0 z3 lt0
  have zp := h.lt (c2 _ zc.1).1
  rw [show p_rd S = p_ts 0 (p_ts 1 (p_ll S)) from rfl]
  generalize p_ll S = S1 at I1 kp1 kg1 v3' v4' z1 z8 ⊢
  have hh : p_half (S1.2 11) = (lv + 1) / 2 := by
    unfold p_half
    rw [v3', pl_ix (by omega)]
  have rows : ∀ i, i < (lv + 1) / 2 → ∃ l, S1.1 12 (2 * i) = nI l ∧ K l = 1 := fun i hi => by
    obtain ⟨n, q1, q2, q3⟩ := v4' (2 * i) (by omega)
    exact ⟨n, q1, q2⟩
  obtain ⟨e1, y1, y2, y3, y4, y5⟩ := pl_ts (b := 1) h I1 rows _ (Nat.le_refl _)
  have pts1 : p_ts 1 S1 = lpN (p_tsB 1) ((lv + 1) / 2) S1 := by
    unfold p_ts
    rw [hh]
  rw [← pts1] at y2 y3 y5
  have okts1 : ok_ts 1 S1 := ⟨by rw [v3']; exact pl_in (by omega) (by decide), fun i hi => y4 i (by rw [hh] at hi; exact hi)⟩
  have hh2 : p_half ((p_ts 1 S1).2 11) = (lv + 1) / 2 := by
    rw [y3.2.2.1]
    exact hh
  have rows2 : ∀ i, i < (lv + 1) / 2 → ∃ l, (p_ts 1 S1).1 12 (2 * i) = nI l ∧ K l = 1 := fun i hi => by
    rw [y3.2.1]
    exact rows i hi
  obtain ⟨e2, x1, x2, x3, x4, x5⟩ := pl_ts (b := 0) h y2 rows2 _ (Nat.le_refl _)
  have pts0 : p_ts 0 (p_ts 1 S1) = lpN (p_tsB 0) ((lv + 1) / 2) (p_ts 1 S1) := by
    unfold p_ts at hh2 ⊢
    rw [hh2]
  rw [← pts0] at x2 x3 x5
  have okts0 : ok_ts 0 (p_ts 1 S1) := ⟨by rw [y3.2.2.1, v3']; exact pl_in (by omega) (by decide), fun i hi => x4 i (by rw [hh2] at hi; exact hi)⟩
  have kk := pl_KP_trans y3 x3
  refine ⟨okll, okts1, okts0, ?_, ?_, ?_, e2, ?_, ?_⟩
  · intro a ha
    rw [kk.1 a ha]
    exact kp1 a (by omega)
  · rw [kk.2.2.2.1]
    exact kg1 19 (by decide)
  · rw [kk.2.2.2.2]
    exact kg1 5 (by decide)
  · rcases Nat.lt_or_ge e e2 with q | q
    · exact q
    · obtain ⟨u1, u2⟩ := y5 (by omega)
      obtain ⟨u3, u4⟩ := x5 (by omega)
      rw [u1] at u4
      have nb1 := u2 0 l0 (by omega) z1 z2
      have nb0 := u4 0 l0 (by omega) z1 z2
      have q0 : ¬ S1.1 8 l0 < 0 := by rw [z8]; exact pl_pos (by omega)
      by_cases side : p_isL S1.1 (nI l0) (S1.1 8 l0) = 1
      · exact absurd ⟨q0, side⟩ nb1
      · refine absurd ⟨q0, ?_⟩ nb0
        unfold p_isL at side ⊢
        rw [if_neg q0] at side ⊢
        by_cases s2 : S1.1 6 (ix (S1.1 8 l0)) = nI l0
        · rw [if_pos s2] at side
          exact absurd rfl side
        · rw [if_neg s2]
  · exact x2
/-- no joint left: the tree is contracted -/
theorem pl_IV_Con (h : Tr K Lc Rc par dep J) (hw : ∀ n, w n ≤ 16) {S : xS} (I : pl_IV K Lc Rc w J e S) (htop : ∀ t, S.2 10 = nI t → t < 31 → K t = 1) : pl_Con K Lc Rc S := by
  obtain ⟨al, cl, cr, cp, sl, bt, tp, t, C, R, D, B, hcnt⟩ := I
  have C2 := C
  obtain ⟨c1, c2, c3, c4, c5⟩ := C2
  obtain ⟨r1, r2, r3, r4, r5, r6, r7⟩ := R
  have t3 := h.lt (c2 t c1).1
  have kt := htop t r6 t3
  have gone := pl_CT_end C hw kt
  have J15 := h.J15
  refine ⟨bt, tp, e, t, B, fun n k2 => ?_, ⟨kt, sl t, (c2 t c1).2.2.1, r5 t c1, (c2 t c1).2.2.2, c5⟩, by omega, r7, r6⟩
  obtain ⟨i, i1, i2, i3, i4⟩ := D n k2 (gone n k2)
  refine ⟨i, i1, i2, i3, fun q => ?_⟩
  rcases i4 q with u | u
  · rw [gone _ q] at u
    exact absurd u (by decide)
  · exact u
theorem pl_rdL (h : Tr K Lc Rc par dep J) (hw : ∀ n, w n ≤ 16) : ∀ (k e : Nat) (S : xS), (∀ n, S.1 0 n = nI (K n)) → pl_IV K Lc Rc w J e S → 16 ≤ e + k → okRd k S ∧ (∀ a, a < 6 → (p_rdL k S).1 a = S.1 a) ∧ (p_rdL k S).2 19 = S.2 19 ∧ (p_rdL k S).2 5 = S.2 5 ∧ pl_Con K Lc Rc (p_rdL k S) := by
  intro k
  induction k with
  | zero =>
    intro e S h0 I he
    obtain ⟨al, cl, cr, cp, sl, bt, tp, t, C, R, D, B, hcnt⟩ := I
    have J15 := h.J15
    omega
  | succ k ih =>
    intro e S h0 I he
    have I2 := I
    obtain ⟨al, cl, cr, cp, sl, bt, tp, t, C, R, D, B, hcnt⟩ := I2
    have t3 := h.lt (C.2.1 t C.1).1
    have r6 := R.2.2.2.2.2.1
    have xt : ix (S.2 10) = t := by rw [r6]; exact pl_ix (by omega)
    have vt : vp_in (S.2 10) 31 := by rw [r6]; exact pl_in t3 (by decide)
    have same : ∀ t', S.2 10 = nI t' → t' < 31 → t' = t := fun t' q1 q2 => pl_nI (by omega) (by omega) (by rw [← q1, r6])
    have k0 := (C.2.1 t C.1).1
    have k2 := h.k2 t
    by_cases kt : K t = 2
    · have e2 : S.1 0 (ix (S.2 10)) = 2 := by rw [xt, h0 t, kt]; rfl
      obtain ⟨a1, a2, a3, a4, a5, a6, e', a7, a8⟩ := pl_rd h hw h0 I (fun t' q1 q2 => by rw [same t' q1 q2]; exact kt)
      obtain ⟨b1, b2, b3, b4, b5⟩ := ih e' (p_rd S) (fun n => by rw [a4 0 (by decide)]; exact h0 n) a8 (by omega)
      have hstep : p_rdL (k + 1) S = p_rdL k (p_rd S) := by rw [p_rdL, if_pos e2]
      rw [hstep]
      refine ⟨?_, fun a ha => by rw [b2 a ha, a4 a ha], by rw [b3, a5], by rw [b4, a6], b5⟩
      rw [okRd]
      exact ⟨vt, fun _ => ⟨a1, a2, a3, b1⟩⟩
    · have e2 : ¬ S.1 0 (ix (S.2 10)) = 2 := by
        rw [xt, h0 t]
        intro q
        exact kt (pl_nI (b := 2) (by omega) (by decide) q)
      have hstep : p_rdL (k + 1) S = S := by rw [p_rdL, if_neg e2]
      rw [hstep]
      refine ⟨?_, fun _ _ => rfl, rfl, rfl, pl_IV_Con h hw I (fun t' q1 q2 => by rw [same t' q1 q2]; omega)⟩
      rw [okRd]
      exact ⟨vt, fun q => absurd q e2⟩
end CON
/-! the start of a contraction -/
theorem pl_ci (F : xF) : ∀ j n, n < j → lpN p_ciB j F 6 n = F 3 n ∧ lpN p_ciB j F 7 n = F 4 n ∧ lpN p_ciB j F 9 n = nI n ∧ lpN p_ciB j F 14 n = 1 ∧ lpN p_ciB j F 15 n = 0 := by
  intro j
  induction j with
  | zero => intro n hn; omega
  | succ j ih =>
    intro n hn
    have k3 := p_ci_keep F j 3 (by decide)
    have k4 := p_ci_keep F j 4 (by decide)
    rw [lpN_succ]
    generalize lpN p_ciB j F = T at ih k3 k4
    show fS (fS (fS (fS (fS T 6 j (T 3 j)) 7 j (T 4 j)) 9 j (nI j)) 14 j 1) 15 j 0 6 n = _ ∧ fS (fS (fS (fS (fS T 6 j (T 3 j)) 7 j (T 4 j)) 9 j (nI j)) 14 j 1) 15 j 0 7 n = _ ∧ fS (fS (fS (fS (fS T 6 j (T 3 j)) 7 j (T 4 j)) 9 j (nI j)) 14 j 1) 15 j 0 9 n = _ ∧ fS (fS (fS (fS (fS T 6 j (T 3 j)) 7 j (T 4 j)) 9 j (nI j)) 14 j 1) 15 j 0 14 n = _ ∧ fS (fS (fS (fS (fS T 6 j (T 3 j)) 7 j (T 4 j)) 9 j (nI j)) 14 j 1) 15 j 0 15 n = _
    rw [k3, k4]
    by_cases z : n = j
    · subst z
      simp [fS_eq]
    · have := ih n (by omega)
      simp [fS_eq, z, this]
section LNK
variable {K Lc Rc par dep : Nat → Nat} {J : Nat}
theorem pl_lk (h : Tr K Lc Rc par dep J) {F : xF} (h0 : ∀ n, F 0 n = nI (K n)) (h34 : ∀ n, K n = 2 → F 3 n = nI (Lc n) ∧ F 4 n = nI (Rc n)) (h8 : F 8 0 = -1) : ∀ j, lpN p_lkB j F 8 0 = -1 ∧ ∀ n, ¬ n = 0 → ¬ K n = 0 → par n < j → lpN p_lkB j F 8 n = nI (par n) := by
  intro j
  induction j with
  | zero => exact ⟨h8, fun n _ _ hn => absurd hn (Nat.not_lt_zero _)⟩
  | succ j ih =>
    have k0 := p_lk_keep F j 0 (by decide)
    have k3 := p_lk_keep F j 3 (by decide)
    have k4 := p_lk_keep F j 4 (by decide)
    rw [lpN_succ]
    generalize lpN p_lkB j F = T at ih k0 k3 k4
    obtain ⟨i1, i2⟩ := ih
    unfold p_lkB
    rw [k0, k3, k4, h0 j]
    have kj := h.k2 j
    by_cases z : K j = 2
    · obtain ⟨a1, a2⟩ := h34 j z
      obtain ⟨c1, c2, c3, c4, c5, c6, c7, c8, c9⟩ := h.ch z
      have l3 := h.lt c1
      have r3 := h.lt c2
      rw [if_pos (by rw [z]; rfl), a1, a2, pl_ix (by omega), pl_ix (by omega)]
      constructor
      · rw [fS_at, if_neg (fun q => c5 q.symm), fS_at, if_neg (fun q => c4 q.symm)]
        exact i1
      · intro n n0 nk np
        rw [fS_at, fS_at]
        by_cases y : par n = j
        · have u := (h.up n0 nk).2
          rw [y] at u
          by_cases y1 : n = Rc j
          · rw [if_pos y1, y]
          · rw [if_neg y1]
            rcases u with u | u
            · rw [if_pos u.symm, y]
            · exact absurd u.symm y1
        · rw [if_neg (fun q => y (by rw [q]; exact c7)), if_neg (fun q => y (by rw [q]; exact c6))]
          exact i2 n n0 nk (by omega)
    · rw [if_neg (c := nI (K j) = 2) (fun q => z (pl_nI (b := 2) (by omega) (by decide) q))]
      refine ⟨i1, fun n n0 nk np => i2 n n0 nk ?_⟩
      have u := (h.up n0 nk).1
      by_cases y : par n = j
      · rw [y] at u
        exact absurd u z
      · omega
theorem pl_start (h : Tr K Lc Rc par dep J) {S : xS} (h0 : ∀ n, S.1 0 n = nI (K n)) (h34 : ∀ n, K n = 2 → S.1 3 n = nI (Lc n) ∧ S.1 4 n = nI (Rc n)) : pl_IV K Lc Rc (pl_w K par dep) J 0 (p_ct0 S) ∧ (∀ a, a < 6 → (p_ct0 S).1 a = S.1 a) := by
  have ci := pl_ci S.1 31
  have kc : ∀ a, a ≠ 6 ∧ a ≠ 7 ∧ a ≠ 9 ∧ a ≠ 14 ∧ a ≠ 15 → p_ci S.1 a = S.1 a := fun a ha => p_ci_keep S.1 31 a ha
  have ci' : ∀ n, n < 31 → p_ci S.1 6 n = S.1 3 n ∧ p_ci S.1 7 n = S.1 4 n ∧ p_ci S.1 9 n = nI n ∧ p_ci S.1 14 n = 1 ∧ p_ci S.1 15 n = 0 := ci
  have kl : ∀ a, ¬ a = 8 → p_lk (p_ci S.1) a = p_ci S.1 a := fun a ha => by
    unfold p_lk
    rw [p_lk_keep _ _ _ ha, fS_ne ha]
  have lk := pl_lk h (F := fS (p_ci S.1) 8 0 (-1)) (fun n => by rw [fS_ne (by decide), kc 0 (by decide)]; exact h0 n) (fun n hn => by rw [fS_ne (by decide), fS_ne (by decide), kc 3 (by decide), kc 4 (by decide)]; exact h34 n hn) (by rw [fS_at, if_pos rfl]) 31
  have lk' : p_lk (p_ci S.1) 8 0 = -1 ∧ ∀ n, ¬ n = 0 → ¬ K n = 0 → par n < 31 → p_lk (p_ci S.1) 8 n = nI (par n) := by
    unfold p_lk
    exact lk
  have al : ∀ n, decide (¬ K n = 0) = true ↔ ¬ K n = 0 := fun n => decide_eq_true_iff
  have alf : ∀ n, decide (¬ K n = 0) = false → K n = 0 := fun n q => by
    have := decide_eq_false_iff_not.mp q
    omega
  clear lk
  unfold p_ct0
  generalize p_lk (p_ci S.1) = T at kl lk' ⊢
  generalize p_ci S.1 = U at kl kc ci'
  constructor
  · refine ⟨fun n => decide (¬ K n = 0), Lc, Rc, par, fun n => n, fun n => n, fun n => n, 0, ⟨(al 0).mpr h.root, fun n hn => ?_, fun n hn k2 => ?_, fun n hn n0 => ?_, rfl⟩, ⟨fun n hn k2 => ?_, fun n hn n0 => ?_, lk'.1, fun n k1 hn => ?_, fun n hn => ?_, ?_, ?_⟩, fun n k2 hn => ?_, ⟨fun s hs => ?_, fun e he => absurd he (Nat.not_lt_zero e)⟩, ?_⟩
    · have hk := (al n).mp hn
      have := h.lt hk
      exact ⟨hk, pl_w_pos h n hk, by omega, rfl⟩
    · obtain ⟨c1, c2, c3, c4, c5, c6, c7, c8, c9⟩ := h.ch k2
      exact ⟨(al _).mpr c1, (al _).mpr c2, c3, c6, c7, pl_w_joint h k2, c4, c5, rfl, rfl⟩
    · obtain ⟨u1, u2⟩ := h.up n0 ((al n).mp hn)
      exact ⟨(al _).mpr (by omega), u1, u2⟩
    · have n3 := h.lt (n := n) (by omega)
      show T 6 n = _ ∧ T 7 n = _
      rw [kl 6 (by decide), kl 7 (by decide), (ci' n n3).1, (ci' n n3).2.1]
      exact h34 n k2
    · have hk := (al n).mp hn
      exact lk'.2 n n0 hk (h.lt (by rw [(h.up n0 hk).1]; decide))
    · have := alf n hn
      omega
    · have hk := (al n).mp hn
      show T 9 n = _
      rw [kl 9 (by decide)]
      exact (ci' n (h.lt hk)).2.2.1
    · rfl
    · rfl
    · have := alf n hn
      omega
    · show T 14 s = _ ∧ T 15 s = _ ∧ _
      rw [kl 14 (by decide), kl 15 (by decide)]
      exact ⟨(ci' s hs).2.2.2.1, (ci' s hs).2.2.2.2, rfl, rfl⟩
    · have := h.cj
      unfold pl_cnt
      rw [sm_congr (g := fun n => if K n = 2 then 1 else 0) (fun i _ => ?_)]
      · exact this
      · show (if decide (¬ K i = 0) = true ∧ K i = 2 then 1 else 0) = if K i = 2 then 1 else 0
        by_cases z : K i = 2
        · rw [if_pos ⟨(al i).mpr (by omega), z⟩, if_pos z]
        · rw [if_neg (fun q => z q.2), if_neg z]
  · intro a ha
    show T a = _
    rw [kl a (by omega), kc a (by omega)]
theorem pl_ct (h : Tr K Lc Rc par dep J) {S : xS} (h0 : ∀ n, S.1 0 n = nI (K n)) (h34 : ∀ n, K n = 2 → S.1 3 n = nI (Lc n) ∧ S.1 4 n = nI (Rc n)) (hC : ¬ S.2 19 = 0 → pl_Con K Lc Rc S) : ok_ct S ∧ pl_Con K Lc Rc (p_ct S) ∧ ¬ (p_ct S).2 19 = 0 ∧ (∀ a, a < 6 → (p_ct S).1 a = S.1 a) ∧ (p_ct S).2 5 = S.2 5 := by
  obtain ⟨s1, s2⟩ := pl_start h h0 h34
  have g19 : (p_ct0 S).2 19 = 1 := rfl
  have g5 : (p_ct0 S).2 5 = S.2 5 := rfl
  by_cases z : S.2 19 = 0
  · obtain ⟨b1, b2, b3, b4, b5⟩ := pl_rdL h (pl_w_le h) 16 0 (p_ct0 S) (fun n => by rw [s2 0 (by decide)]; exact h0 n) s1 (by decide)
    have e : p_ct S = p_rdL 16 (p_ct0 S) := by
      unfold p_ct
      rw [if_pos z]
    rw [e]
    refine ⟨fun _ => ⟨fun n hn k2 => ?_, b1⟩, b5, ?_, fun a ha => by rw [b2 a ha, s2 a ha], by rw [b4, g5]⟩
    · have kn := h.k2 n
      rw [h0 n] at k2
      have k2' : K n = 2 := pl_nI (b := 2) (by omega) (by decide) k2
      obtain ⟨c1, c2, -⟩ := h.ch k2'
      obtain ⟨a1, a2⟩ := h34 n k2'
      rw [a1, a2]
      exact ⟨pl_in (h.lt c1) (by decide), pl_in (h.lt c2) (by decide)⟩
    · rw [b3, g19]
      decide
  · have e : p_ct S = S := by
      unfold p_ct
      rw [if_neg z]
    rw [e]
    exact ⟨fun q => absurd q z, hC z, z, fun _ _ => rfl, rfl⟩
end LNK
end
section
/-! the relation that all calls keep -/
def pl_RT (K Lc Rc : Nat → Nat) (J : Nat) (S : xS) (M : xF) : Prop := (∀ n, S.1 0 n = nI (K n)) ∧ (∀ n, K n = 2 → S.1 3 n = nI (Lc n) ∧ S.1 4 n = nI (Rc n)) ∧ S.2 5 = nI J ∧ pl_so4 K (S.1 1) ∧ pl_ME K Lc Rc M ∧ (∀ n, K n = 1 → M 2 n = S.1 2 n) ∧ (∀ n, K n = 2 → M 3 n = S.1 1 n)
def pl_Rel (S : xS) (M : xF) : Prop := ∃ (K Lc Rc par dep : Nat → Nat) (J : Nat), Tr K Lc Rc par dep J ∧ pl_RT K Lc Rc J S M ∧ (¬ S.2 19 = 0 → pl_Con K Lc Rc S)
theorem pl_k {k : Nat} (h : k ≤ 2) : (nI k = 0 ↔ k = 0) ∧ (nI k = 1 ↔ k = 1) ∧ (nI k = 2 ↔ k = 2) := by
  rcases (by omega : k = 0 ∨ k = 1 ∨ k = 2) with q | q | q <;> subst q <;> decide
theorem pl_so3 (x : Int32) : x &&& 3 = 0 ∨ x &&& 3 = 1 ∨ x &&& 3 = 2 ∨ x &&& 3 = 3 := by
  obtain ⟨v, hv, ev⟩ := pk_andE x (m := 3) 2 (by decide)
  rw [ev]
  have hv4 : v < 4 := hv
  rcases (by omega : v = 0 ∨ v = 1 ∨ v = 2 ∨ v = 3) with q | q | q | q <;> subst q <;> decide
section RL
variable {K Lc Rc par dep : Nat → Nat} {J : Nat} {S S' : xS} {M M' : xF}
theorem pl_RT_of (hs : ∀ a, a < 6 → S'.1 a = S.1 a) (h5 : S'.2 5 = S.2 5) (hm : ∀ a, a < 6 → M' a = M a) (h : pl_RT K Lc Rc J S M) : pl_RT K Lc Rc J S' M' := by
  unfold pl_RT pl_ME at h ⊢
  rw [hs 0 (by decide), hs 1 (by decide), hs 2 (by decide), hs 3 (by decide), hs 4 (by decide), h5, hm 0 (by decide), hm 1 (by decide), hm 2 (by decide), hm 3 (by decide), hm 4 (by decide), hm 5 (by decide)]
  exact h
/-- a node number is no node for both, a leaf for both, or a joint for both -/
theorem pl_node (h : Tr K Lc Rc par dep J) (R : pl_RT K Lc Rc J S M) (node : Int32) : (p_kindOf S.1 node = 0 ∧ m_isLeaf M node = 0 ∧ m_isJoint M node = 0) ∨ (∃ n, n < 31 ∧ node = nI n ∧ ix node = n ∧ K n = 1 ∧ p_kindOf S.1 node = 1 ∧ m_isLeaf M node = 1 ∧ m_isJoint M node = 0) ∨ (∃ n, n < 31 ∧ node = nI n ∧ ix node = n ∧ K n = 2 ∧ p_kindOf S.1 node = 2 ∧ m_isLeaf M node = 0 ∧ m_isJoint M node = 1) := by
  by_cases v : vp_in node 31
  · obtain ⟨e1, e2⟩ := pl_in_lt v (by decide)
    have p1 := pl_pin (F := S.1) e2
    have p2 := pl_mleaf h R.2.2.2.2.1 e2
    rw [← e1, R.1] at p1
    rw [← e1] at p2
    have k2 := h.k2 (ix node)
    rcases (by omega : K (ix node) = 0 ∨ K (ix node) = 1 ∨ K (ix node) = 2) with q | q | q <;> rw [q] at p1 p2
    · exact Or.inl ⟨p1, p2.1, p2.2⟩
    · exact Or.inr (Or.inl ⟨ix node, e2, e1, rfl, q, p1, p2.1, p2.2⟩)
    · exact Or.inr (Or.inr ⟨ix node, e2, e1, rfl, q, p1, p2.1, p2.2⟩)
  · exact Or.inl ⟨pl_pout v, (pl_mout v).1, (pl_mout v).2⟩
theorem pl_d_congr (h : Tr K Lc Rc par dep J) {V V' so so' : Nat → Int32} (hl : ∀ n, K n = 1 → V n = V' n) (ho : ∀ n, K n = 2 → so n = so' n) {x n : Nat} (hn : ¬ K n = 0) : pl_d K Lc Rc V so x n = pl_d K Lc Rc V' so' x n :=
  gev_congr h (fun _ _ => rfl) (fun n x y hn => by
    obtain ⟨c1, c2, -⟩ := h.ch hn
    rw [ho n hn, pl_v_congr h hl ho c1, pl_v_congr h hl ho c2]) n hn
end RL
theorem pl_c01 : ((0 : Int32) = 1) = False := by decide
theorem pl_c02 : ((0 : Int32) = 2) = False := by decide
theorem pl_c10 : ((1 : Int32) = 0) = False := by decide
theorem pl_c12 : ((1 : Int32) = 2) = False := by decide
theorem pl_c20 : ((2 : Int32) = 0) = False := by decide
theorem pl_c21 : ((2 : Int32) = 1) = False := by decide
theorem pl_K0 (n : Nat) : ¬ (if n = 0 then 1 else 0) = 2 := by split <;> decide
/-! the start -/
theorem pl_init : pl_Rel (tkX1, fun _ => 0) tmX1 := by
  refine ⟨fun n => if n = 0 then 1 else 0, fun _ => 0, fun _ => 0, fun _ => 0, fun _ => 0, 0, ⟨fun n => ?_, fun n hn => ?_, ?_, fun n hn => ?_, fun n h0 hn => ?_, rfl, ?_, ?_⟩, ⟨fun n => ?_, fun n hn => ?_, rfl, fun n hn => ?_, ⟨fun n => ?_, fun n hn => ?_, fun n hn => ?_⟩, fun n hn => rfl, fun n hn => rfl⟩, fun q => absurd rfl q⟩
  · show (if n = 0 then 1 else 0) ≤ 2
    split <;> decide
  · exact if_neg (by omega)
  · decide
  · exact absurd hn (pl_K0 n)
  · exact absurd (if_neg h0) hn
  · decide
  · decide
  · show tkX1 0 n = nI (if n = 0 then 1 else 0)
    unfold tkX1
    rw [fS_at]
    split <;> rfl
  · exact absurd hn (pl_K0 n)
  · exact absurd hn (pl_K0 n)
  · show tmX1 0 n = 0 ↔ (if n = 0 then 1 else 0) = 0
    unfold tmX1
    rw [fS_at]
    split <;> decide
  · show tmX1 1 n = 0 ↔ (if n = 0 then 1 else 0) = 1
    by_cases z : n = 0
    · rw [if_pos z]
      exact ⟨fun _ => rfl, fun _ => rfl⟩
    · exact absurd (if_neg z) hn
  · exact absurd hn (pl_K0 n)
section OPS
variable {S : xS} {M : xF}
/-! left, right, joints -/
theorem pl_lr (H : pl_Rel S M) (node : Int32) : p_leR S.1 node = m_lR M node ∧ p_riR S.1 node = m_rR M node := by
  obtain ⟨K, Lc, Rc, par, dep, J, h, R, hC⟩ := H
  unfold p_leR p_riR m_lR m_rR
  rcases pl_node h R node with ⟨q1, q2, q3⟩ | ⟨n, n3, e1, e2, z, q1, q2, q3⟩ | ⟨n, n3, e1, e2, z, q1, q2, q3⟩
  · simp only [q1, q3, pl_c02, if_false, if_true, and_self]
  · simp only [q1, q3, pl_c12, if_false, if_true, and_self]
  · simp only [q1, q3, e2, pl_c10, if_false, if_true]
    rw [(R.2.1 n z).1, (R.2.1 n z).2, (R.2.2.2.2.1.2.2 n z).1, (R.2.2.2.2.1.2.2 n z).2]
    exact ⟨rfl, rfl⟩
theorem pl_jc {K Lc Rc par dep : Nat → Nat} {J : Nat} (h : Tr K Lc Rc par dep J) (hM : pl_ME K Lc Rc M) : ∀ k, k ≤ 31 → m_jc M k = sm (fun n => if K n = 2 then 1 else 0) k := by
  intro k
  induction k with
  | zero => intro _; rfl
  | succ k ih =>
    intro hk
    have q := (pl_mleaf h hM (n := k) (by omega)).2
    rw [m_jc, q, ih (by omega)]
    show _ = sm (fun n => if K n = 2 then 1 else 0) k + (if K k = 2 then 1 else 0)
    by_cases z : K k = 2
    · rw [if_pos z, if_neg (by decide), if_pos z]
    · rw [if_neg z, if_pos rfl, if_neg z]
      rfl
theorem pl_joints (H : pl_Rel S M) : S.2 5 = nI (m_jc M 31) := by
  obtain ⟨K, Lc, Rc, par, dep, J, h, R, hC⟩ := H
  rw [pl_jc h R.2.2.2.2.1 31 (Nat.le_refl _), h.cj]
  exact R.2.2.1
/-! set, setSort -/
theorem pl_set (H : pl_Rel S M) (node v : Int32) : p_seR S node = m_seR M node ∧ pl_Rel (p_seS S node v) (m_seS M node v) := by
  have H0 := H
  obtain ⟨K, Lc, Rc, par, dep, J, h, R, hC⟩ := H
  unfold p_seR m_seR p_seS m_seS
  rcases pl_node h R node with ⟨q1, q2, q3⟩ | ⟨n, n3, e1, e2, z, q1, q2, q3⟩ | ⟨n, n3, e1, e2, z, q1, q2, q3⟩
  · simp only [q1, q2, pl_c01, if_false, if_true, true_and]
    exact H0
  · simp only [q1, q2, pl_c10, if_false, if_true, true_and]
    rw [e2]
    obtain ⟨a1, a2, a3, a4, a5, a6, a7⟩ := R
    have R' : pl_RT K Lc Rc J (fS S.1 2 n v, S.2) (fS M 2 n v) := by
      refine ⟨?_, ?_, a3, ?_, ?_, fun m hm => ?_, fun m hm => ?_⟩
      · show ∀ m, fS S.1 2 n v 0 m = _
        rw [fS_ne (by decide)]
        exact a1
      · show ∀ m, K m = 2 → fS S.1 2 n v 3 m = _ ∧ fS S.1 2 n v 4 m = _
        rw [fS_ne (by decide), fS_ne (by decide)]
        exact a2
      · show pl_so4 K (fS S.1 2 n v 1)
        rw [fS_ne (by decide)]
        exact a4
      · unfold pl_ME
        rw [fS_ne (by decide), fS_ne (by decide), fS_ne (by decide), fS_ne (by decide)]
        exact a5
      · show fS M 2 n v 2 m = fS S.1 2 n v 2 m
        rw [fS_at, fS_at]
        by_cases y : m = n
        · rw [if_pos y, if_pos y]
        · rw [if_neg y, if_neg y]
          exact a6 m hm
      · show fS M 2 n v 3 m = fS S.1 2 n v 1 m
        rw [fS_ne (by decide), fS_ne (by decide)]
        exact a7 m hm
    by_cases y : S.2 19 = 0
    · rw [if_pos y]
      exact ⟨K, Lc, Rc, par, dep, J, h, R', fun q => absurd y q⟩
    · rw [if_neg y]
      obtain ⟨b1, b2, b3⟩ := pl_Con_rn (F1 := fS S.1 2 n v) (node := node) (hC y) (fun a ha => fS_ne ha.2) (fun m _ => by rw [fS_ne (by decide)]) (fun m hm => by rw [fS_at, if_neg (by rw [e2] at hm; exact hm)]) (by rw [e1]; exact pl_in n3 (by decide))
      exact ⟨K, Lc, Rc, par, dep, J, h, pl_RT_of (S := (fS S.1 2 n v, S.2)) (fun a ha => b2 a (by omega)) (b3 5 (by decide)) (fun _ _ => rfl) R', fun _ => b1⟩
  · simp only [q1, q2, pl_c21, if_false, if_true, true_and]
    exact H0
theorem pl_setSort (H : pl_Rel S M) (node so : Int32) : p_soR S node = m_soR M node ∧ pl_Rel (p_soS S node so) (m_soS M node so) := by
  have H0 := H
  obtain ⟨K, Lc, Rc, par, dep, J, h, R, hC⟩ := H
  unfold p_soR m_soR p_soS m_soS
  rcases pl_node h R node with ⟨q1, q2, q3⟩ | ⟨n, n3, e1, e2, z, q1, q2, q3⟩ | ⟨n, n3, e1, e2, z, q1, q2, q3⟩
  · simp only [q1, q3, pl_c02, if_false, if_true, true_and]
    exact H0
  · simp only [q1, q3, pl_c12, if_false, if_true, true_and]
    exact H0
  · simp only [q1, q3, pl_c10, if_false, if_true, true_and]
    rw [e2]
    obtain ⟨a1, a2, a3, a4, a5, a6, a7⟩ := R
    have R' : pl_RT K Lc Rc J (fS S.1 1 n (so &&& 3), S.2) (fS M 3 n (so &&& 3)) := by
      refine ⟨?_, ?_, a3, fun m hm => ?_, ?_, fun m hm => ?_, fun m hm => ?_⟩
      · show ∀ m, fS S.1 1 n (so &&& 3) 0 m = _
        rw [fS_ne (by decide)]
        exact a1
      · show ∀ m, K m = 2 → fS S.1 1 n (so &&& 3) 3 m = _ ∧ fS S.1 1 n (so &&& 3) 4 m = _
        rw [fS_ne (by decide), fS_ne (by decide)]
        exact a2
      · show fS S.1 1 n (so &&& 3) 1 m = 0 ∨ fS S.1 1 n (so &&& 3) 1 m = 1 ∨ fS S.1 1 n (so &&& 3) 1 m = 2 ∨ fS S.1 1 n (so &&& 3) 1 m = 3
        rw [fS_at]
        by_cases y : m = n
        · rw [if_pos y]
          exact pl_so3 so
        · rw [if_neg y]
          exact a4 m hm
      · unfold pl_ME
        rw [fS_ne (by decide), fS_ne (by decide), fS_ne (by decide), fS_ne (by decide)]
        exact a5
      · show fS M 3 n (so &&& 3) 2 m = fS S.1 1 n (so &&& 3) 2 m
        rw [fS_ne (by decide), fS_ne (by decide)]
        exact a6 m hm
      · show fS M 3 n (so &&& 3) 3 m = fS S.1 1 n (so &&& 3) 1 m
        rw [fS_at, fS_at]
        by_cases y : m = n
        · rw [if_pos y, if_pos y]
        · rw [if_neg y, if_neg y]
          exact a7 m hm
    by_cases y : S.2 19 = 0
    · rw [if_pos y]
      exact ⟨K, Lc, Rc, par, dep, J, h, R', fun q => absurd y q⟩
    · rw [if_neg y]
      obtain ⟨b1, b2, b3⟩ := pl_Con_rn (F1 := fS S.1 1 n (so &&& 3)) (node := node) (hC y) (fun a ha => fS_ne ha.1) (fun m hm => by rw [fS_at, if_neg (by rw [e2] at hm; exact hm)]) (fun m _ => by rw [fS_ne (by decide)]) (by rw [e1]; exact pl_in n3 (by decide))
      exact ⟨K, Lc, Rc, par, dep, J, h, pl_RT_of (S := (fS S.1 1 n (so &&& 3), S.2)) (fun a ha => b2 a (by omega)) (b3 5 (by decide)) (fun _ _ => rfl) R', fun _ => b1⟩
/-! turn -/
theorem pl_turn (H : pl_Rel S M) (node : Int32) : p_soR S node = m_soR M node ∧ pl_Rel (p_tuS S node) (m_tuS M node) := by
  refine ⟨(pl_setSort H node 0).1, ?_⟩
  have H0 := H
  obtain ⟨K, Lc, Rc, par, dep, J, h, R, hC⟩ := H
  unfold p_tuS m_tuS
  rcases pl_node h R node with ⟨q1, q2, q3⟩ | ⟨n, n3, e1, e2, z, q1, q2, q3⟩ | ⟨n, n3, e1, e2, z, q1, q2, q3⟩
  · simp only [q1, q3, pl_c02, if_false, if_true]
    exact H0
  · simp only [q1, q3, pl_c12, if_false, if_true]
    exact H0
  · simp only [q1, q3, pl_c10, if_false, if_true]
    rw [e2]
    obtain ⟨a1, a2, a3, a4, a5, a6, a7⟩ := R
    refine ⟨K, va_up Lc n (Rc n), va_up Rc n (Lc n), par, dep, J, h.turn z, ⟨?_, fun m hm => ?_, a3, ?_, ⟨?_, ?_, fun m hm => ?_⟩, fun m hm => ?_, fun m hm => ?_⟩, fun q => absurd rfl q⟩
    · show ∀ m, fS (fS S.1 3 n (S.1 4 n)) 4 n (S.1 3 n) 0 m = _
      rw [fS_ne (by decide), fS_ne (by decide)]
      exact a1
    · show fS (fS S.1 3 n (S.1 4 n)) 4 n (S.1 3 n) 3 m = _ ∧ fS (fS S.1 3 n (S.1 4 n)) 4 n (S.1 3 n) 4 m = _
      rw [fS_ne (by decide), fS_at, fS_at, fS_ne (by decide), pl_up, pl_up]
      by_cases y : m = n
      · rw [if_pos y, if_pos y, if_pos y, if_pos y]
        exact ⟨(a2 n z).2, (a2 n z).1⟩
      · rw [if_neg y, if_neg y, if_neg y, if_neg y]
        exact a2 m hm
    · show pl_so4 K (fS (fS S.1 3 n (S.1 4 n)) 4 n (S.1 3 n) 1)
      rw [fS_ne (by decide), fS_ne (by decide)]
      exact a4
    · rw [fS_ne (by decide), fS_ne (by decide)]
      exact a5.1
    · rw [fS_ne (by decide), fS_ne (by decide)]
      exact a5.2.1
    · rw [fS_ne (by decide), fS_at, fS_at, fS_ne (by decide), pl_up, pl_up]
      by_cases y : m = n
      · rw [if_pos y, if_pos y, if_pos y, if_pos y]
        exact ⟨(a5.2.2 n z).2, (a5.2.2 n z).1⟩
      · rw [if_neg y, if_neg y, if_neg y, if_neg y]
        exact a5.2.2 m hm
    · show fS (fS M 4 n (M 5 n)) 5 n (M 4 n) 2 m = fS (fS S.1 3 n (S.1 4 n)) 4 n (S.1 3 n) 2 m
      rw [fS_ne (by decide), fS_ne (by decide), fS_ne (by decide), fS_ne (by decide)]
      exact a6 m hm
    · show fS (fS M 4 n (M 5 n)) 5 n (M 4 n) 3 m = fS (fS S.1 3 n (S.1 4 n)) 4 n (S.1 3 n) 1 m
      rw [fS_ne (by decide), fS_ne (by decide), fS_ne (by decide), fS_ne (by decide)]
      exact a7 m hm
end OPS
end
section
/-! value, slope, grow, shrink -/
section OP2
variable {S : xS} {M : xF}
theorem pl_value (H : pl_Rel S M) (node : Int32) : ok_val S node ∧ okEv M ∧ p_valR S node = m_vaR M node ∧ pl_Rel (p_valS S node) (m_vaF M node) := by
  have H0 := H
  obtain ⟨K, Lc, Rc, par, dep, J, h, R, hC⟩ := H
  have R0 := R
  obtain ⟨a1, a2, a3, a4, a5, a6, a7⟩ := R0
  have hEv : okEv M := fun n hn m0 m1 => by
    have k0 : ¬ K n = 0 := fun q => m0 ((a5.1 n).mpr q)
    have k1 : ¬ K n = 1 := fun q => m1 ((a5.2.1 n k0).mpr q)
    have k2 := h.k2 n
    have kk : K n = 2 := by omega
    obtain ⟨c1, c2, -⟩ := h.ch kk
    rw [(a5.2.2 n kk).1, (a5.2.2 n kk).2]
    exact ⟨pl_in (h.lt c1) (by decide), pl_in (h.lt c2) (by decide)⟩
  obtain ⟨t1, t2, t3, t4, t5⟩ := pl_ct h a1 a2 hC
  have some : ∀ n, n < 31 → node = nI n → ix node = n → ¬ K n = 0 → ¬ p_kindOf S.1 node = 0 → m_vaR M node = m_ev M 7 (ix node) → m_vaF M node = m_ev M → ok_val S node ∧ okEv M ∧ p_valR S node = m_vaR M node ∧ pl_Rel (p_valS S node) (m_vaF M node) := by
    intro n n3 e1 e2 kn kp mr mf
    obtain ⟨v1, v2, v3⟩ := pl_val h (S := p_ct S) (fun m => by rw [t4 0 (by decide)]; exact a1 m) (by rw [t4 1 (by decide)]; exact a4) t2 kn
    rw [← e1] at v1 v2 v3
    refine ⟨fun _ => ⟨t1, v1⟩, hEv, ?_, ?_⟩
    · unfold p_valR
      rw [if_neg kp, v2, mr, e2, pl_mev h a5 kn, t4 2 (by decide), t4 1 (by decide)]
      exact (pl_v_congr h a6 a7 kn).symm
    · unfold p_valS
      rw [if_neg kp, mf]
      refine ⟨K, Lc, Rc, par, dep, J, h, pl_RT_of (S := S) (M := M) (fun a ha => ?_) t5 (fun a ha => m_ev_keep M a (by omega)) R, fun _ => pl_Con_of (S := p_ct S) (fun a ha => v3 a ha.1) rfl rfl t2⟩
      show (p_vd (p_ct S) node).1 a = S.1 a
      rw [v3 a (by omega)]
      exact t4 a ha
  rcases pl_node h R node with ⟨q1, q2, q3⟩ | ⟨n, n3, e1, e2, z, q1, q2, q3⟩ | ⟨n, n3, e1, e2, z, q1, q2, q3⟩
  · refine ⟨fun q => absurd q1 q, hEv, ?_, ?_⟩
    · unfold p_valR m_vaR
      rw [if_pos q1, if_pos q2, if_pos q3]
    · unfold p_valS m_vaF
      rw [if_pos q1, if_pos q2, if_pos q3]
      exact H0
  · refine some n n3 e1 e2 (by omega) (by rw [q1]; decide) ?_ ?_
    · unfold m_vaR
      rw [if_neg (by rw [q2]; decide)]
    · unfold m_vaF
      rw [if_neg (by rw [q2]; decide)]
  · refine some n n3 e1 e2 (by omega) (by rw [q1]; decide) ?_ ?_
    · unfold m_vaR
      rw [if_pos q2, if_neg (by rw [q3]; decide)]
    · unfold m_vaF
      rw [if_pos q2, if_neg (by rw [q3]; decide)]
theorem pl_va0 {K Lc Rc par dep : Nat → Nat} {J : Nat} (h : Tr K Lc Rc par dep J) (hM : pl_ME K Lc Rc M) : m_vaR M 0 = pl_v K Lc Rc (M 2) (M 3) 0 ∧ m_vaF M 0 = m_ev M := by
  have q := pl_mleaf h hM (n := 0) (by decide)
  have e0 : nI 0 = (0 : Int32) := rfl
  rw [e0] at q
  have k0 := h.root
  have k2 := h.k2 0
  have x0 : ix (0 : Int32) = 0 := rfl
  unfold m_vaR m_vaF
  rw [q.1, q.2]
  have ev := pl_mev h hM k0
  generalize m_ev M = E at ev ⊢
  rcases (by omega : K 0 = 1 ∨ K 0 = 2) with z | z
  · rw [z, if_pos rfl, if_neg (by decide), if_neg (by decide), x0]
    exact ⟨ev, rfl⟩
  · have d1 : (if (2 : Nat) = 1 then (1 : Int32) else 0) = 0 := rfl
    have d2 : ¬ (if (2 : Nat) = 2 then (1 : Int32) else 0) = 0 := by decide
    rw [z, if_pos d1, if_neg d2, if_pos d1, if_neg d2, x0]
    exact ⟨ev, rfl⟩
theorem pl_slope_op (H : pl_Rel S M) (node : Int32) : ok_slo S node ∧ p_sloR S node = m_slR M node ∧ pl_Rel (p_sloS S node) (m_slS M node) := by
  have H0 := H
  obtain ⟨K, Lc, Rc, par, dep, J, h, R, hC⟩ := H
  have R0 := R
  obtain ⟨a1, a2, a3, a4, a5, a6, a7⟩ := R0
  have no : ¬ p_kindOf S.1 node = 1 → m_isLeaf M node = 0 → ok_slo S node ∧ p_sloR S node = m_slR M node ∧ pl_Rel (p_sloS S node) (m_slS M node) := by
    intro q1 q2
    refine ⟨fun q => absurd q q1, ?_, ?_⟩
    · unfold p_sloR m_slR
      rw [if_neg q1, if_pos q2]
    · unfold p_sloS m_slS
      rw [if_neg q1, if_pos q2]
      exact H0
  rcases pl_node h R node with ⟨q1, q2, q3⟩ | ⟨n, n3, e1, e2, z, q1, q2, q3⟩ | ⟨n, n3, e1, e2, z, q1, q2, q3⟩
  · exact no (by rw [q1]; decide) q2
  · obtain ⟨t1, t2, t3, t4, t5⟩ := pl_ct h a1 a2 hC
    obtain ⟨s1, s2, s3, s4⟩ := pl_slo h (S := p_ct S) (by rw [t4 1 (by decide)]; exact a4) t2 n3
    rw [← e1] at s1 s3 s4
    rw [t4 2 (by decide), t4 1 (by decide)] at s1
    have v0 := pl_va0 h a5
    have sl1 : ∀ a, a < 6 → ¬ a = 2 → m_sl1 M node a = M a := fun a ha h2 => by
      unfold m_sl1
      rw [fS_ne h2, m_va_keep M 0 a (by omega)]
    have sl12 : ∀ m, m_sl1 M node 2 m = if m = n then M 2 n + 1 else M 2 m := fun m => by
      unfold m_sl1
      rw [fS_at, m_va_keep M 0 2 (by decide), e2]
    have ME1 : pl_ME K Lc Rc (m_sl1 M node) := by
      unfold pl_ME
      rw [sl1 0 (by decide) (by decide), sl1 1 (by decide) (by decide), sl1 4 (by decide) (by decide), sl1 5 (by decide) (by decide)]
      exact a5
    have v1 := pl_va0 h ME1
    rw [sl1 3 (by decide) (by decide)] at v1
    have sp := pl_slope h (V := M 2) (V' := m_sl1 M node 2) (so := M 3) (x := n) (by rw [sl12, if_pos rfl]) (fun m hm => by rw [sl12, if_neg hm]) 0 h.root
    have l0 : ¬ m_isLeaf M node = 0 := by rw [q2]; decide
    refine ⟨fun _ => ⟨t1, pl_Con_okSt t2, s2.1, s2.2⟩, ?_, ?_⟩
    · unfold p_sloR m_slR
      rw [if_pos q1, if_neg l0, s1, v1.1, v0.1, sp, pl_d_congr h (fun m hm => (a6 m hm).symm) (fun m hm => (a7 m hm).symm) h.root]
      grind
    · unfold p_sloS m_slS
      rw [if_pos q1, if_neg l0]
      refine ⟨K, Lc, Rc, par, dep, J, h, pl_RT_of (S := S) (M := M) (fun a ha => by rw [s3 a (by omega)]; exact t4 a ha) (by rw [s4 5 (by decide)]; exact t5) (fun a ha => ?_) R, fun _ => pl_Con_of (S := p_ct S) (fun a ha => s3 a ⟨ha.2.1, ha.2.2.1⟩) (s4 20 (by decide)) (s4 10 (by decide)) t2⟩
      unfold m_sl2
      by_cases y : a = 2
      · subst y
        funext m
        rw [fS_at, m_va_keep _ 0 2 (by decide), e2]
        by_cases u : m = n
        · rw [if_pos u, sl12, if_pos rfl, u]
          grind
        · rw [if_neg u, sl12, if_neg u]
      · rw [fS_ne y, m_va_keep _ 0 a (by omega)]
        exact sl1 a ha y
  · exact no (by rw [q1]; decide) q2
/-! shrink -/
theorem pl_shrink (H : pl_Rel S M) (node : Int32) : ok_ch S node ∧ p_shR S node = m_shR M node ∧ pl_Rel (p_shS S node) (m_shS M node) := by
  have H0 := H
  obtain ⟨K, Lc, Rc, par, dep, J, h, R, hC⟩ := H
  have R0 := R
  obtain ⟨a1, a2, a3, a4, a5, a6, a7⟩ := R0
  have no : ¬ p_kindOf S.1 node = 2 → m_isJoint M node = 0 → ok_ch S node ∧ p_shR S node = m_shR M node ∧ pl_Rel (p_shS S node) (m_shS M node) := by
    intro q1 q2
    have c : p_shC S.1 node = 0 := by
      unfold p_shC
      rw [if_neg q1]
    refine ⟨fun q => absurd q q1, ?_, ?_⟩
    · unfold p_shR m_shR
      rw [c, if_neg (by decide), if_pos q2]
    · unfold p_shS m_shS
      rw [c, if_neg (by decide), if_pos q2]
      exact H0
  rcases pl_node h R node with ⟨q1, q2, q3⟩ | ⟨n, n3, e1, e2, z, q1, q2, q3⟩ | ⟨n, n3, e1, e2, z, q1, q2, q3⟩
  · exact no (by rw [q1]; decide) q3
  · exact no (by rw [q1]; decide) q3
  · obtain ⟨c1, c2, c3, c4, c5, c6, c7, c8, c9⟩ := h.ch z
    obtain ⟨f3, f4⟩ := a2 n z
    obtain ⟨m4, m5⟩ := a5.2.2 n z
    have l3 := h.lt c1
    have r3 := h.lt c2
    have xl : ix (nI (Lc n)) = Lc n := pl_ix (by omega)
    have xr : ix (nI (Rc n)) = Rc n := pl_ix (by omega)
    have kl := h.k2 (Lc n)
    have kr := h.k2 (Rc n)
    have hc : p_shC S.1 node = if K (Lc n) = 1 ∧ K (Rc n) = 1 then 1 else 0 := by
      unfold p_shC
      rw [if_pos q1, e2, f3, f4, xl, xr, a1, a1]
      by_cases u1 : K (Lc n) = 1
      · rw [if_pos ((pl_k kl).2.1.mpr u1)]
        by_cases u2 : K (Rc n) = 1
        · rw [if_pos ((pl_k kr).2.1.mpr u2), if_pos ⟨u1, u2⟩]
        · rw [if_neg (fun y => u2 ((pl_k kr).2.1.mp y)), if_neg (fun y => u2 y.2)]
      · rw [if_neg (fun y => u1 ((pl_k kl).2.1.mp y)), if_neg (fun y => u1 y.1)]
    have j0 : ¬ m_isJoint M node = 0 := by rw [q3]; decide
    have ml := (pl_mleaf h a5 l3).1
    have mr := (pl_mleaf h a5 r3).1
    have och : ok_ch S node := fun _ => by
      rw [e2, f3, f4]
      exact ⟨pl_in l3 (by decide), pl_in r3 (by decide)⟩
    refine ⟨och, ?_⟩
    unfold p_shR m_shR p_shS m_shS
    rw [hc, if_neg j0, if_neg j0, e2, m4, m5, ml, mr]
    by_cases u : K (Lc n) = 1 ∧ K (Rc n) = 1
    · obtain ⟨u1, u2⟩ := u
      simp only [u1, u2, and_self, if_true, pl_c10, if_false, true_and]
      obtain ⟨T, J1⟩ := h.shrink z u1 u2
      have nl : ¬ n = Lc n := fun y => by rw [← y] at u1; omega
      have nr : ¬ n = Rc n := fun y => by rw [← y] at u2; omega
      have calc_eq : p_calc (M 3 n) (M 2 (Lc n)) (M 2 (Rc n)) = p_calc (S.1 1 n) (S.1 2 (Lc n)) (S.1 2 (Rc n)) := by
        rw [a7 n z, a6 _ u1, a6 _ u2]
      have sF : p_shF S.1 node = fS (fS (fS (fS (fS (fS S.1 0 (Lc n) 0) 0 (Rc n) 0) 0 n 1) 2 n (p_calc (S.1 1 n) (S.1 2 (Lc n)) (S.1 2 (Rc n)))) 3 n (-1)) 4 n (-1) := by
        unfold p_shF p_mk
        rw [e2, f3, f4, xl, xr]
      have mF : m_shF M node = fS (fS (fS (fS M 2 n (p_calc (S.1 1 n) (S.1 2 (Lc n)) (S.1 2 (Rc n)))) 1 n 0) 0 (Lc n) 0) 0 (Rc n) 0 := by
        unfold m_shF
        rw [e2, m4, m5, xl, xr, calc_eq]
      rw [sF, mF]
      generalize p_calc (S.1 1 n) (S.1 2 (Lc n)) (S.1 2 (Rc n)) = c
      have kind : ∀ m, va_up (va_up (va_up K (Lc n) 0) (Rc n) 0) n 1 m = if m = n then 1 else if m = Rc n then 0 else if m = Lc n then 0 else K m := fun m => rfl
      have joint : ∀ m, va_up (va_up (va_up K (Lc n) 0) (Rc n) 0) n 1 m = 2 → ¬ m = n ∧ K m = 2 := fun m hm => by
        rw [kind] at hm
        by_cases y1 : m = n
        · rw [if_pos y1] at hm
          exact absurd hm (by decide)
        · rw [if_neg y1] at hm
          by_cases y2 : m = Rc n
          · rw [if_pos y2] at hm
            exact absurd hm (by decide)
          · rw [if_neg y2] at hm
            by_cases y3 : m = Lc n
            · rw [if_pos y3] at hm
              exact absurd hm (by decide)
            · rw [if_neg y3] at hm
              exact ⟨y1, hm⟩
      have alive : ∀ m, ¬ va_up (va_up (va_up K (Lc n) 0) (Rc n) 0) n 1 m = 0 → m = n ∨ (¬ m = n ∧ ¬ m = Rc n ∧ ¬ m = Lc n ∧ va_up (va_up (va_up K (Lc n) 0) (Rc n) 0) n 1 m = K m) := fun m hm => by
        rw [kind] at hm ⊢
        by_cases y1 : m = n
        · exact Or.inl y1
        · rw [if_neg y1] at hm ⊢
          by_cases y2 : m = Rc n
          · rw [if_pos y2] at hm
            exact absurd rfl hm
          · rw [if_neg y2] at hm ⊢
            by_cases y3 : m = Lc n
            · rw [if_pos y3] at hm
              exact absurd rfl hm
            · rw [if_neg y3]
              exact Or.inr ⟨y1, y2, y3, rfl⟩
      refine ⟨va_up (va_up (va_up K (Lc n) 0) (Rc n) 0) n 1, Lc, Rc, par, dep, J - 1, T, ⟨fun m => ?_, fun m hm => ?_, ?_, fun m hm => ?_, ⟨fun m => ?_, fun m hm => ?_, fun m hm => ?_⟩, fun m hm => ?_, fun m hm => ?_⟩, fun q => absurd rfl q⟩
      · show fS (fS (fS (fS (fS (fS S.1 0 (Lc n) 0) 0 (Rc n) 0) 0 n 1) 2 n c) 3 n (-1)) 4 n (-1) 0 m = _
        rw [fS_ne (by decide), fS_ne (by decide), fS_ne (by decide), fS_at, fS_at, fS_at, kind]
        by_cases y1 : m = n
        · rw [if_pos y1, if_pos y1]; rfl
        · rw [if_neg y1, if_neg y1]
          by_cases y2 : m = Rc n
          · rw [if_pos y2, if_pos y2]; rfl
          · rw [if_neg y2, if_neg y2]
            by_cases y3 : m = Lc n
            · rw [if_pos y3, if_pos y3]; rfl
            · rw [if_neg y3, if_neg y3]
              exact a1 m
      · obtain ⟨y1, y2⟩ := joint m hm
        show fS (fS (fS (fS (fS (fS S.1 0 (Lc n) 0) 0 (Rc n) 0) 0 n 1) 2 n c) 3 n (-1)) 4 n (-1) 3 m = _ ∧ fS (fS (fS (fS (fS (fS S.1 0 (Lc n) 0) 0 (Rc n) 0) 0 n 1) 2 n c) 3 n (-1)) 4 n (-1) 4 m = _
        rw [fS_ne (by decide), fS_at, if_neg y1, fS_at, if_neg y1]
        iterate 4 rw [fS_ne (a := 3) (by decide)]
        iterate 5 rw [fS_ne (a := 4) (by decide)]
        exact a2 m y2
      · show S.2 5 - 1 = _
        rw [a3]
        obtain ⟨j, rfl⟩ : ∃ j, J = j + 1 := ⟨J - 1, by omega⟩
        exact nI_pred j
      · obtain ⟨y1, y2⟩ := joint m hm
        have e : fS (fS (fS (fS (fS (fS S.1 0 (Lc n) 0) 0 (Rc n) 0) 0 n 1) 2 n c) 3 n (-1)) 4 n (-1) 1 = S.1 1 := by
          iterate 6 rw [fS_ne (by decide)]
        show fS (fS (fS (fS (fS (fS S.1 0 (Lc n) 0) 0 (Rc n) 0) 0 n 1) 2 n c) 3 n (-1)) 4 n (-1) 1 m = 0 ∨ fS (fS (fS (fS (fS (fS S.1 0 (Lc n) 0) 0 (Rc n) 0) 0 n 1) 2 n c) 3 n (-1)) 4 n (-1) 1 m = 1 ∨ fS (fS (fS (fS (fS (fS S.1 0 (Lc n) 0) 0 (Rc n) 0) 0 n 1) 2 n c) 3 n (-1)) 4 n (-1) 1 m = 2 ∨ fS (fS (fS (fS (fS (fS S.1 0 (Lc n) 0) 0 (Rc n) 0) 0 n 1) 2 n c) 3 n (-1)) 4 n (-1) 1 m = 3
        rw [e]
        exact a4 m y2
      · rw [fS_at, fS_at, fS_ne (by decide), fS_ne (by decide), kind]
        by_cases y2 : m = Rc n
        · rw [if_pos y2, if_neg (fun y => nr (y.symm.trans y2)), if_pos y2]
          exact ⟨fun _ => rfl, fun _ => rfl⟩
        · rw [if_neg y2]
          by_cases y3 : m = Lc n
          · rw [if_pos y3, if_neg (fun y => nl (y.symm.trans y3)), if_neg y2, if_pos y3]
            exact ⟨fun _ => rfl, fun _ => rfl⟩
          · rw [if_neg y3]
            by_cases y1 : m = n
            · rw [if_pos y1]
              refine ⟨fun y => ?_, fun y => absurd y (by decide)⟩
              have := (a5.1 m).mp y
              rw [y1] at this
              omega
            · rw [if_neg y1, if_neg y2, if_neg y3]
              exact a5.1 m
      · rw [fS_ne (by decide), fS_ne (by decide), fS_at, fS_ne (by decide)]
        rcases alive m hm with y1 | ⟨y1, y2, y3, y4⟩
        · rw [if_pos y1, kind, if_pos y1]
          exact ⟨fun _ => rfl, fun _ => rfl⟩
        · rw [if_neg y1, y4]
          rw [y4] at hm
          exact a5.2.1 m hm
      · obtain ⟨y1, y2⟩ := joint m hm
        iterate 4 rw [fS_ne (a := 4) (by decide)]
        iterate 4 rw [fS_ne (a := 5) (by decide)]
        exact a5.2.2 m y2
      · show fS (fS (fS (fS M 2 n c) 1 n 0) 0 (Lc n) 0) 0 (Rc n) 0 2 m = fS (fS (fS (fS (fS (fS S.1 0 (Lc n) 0) 0 (Rc n) 0) 0 n 1) 2 n c) 3 n (-1)) 4 n (-1) 2 m
        rw [fS_ne (by decide), fS_ne (by decide), fS_ne (by decide), fS_at, fS_ne (by decide), fS_ne (by decide), fS_at, fS_ne (by decide), fS_ne (by decide), fS_ne (by decide)]
        rcases alive m (by omega) with y1 | ⟨y1, y2, y3, y4⟩
        · rw [if_pos y1, if_pos y1]
        · rw [if_neg y1, if_neg y1]
          exact a6 m (by omega)
      · obtain ⟨y1, y2⟩ := joint m hm
        show fS (fS (fS (fS M 2 n c) 1 n 0) 0 (Lc n) 0) 0 (Rc n) 0 3 m = fS (fS (fS (fS (fS (fS S.1 0 (Lc n) 0) 0 (Rc n) 0) 0 n 1) 2 n c) 3 n (-1)) 4 n (-1) 1 m
        iterate 10 rw [fS_ne (by decide)]
        exact a7 m y2
    · by_cases u1 : K (Lc n) = 1
      · have u2 : ¬ K (Rc n) = 1 := fun y => u ⟨u1, y⟩
        simp only [u1, u2, and_false, if_true, if_false, pl_c10, pl_c01, true_and]
        exact H0
      · simp only [u1, false_and, if_true, if_false, pl_c01, true_and]
        exact H0
end OP2
end
section
/-! grow -/
theorem pl_free (f : Nat → Int32) : ∀ t k m, k + t = 31 → k ≤ m → m < 31 → f m = 0 → f (p_free f t k) = 0 ∧ k ≤ p_free f t k ∧ p_free f t k ≤ m ∧ ∀ i, k ≤ i → i < p_free f t k → ¬ f i = 0 := by
  intro t
  induction t with
  | zero => intro k m h1 h2 h3 _; omega
  | succ t ih =>
    intro k m h1 h2 h3 h4
    rw [p_free]
    by_cases z : f k = 0
    · rw [if_pos z]
      exact ⟨z, Nat.le_refl _, h2, fun i q1 q2 => by omega⟩
    · rw [if_neg z]
      have hm : ¬ m = k := fun y => z (by rw [← y]; exact h4)
      obtain ⟨b1, b2, b3, b4⟩ := ih (k + 1) m (by omega) (by omega) h3 h4
      refine ⟨b1, by omega, b3, fun i q1 q2 => ?_⟩
      by_cases y : i = k
      · rw [y]; exact z
      · exact b4 i (by omega) q2
theorem pl_mfree (f : Nat → Int32) : ∀ t k x, k ≤ x → x < k + t → f x = 0 → (∀ i, k ≤ i → i < x → ¬ f i = 0) → m_free f t k = some x := by
  intro t
  induction t with
  | zero => intro k x h1 h2; omega
  | succ t ih =>
    intro k x h1 h2 h3 h4
    rw [m_free]
    by_cases z : f k = 0
    · rw [if_pos z]
      by_cases y : k = x
      · rw [y]
      · exact absurd z (h4 k (Nat.le_refl _) (by omega))
    · rw [if_neg z]
      have hx : ¬ x = k := fun y => z (by rw [← y]; exact h3)
      exact ih (k + 1) x (by omega) (by omega) h3 (fun i q1 q2 => h4 i (by omega) q2)
theorem pl_room (K : Nat → Nat) : ∀ k, sm (fun n => if K n = 0 then 0 else 1) k < k → ∃ m, m < k ∧ K m = 0 := by
  intro k
  induction k with
  | zero => intro h; omega
  | succ k ih =>
    intro h
    by_cases z : K k = 0
    · exact ⟨k, by omega, z⟩
    · have e : sm (fun n => if K n = 0 then 0 else 1) (k + 1) = sm (fun n => if K n = 0 then 0 else 1) k + 1 := by
        show sm (fun n => if K n = 0 then 0 else 1) k + (if K k = 0 then 0 else 1) = _
        rw [if_neg z]
      obtain ⟨m, h1, h2⟩ := ih (by omega)
      exact ⟨m, by omega, h2⟩
theorem pl_mcnt {K : Nat → Nat} {f : Nat → Int32} (hf : ∀ n, f n = 0 ↔ K n = 0) : ∀ k, m_cnt f k = sm (fun n => if K n = 0 then 0 else 1) k := by
  intro k
  induction k with
  | zero => rfl
  | succ k ih =>
    show _ = sm (fun n => if K n = 0 then 0 else 1) k + (if K k = 0 then 0 else 1)
    rw [m_cnt, ih]
    by_cases z : K k = 0
    · rw [if_pos ((hf k).mpr z), if_pos z]
      rfl
    · rw [if_neg (fun y => z ((hf k).mp y)), if_neg z]
section GR
variable {S : xS} {M : xF}
theorem pl_grow (H : pl_Rel S M) (node so a b : Int32) : p_grR S node = m_grR M node so a b ∧ pl_Rel (p_grS S node so a b) (m_grS M node so a b) := by
  have H0 := H
  obtain ⟨K, Lc, Rc, par, dep, J, h, R, hC⟩ := H
  have R0 := R
  obtain ⟨a1, a2, a3, a4, a5, a6, a7⟩ := R0
  have no : ¬ p_kindOf S.1 node = 1 → m_isLeaf M node = 0 → p_grR S node = m_grR M node so a b ∧ pl_Rel (p_grS S node so a b) (m_grS M node so a b) := by
    intro q1 q2
    unfold p_grR m_grR p_grS m_grS
    rw [if_neg q1, if_neg q1, if_pos q2, if_pos q2]
    exact ⟨rfl, H0⟩
  rcases pl_node h R node with ⟨q1, q2, q3⟩ | ⟨n, n3, e1, e2, z, q1, q2, q3⟩ | ⟨n, n3, e1, e2, z, q1, q2, q3⟩
  · exact no (by rw [q1]; decide) q2
  · have J15 := h.J15
    have cn := h.cn
    have l0 : ¬ m_isLeaf M node = 0 := by rw [q2]; decide
    have mc : m_cnt (M 0) 31 = 2 * J + 1 := by rw [pl_mcnt a5.1 31]; exact cn
    have cA : S.2 5 < 15 ↔ J < 15 := by
      rw [a3]
      exact nI_ltI (a := J) (b := 15) (by omega) (by decide)
    have cB : nI (m_cnt (M 0) 31) ≤ 29 ↔ J < 15 := by
      rw [mc]
      have := nI_leI (a := 2 * J + 1) (b := 29) (by omega) (by decide)
      exact this.trans ⟨fun y => by omega, fun y => by omega⟩
    unfold p_grR m_grR p_grS m_grS
    rw [if_pos q1, if_pos q1, if_neg l0, if_neg l0]
    by_cases hJ : J < 15
    · rw [if_pos (cA.mpr hJ), if_pos (cA.mpr hJ), if_pos (cB.mpr hJ), if_pos (cB.mpr hJ)]
      -- the two free places
      have fz : ∀ m, S.1 0 m = 0 ↔ K m = 0 := fun m => by rw [a1 m]; exact (pl_k (h.k2 m)).1
      obtain ⟨m1, u1, u2⟩ := pl_room K 31 (by omega)
      obtain ⟨b1, b2, b3, b4⟩ := pl_free (S.1 0) 31 0 m1 rfl (Nat.zero_le _) u1 ((fz m1).mpr u2)
      have el : p_free (S.1 0) 31 0 = p_gl S.1 := rfl
      rw [el] at b1 b3 b4
      generalize hl : p_gl S.1 = l at b1 b3 b4
      have kl := (fz l).mp b1
      have l3 : l < 31 := by omega
      have cn2 : sm (fun i => if va_up K l 1 i = 0 then 0 else 1) 31 + (if K l = 0 then 0 else 1) = sm (fun i => if K i = 0 then 0 else 1) 31 + (if va_up K l 1 l = 0 then 0 else 1) := sm_upd (f := fun i => if K i = 0 then 0 else 1) (g := fun i => if va_up K l 1 i = 0 then 0 else 1) l3 (fun i _ hne => by
        show (if va_up K l 1 i = 0 then 0 else 1) = if K i = 0 then 0 else 1
        rw [pl_up, if_neg hne])
      rw [if_pos kl, pl_up, if_pos rfl, if_neg (by decide)] at cn2
      obtain ⟨m2, v1, v2⟩ := pl_room (va_up K l 1) 31 (by omega)
      rw [pl_up] at v2
      have m2l : ¬ m2 = l := fun y => by rw [if_pos y] at v2; omega
      rw [if_neg m2l] at v2
      have m2g : l + 1 ≤ m2 := by
        rcases Nat.lt_or_ge l m2 with y | y
        · exact y
        · exact absurd ((fz m2).mpr v2) (b4 m2 (Nat.zero_le _) (by omega))
      obtain ⟨d1, d2, d3, d4⟩ := pl_free (S.1 0) (31 - (l + 1)) (l + 1) m2 (by omega) m2g v1 ((fz m2).mpr v2)
      have er : p_free (S.1 0) (31 - (l + 1)) (l + 1) = p_gr S.1 := by
        unfold p_gr
        rw [hl]
      rw [er] at d1 d2 d3 d4
      generalize hr : p_gr S.1 = r at d1 d2 d3 d4
      have kr := (fz r).mp d1
      have r3 : r < 31 := by omega
      have lr : ¬ l = r := by omega
      have nl : ¬ n = l := fun y => by rw [y] at z; omega
      have nr : ¬ n = r := fun y => by rw [y] at z; omega
      -- what both leave
      have sF : p_grF S.1 node so a b = fS (fS (fS (fS (p_mk (p_mk S.1 l a) r b) 0 n 2) 1 n (so &&& 3)) 3 n (nI l)) 4 n (nI r) := by
        unfold p_grF
        rw [hl, hr, e2]
      have f1 : m_free (M 0) 31 0 = some l := pl_mfree (M 0) 31 0 l (Nat.zero_le _) (by omega) ((a5.1 l).mpr kl) (fun i _ q y => b4 i (Nat.zero_le _) q ((fz i).mpr ((a5.1 i).mp y)))
      have A1 : m_leafF M a = fS (fS (fS M 0 l 1) 1 l 0) 2 l a := by
        unfold m_leafF
        rw [f1]
        rfl
      have A2 : m_leafR M = nI l := by
        unfold m_leafR
        rw [f1]
        rfl
      have f2 : m_free (fS (m_leafF M a) 4 n (nI l) 0) 31 0 = some r := by
        refine pl_mfree _ 31 0 r (Nat.zero_le _) (by omega) ?_ (fun i _ q => ?_)
        · rw [fS_ne (by decide), A1, fS_ne (by decide), fS_ne (by decide), fS_at, if_neg (fun y => lr y.symm)]
          exact (a5.1 r).mpr kr
        · rw [fS_ne (by decide), A1, fS_ne (by decide), fS_ne (by decide), fS_at]
          by_cases y : i = l
          · rw [if_pos y]
            decide
          · rw [if_neg y]
            intro w
            have w2 := (fz i).mpr ((a5.1 i).mp w)
            rcases Nat.lt_or_ge i l with y2 | y2
            · exact b4 i (Nat.zero_le _) y2 w2
            · exact d4 i (by omega) q w2
      have mF : m_grF M node so a b = fS (fS (fS (fS (fS (fS (fS (fS (fS (fS M 0 l 1) 1 l 0) 2 l a) 4 n (nI l)) 0 r 1) 1 r 0) 2 r b) 5 n (nI r)) 1 n 1) 3 n (so &&& 3) := by
        unfold m_grF
        rw [e2, A2]
        have B1 : m_leafF (fS (m_leafF M a) 4 n (nI l)) b = fS (fS (fS (fS (m_leafF M a) 4 n (nI l)) 0 r 1) 1 r 0) 2 r b := by
          unfold m_leafF at f2 ⊢
          rw [f2]
          rfl
        have B2 : m_leafR (fS (m_leafF M a) 4 n (nI l)) = nI r := by
          unfold m_leafR
          rw [f2]
          rfl
        rw [B1, B2, A1]
      rw [mF, sF, e2]
      unfold p_mk
      constructor
      · rw [fS_ne (by decide), fS_ne (by decide), fS_ne (by decide), fS_ne (by decide), fS_ne (by decide), fS_ne (by decide), fS_at, if_pos rfl]
      · have kind : ∀ m, va_up (va_up (va_up K l 1) r 1) n 2 m = if m = n then 2 else if m = r then 1 else if m = l then 1 else K m := fun m => rfl
        have joint : ∀ m, va_up (va_up (va_up K l 1) r 1) n 2 m = 2 → m = n ∨ (¬ m = n ∧ ¬ m = r ∧ ¬ m = l ∧ K m = 2) := fun m hm => by
          rw [kind] at hm
          by_cases y1 : m = n
          · exact Or.inl y1
          · rw [if_neg y1] at hm
            by_cases y2 : m = r
            · rw [if_pos y2] at hm
              exact absurd hm (by decide)
            · rw [if_neg y2] at hm
              by_cases y3 : m = l
              · rw [if_pos y3] at hm
                exact absurd hm (by decide)
              · rw [if_neg y3] at hm
                exact Or.inr ⟨y1, y2, y3, hm⟩
        refine ⟨va_up (va_up (va_up K l 1) r 1) n 2, va_up Lc n l, va_up Rc n r, va_up (va_up par l n) r n, va_up (va_up dep l (dep n + 1)) r (dep n + 1), J + 1, h.grow z kl kr l3 r3 lr, ⟨fun m => ?_, fun m hm => ?_, ?_, fun m hm => ?_, ⟨fun m => ?_, fun m hm => ?_, fun m hm => ?_⟩, fun m hm => ?_, fun m hm => ?_⟩, fun q => absurd rfl q⟩
        · show fS (fS (fS (fS (fS (fS (fS (fS (fS (fS (fS (fS S.1 0 l 1) 2 l a) 3 l (-1)) 4 l (-1)) 0 r 1) 2 r b) 3 r (-1)) 4 r (-1)) 0 n 2) 1 n (so &&& 3)) 3 n (nI l)) 4 n (nI r) 0 m = _
          rw [fS_ne (by decide), fS_ne (by decide), fS_ne (by decide), fS_at, fS_ne (by decide), fS_ne (by decide), fS_ne (by decide), fS_at, fS_ne (by decide), fS_ne (by decide), fS_ne (by decide), fS_at, kind]
          by_cases y1 : m = n
          · rw [if_pos y1, if_pos y1]; rfl
          · rw [if_neg y1, if_neg y1]
            by_cases y2 : m = r
            · rw [if_pos y2, if_pos y2]; rfl
            · rw [if_neg y2, if_neg y2]
              by_cases y3 : m = l
              · rw [if_pos y3, if_pos y3]; rfl
              · rw [if_neg y3, if_neg y3]
                exact a1 m
        · show fS (fS (fS (fS (fS (fS (fS (fS (fS (fS (fS (fS S.1 0 l 1) 2 l a) 3 l (-1)) 4 l (-1)) 0 r 1) 2 r b) 3 r (-1)) 4 r (-1)) 0 n 2) 1 n (so &&& 3)) 3 n (nI l)) 4 n (nI r) 3 m = _ ∧ fS (fS (fS (fS (fS (fS (fS (fS (fS (fS (fS (fS S.1 0 l 1) 2 l a) 3 l (-1)) 4 l (-1)) 0 r 1) 2 r b) 3 r (-1)) 4 r (-1)) 0 n 2) 1 n (so &&& 3)) 3 n (nI l)) 4 n (nI r) 4 m = _
          rw [pl_up, pl_up]
          rcases joint m hm with y1 | ⟨y1, y2, y3, y4⟩
          · simp [fS_eq, y1]
          · have q := a2 m y4
            simp [fS_eq, y1, y2, y3, q]
        · show S.2 5 + 1 = _
          rw [a3]
          exact nI_1 J
        · show fS (fS (fS (fS (fS (fS (fS (fS (fS (fS (fS (fS S.1 0 l 1) 2 l a) 3 l (-1)) 4 l (-1)) 0 r 1) 2 r b) 3 r (-1)) 4 r (-1)) 0 n 2) 1 n (so &&& 3)) 3 n (nI l)) 4 n (nI r) 1 m = 0 ∨ fS (fS (fS (fS (fS (fS (fS (fS (fS (fS (fS (fS S.1 0 l 1) 2 l a) 3 l (-1)) 4 l (-1)) 0 r 1) 2 r b) 3 r (-1)) 4 r (-1)) 0 n 2) 1 n (so &&& 3)) 3 n (nI l)) 4 n (nI r) 1 m = 1 ∨ fS (fS (fS (fS (fS (fS (fS (fS (fS (fS (fS (fS S.1 0 l 1) 2 l a) 3 l (-1)) 4 l (-1)) 0 r 1) 2 r b) 3 r (-1)) 4 r (-1)) 0 n 2) 1 n (so &&& 3)) 3 n (nI l)) 4 n (nI r) 1 m = 2 ∨ fS (fS (fS (fS (fS (fS (fS (fS (fS (fS (fS (fS S.1 0 l 1) 2 l a) 3 l (-1)) 4 l (-1)) 0 r 1) 2 r b) 3 r (-1)) 4 r (-1)) 0 n 2) 1 n (so &&& 3)) 3 n (nI l)) 4 n (nI r) 1 m = 3
          rw [fS_ne (by decide), fS_ne (by decide), fS_at]
          iterate 9 rw [fS_ne (by decide)]
          rcases joint m hm with y1 | ⟨y1, y2, y3, y4⟩
          · rw [if_pos y1]
            exact pl_so3 so
          · rw [if_neg y1]
            exact a4 m y4
        · rw [fS_ne (by decide), fS_ne (by decide), fS_ne (by decide), fS_ne (by decide), fS_ne (by decide), fS_at, fS_ne (by decide), fS_ne (by decide), fS_ne (by decide), fS_at, kind]
          by_cases y1 : m = n
          · rw [if_neg (fun y => nr (y1.symm.trans y)), if_neg (fun y => nl (y1.symm.trans y)), if_pos y1]
            refine ⟨fun y => ?_, fun y => absurd y (by decide)⟩
            have := (a5.1 m).mp y
            rw [y1] at this
            omega
          · by_cases y2 : m = r
            · rw [if_pos y2, if_neg y1, if_pos y2]
              exact ⟨fun y => absurd y (by decide), fun y => absurd y (by decide)⟩
            · by_cases y3 : m = l
              · rw [if_neg y2, if_pos y3, if_neg y1, if_neg y2, if_pos y3]
                exact ⟨fun y => absurd y (by decide), fun y => absurd y (by decide)⟩
              · rw [if_neg y2, if_neg y3, if_neg y1, if_neg y2, if_neg y3]
                exact a5.1 m
        · rw [kind] at hm ⊢
          rw [fS_ne (by decide), fS_at, fS_ne (by decide), fS_ne (by decide), fS_at, fS_ne (by decide), fS_ne (by decide), fS_ne (by decide), fS_at, fS_ne (by decide)]
          by_cases y1 : m = n
          · rw [if_pos y1, if_pos y1]
            exact ⟨fun y => absurd y (by decide), fun y => absurd y (by decide)⟩
          · rw [if_neg y1] at hm
            rw [if_neg y1, if_neg y1]
            by_cases y2 : m = r
            · rw [if_pos y2, if_pos y2]
              exact ⟨fun _ => rfl, fun _ => rfl⟩
            · rw [if_neg y2] at hm
              rw [if_neg y2, if_neg y2]
              by_cases y3 : m = l
              · rw [if_pos y3, if_pos y3]
                exact ⟨fun _ => rfl, fun _ => rfl⟩
              · rw [if_neg y3] at hm
                rw [if_neg y3, if_neg y3]
                exact a5.2.1 m hm
        · rw [pl_up, pl_up]
          rcases joint m hm with y1 | ⟨y1, y2, y3, y4⟩
          · simp [fS_eq, y1]
          · have q := a5.2.2 m y4
            simp [fS_eq, y1, q]
        · show fS (fS (fS (fS (fS (fS (fS (fS (fS (fS M 0 l 1) 1 l 0) 2 l a) 4 n (nI l)) 0 r 1) 1 r 0) 2 r b) 5 n (nI r)) 1 n 1) 3 n (so &&& 3) 2 m = fS (fS (fS (fS (fS (fS (fS (fS (fS (fS (fS (fS S.1 0 l 1) 2 l a) 3 l (-1)) 4 l (-1)) 0 r 1) 2 r b) 3 r (-1)) 4 r (-1)) 0 n 2) 1 n (so &&& 3)) 3 n (nI l)) 4 n (nI r) 2 m
          rw [kind] at hm
          by_cases y1 : m = n
          · rw [if_pos y1] at hm
            exact absurd hm (by decide)
          · rw [if_neg y1] at hm
            by_cases y2 : m = r
            · simp [fS_eq, y2]
            · rw [if_neg y2] at hm
              by_cases y3 : m = l
              · have y4 : ¬ l = r := lr
                simp [fS_eq, y3, y4]
              · rw [if_neg y3] at hm
                have q := a6 m hm
                simp [fS_eq, y2, y3, q]
        · show fS (fS (fS (fS (fS (fS (fS (fS (fS (fS M 0 l 1) 1 l 0) 2 l a) 4 n (nI l)) 0 r 1) 1 r 0) 2 r b) 5 n (nI r)) 1 n 1) 3 n (so &&& 3) 3 m = fS (fS (fS (fS (fS (fS (fS (fS (fS (fS (fS (fS S.1 0 l 1) 2 l a) 3 l (-1)) 4 l (-1)) 0 r 1) 2 r b) 3 r (-1)) 4 r (-1)) 0 n 2) 1 n (so &&& 3)) 3 n (nI l)) 4 n (nI r) 1 m
          rcases joint m hm with y1 | ⟨y1, y2, y3, y4⟩
          · simp [fS_eq, y1]
          · have q := a7 m y4
            simp [fS_eq, y1, q]
    · rw [if_neg (fun y => hJ (cA.mp y)), if_neg (fun y => hJ (cA.mp y)), if_neg (fun y => hJ (cB.mp y)), if_neg (fun y => hJ (cB.mp y))]
      exact ⟨rfl, H0⟩
  · exact no (by rw [q1]; decide) q2
end GR
theorem law_ok : LawOK pl_Rel :=
  ⟨pl_init, fun S M H node so a b => pl_grow H node so a b, fun S M H node => pl_shrink H node, fun S M H => ⟨fun q => by
    obtain ⟨K, Lc, Rc, par, dep, J, h, R, hC⟩ := H
    exact pl_Con_okSt (hC q), fun node v => pl_set H node v⟩, fun S M H node so => pl_setSort H node so, fun S M H node => pl_turn H node, fun S M H node => pl_value H node, fun S M H node => pl_slope_op H node, fun S M H node => pl_lr H node, fun S M H => pl_joints H⟩
end
section
theorem whole_start {p : Program} {e : Env} {s : State} {m : MethodId} {below : List Frame} {meth : Method} {c : Code} (l : Launch) {b L : Nat} {xs : Nat → Int32} (hL : L ≤ 320) (C0 : lw_At p s m meth c b L xs) : W p l e room_1 s m #[Value.ref b] below meth c s.heap [] 0 0 (lw_Z below #[Value.ref b] s) (entryFrame m ([Value.ref b] : List Value).toArray 4) :=
  whole_open pl_Rel law_ok l hL C0
end
section
set_option maxHeartbeats 4000000 in
theorem lw_walk (l : Launch) (b : Addr) (xs : List Int32) : MetFree l x (headSpec (Jvm.Cond.code x code maxLocals ret :: tables_1) room_1) (lw_P b xs) (fun _ _ _ _ _ => True) lw_Q := by
  refine MetFree.of_bodyS (code := code) (maxLocals := maxLocals) (ret := ret) (by decide) ?_ ?_
  · intro args s m h hn
    obtain ⟨meth, c, h1, h2, h3, h4, h5, h6, -, -⟩ := Cond.code_spec hn (atoms_spec (ws := Jvm.Cond.code x code maxLocals ret :: tables_1) h _ List.mem_cons_self)
    exact ⟨meth, c, h1, h2, h3, h4, h5, h6⟩
  · intro p e s m args below meth c s₁ B hml0 hP _
    obtain ⟨rfl, hx, hbd, hgv⟩ := hP
    obtain ⟨scr, harrAt, hlist, hof, hsmall⟩ := hx
    obtain ⟨hcb, hkn, -, -⟩ := State.arrayAt?_spec harrAt
    have hown : s.vm.findClass R_law = some m.cls := findClass_of_methodNamed B.named
    have hts0 : ∀ c ∈ (Jvm.Cond.code x code maxLocals ret :: tables_1), c.before #[Value.ref b] s = true := atoms_spec (ws := Jvm.Cond.code x code maxLocals ret :: tables_1) B.pre
    have hts : ∀ w ∈ lw_tbl, w.before #[Value.ref b] s = true := k2_hts_sels lw_privs (fun w hw => hts0 w (List.mem_cons_of_mem _ hw)) lw_privs_ok
    have hml : c.maxLocals = 4 := B.maxLocals_eq (hts0 _ List.mem_cons_self)
    have X₀ : Stand p l e room_1 s m #[Value.ref b] below meth c s₁ [] 0 0 := Stand.of_body B
    have hh0 : s₁.heap = s.heap := by rw [B.state]; rfl
    have hsz : scr.slots.size = xs.length := by rw [← Array.length_toList, hlist, List.length_map]
    have hval : ∀ j : Nat, j < xs.length → scr.slots[j]? = some (.int (xs.getD j 0)) := fun j hj => by
      rw [← Array.getElem?_toList, hlist]
      simp [hj]
    have hbl : b < s.heap.size := (Array.getElem?_eq_some_iff.mp hcb).1
    have hX : va_X b xs.length (fun j => xs.getD j 0) s s.heap := ⟨scr, hcb, hof, hkn, hsz, hval⟩
    have K : W p l e room_1 s m #[Value.ref b] below meth c s₁.heap [] 0 0 (lw_Z below #[Value.ref b] s) (entryFrame m ([Value.ref b] : List Value).toArray 4) := by
      rw [hh0]
      exact whole_start l hbd ⟨B.exec, B.bytes, B.returns, hml, hown, hts, hX, hbl, B.notSynchronized, hgv⟩
    obtain ⟨t, a1, o, b1, b2, b3⟩ := K s₁ rfl X₀
    exact ⟨t, o, a1, b1, b2, b3⟩
theorem lw_pre_spec {args : Array Value} {s : State} (h : (Jvm.Cond.and given_1 narrow_1).before args s = true) (hr : rest_1_c.before args s = true) : ∃ (b : Addr) (xs : List Int32), lw_P b xs args s := by
  have hs := flat_of_before _ h
  have hq := flat_of_before _ hr
  have hc : (Cond.count 1).before args s = true := hs _ (by decide +kernel)
  have harr : (Cond.arrayOf (.arg 0) .int).before args s = true := hs _ (by decide +kernel)
  have hle : (Cond.le (.length (.arg 0)) (.int 320)).before args s = true := hs _ (by decide +kernel)
  have hlen : (Cond.isInt (.length (.arg 0))).before args s = true := hq _ (by decide +kernel)
  have hall : (Cond.all (.arg 0) (.isInt (.elem (.arg 0) (.index 0)))).before args s = true := hq _ (by decide +kernel)
  obtain ⟨b, xs, hb, hx⟩ := State.ints_of_pre rfl harr hlen hall
  have hsm : xs.length < 2 ^ 31 := hx.choose_spec.2.2.2
  have hev : (Term.length (.arg 0)).eval args s none [] s = some (.int xs.length.toInt32) := hx.length_eval hb
  have hv := Cond.le_ints hev (show (Term.int 320).eval args s none [] s = some (.int 320) from rfl)
  have hd : xs.length.toInt32 ≤ 320 := by
    simpa [Cond.before, Cond.holds, hv] using hle
  have hN : xs.length ≤ 320 := (Int32.ofNat_le_ofNat hsm (by decide)).mp (show Int32.ofNat xs.length ≤ Int32.ofNat 320 from hd)
  exact ⟨b, xs, Cond.one_arg hc (show args[0]? = some (.ref b) from hb), hx, hN, h⟩
theorem lw_comes (l : Launch) : Comes l x (Jvm.Cond.code x code maxLocals ret :: tables_1) room_1 (fun tb e args s => Calls_1 tb e args s ∧ rest_1 tb e args s ∧ Pre_1 tb e args s)
    (fun _ _ args s o t => lw_Q args s o t) := by
  intro p e ha hc hk s m args below hf hfit hheap happ hpre
  obtain ⟨b, xs, hP⟩ := lw_pre_spec hpre.2.2 hpre.2.1
  obtain ⟨k, o, h1, h2, h3, hQ⟩ := lw_walk l b xs p e ha hc hk s m args below hf ((Spec.applies_iff_loose hf).mp happ).1 hP trivial
  exact ⟨k, o, h1, h2, h3, hQ⟩
theorem lw_frame {s t : State} {o : Outcome} {args : Array Value} (h : Framed s o t [] 600000 7290000) :
    Framed s o t (fieldLocs frame_1_writes args s ++ arrayLocs frame_1_arrays args s ++ staticLocs frame_1_statics s) 600000 7290000 := h
theorem lw_limb (L : Cond) (hL : ∀ (args : Array Value) (s t : State), L.after args s (.returned (some (.int 1))) t = true) :
    ArmFor flags0 classFile x code maxLocals ret World_1 tables_1 room_1 Calls_1 rest_1 Pre_1
      (fun tb e a s o t => postC L tb e a s o t ∧ Framed s o t (fieldLocs frame_1_writes a s ++ arrayLocs frame_1_arrays a s ++ staticLocs frame_1_statics s) 600000 7290000) := by
  intro l _ _ _ p e ha hc hk s m args below hf hfit hheap happ hpre
  obtain ⟨k, o, h1, h2, h3, rfl, hF⟩ := lw_comes l p e ha hc hk s m args below hf hfit hheap happ hpre
  exact ⟨k, _, h1, h2, h3, hL args s _, lw_frame hF⟩
theorem i_vc : Claimed_1_1 ∧ Claimed_1_2 := ⟨lw_limb limb_1_1 (fun args s t => by simp [limb_1_1, Cond.after, Cond.holds, Cond.value]), lw_limb limb_1_2 (fun args s t => Cond.after_iff.mpr (by
  first | (rw [show limb_1_2 = Cond.eq .result (.int 1) from rfl, Cond.eq_ints (x := 1) (y := 1) rfl rfl]; simp; done) | (simp [limb_1_2, Cond.value, Term.eval]; done)))⟩
end
