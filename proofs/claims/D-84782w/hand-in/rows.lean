section
/-- a private method of a class that the tables say can be made, by its rows of tables_1 -/
def lw_okq (q : MethodName × Nat) : Prop := (q.1.cls ≠ "java/lang/invoke/MethodHandle" ∧ q.1.cls ≠ "java/lang/invoke/VarHandle") ∧ Cond.instantiable q.1.cls q.2 ∈ tables_1 ∧ Cond.privateMethod q.1 ∈ tables_1 ∧ Cond.instanceMethod q.1 ∈ tables_1
set_option maxRecDepth 100000
theorem lw_t1 {w : Cond} (h : w ∈ tables_1_1) : w ∈ tables_1 := List.mem_append_left _ h
theorem lw_t2 {w : Cond} (h : w ∈ tables_1_2) : w ∈ tables_1 := List.mem_append_right _ h
theorem lw_p0 : lw_okq (⟨"BranchTimes", "isAsking", "()Z"⟩, 6) := ⟨⟨by decide +kernel, by decide +kernel⟩, lw_t1 (List.mem_of_getElem? (i := 5) rfl), lw_t1 (List.mem_of_getElem? (i := 63) rfl), lw_t1 (List.mem_of_getElem? (i := 64) rfl)⟩
theorem lw_p1 : lw_okq (⟨"BranchTimes", "near", "()I"⟩, 6) := ⟨⟨by decide +kernel, by decide +kernel⟩, lw_t1 (List.mem_of_getElem? (i := 5) rfl), lw_t1 (List.mem_of_getElem? (i := 67) rfl), lw_t1 (List.mem_of_getElem? (i := 68) rfl)⟩
theorem lw_p2 : lw_okq (⟨"BranchTimes", "isJoined", "(II)Z"⟩, 6) := ⟨⟨by decide +kernel, by decide +kernel⟩, lw_t1 (List.mem_of_getElem? (i := 5) rfl), lw_t1 (List.mem_of_getElem? (i := 78) rfl), lw_t1 (List.mem_of_getElem? (i := 79) rfl)⟩
theorem lw_p3 : lw_okq (⟨"BranchTimes", "isCrowded", "()Z"⟩, 6) := ⟨⟨by decide +kernel, by decide +kernel⟩, lw_t1 (List.mem_of_getElem? (i := 5) rfl), lw_t1 (List.mem_of_getElem? (i := 82) rfl), lw_t1 (List.mem_of_getElem? (i := 83) rfl)⟩
theorem lw_p4 : lw_okq (⟨"BranchTimes", "goesOn", "(II)Z"⟩, 6) := ⟨⟨by decide +kernel, by decide +kernel⟩, lw_t1 (List.mem_of_getElem? (i := 5) rfl), lw_t1 (List.mem_of_getElem? (i := 107) rfl), lw_t1 (List.mem_of_getElem? (i := 108) rfl)⟩
theorem lw_p5 : lw_okq (⟨"BranchTimes", "isFirst", "()Z"⟩, 6) := ⟨⟨by decide +kernel, by decide +kernel⟩, lw_t1 (List.mem_of_getElem? (i := 5) rfl), lw_t1 (List.mem_of_getElem? (i := 111) rfl), lw_t1 (List.mem_of_getElem? (i := 112) rfl)⟩
theorem lw_p6 : lw_okq (⟨"BranchTimes", "groups", "()I"⟩, 6) := ⟨⟨by decide +kernel, by decide +kernel⟩, lw_t1 (List.mem_of_getElem? (i := 5) rfl), lw_t1 (List.mem_of_getElem? (i := 119) rfl), lw_t1 (List.mem_of_getElem? (i := 120) rfl)⟩
theorem lw_p7 : lw_okq (⟨"BranchTimes", "branches", "()I"⟩, 6) := ⟨⟨by decide +kernel, by decide +kernel⟩, lw_t1 (List.mem_of_getElem? (i := 5) rfl), lw_t1 (List.mem_of_getElem? (i := 124) rfl), lw_t1 (List.mem_of_getElem? (i := 125) rfl)⟩
theorem lw_p8 : lw_okq (⟨"BranchTimesModel", "forgetAll", "()V"⟩, 8) := ⟨⟨by decide +kernel, by decide +kernel⟩, lw_t1 (List.mem_of_getElem? (i := 131) rfl), lw_t1 (List.mem_of_getElem? (i := 137) rfl), lw_t1 (List.mem_of_getElem? (i := 138) rfl)⟩
theorem lw_p9 : lw_okq (⟨"BranchTimesModel", "memberTill", "(I)I"⟩, 8) := ⟨⟨by decide +kernel, by decide +kernel⟩, lw_t1 (List.mem_of_getElem? (i := 131) rfl), lw_t1 (List.mem_of_getElem? (i := 187) rfl), lw_t1 (List.mem_of_getElem? (i := 188) rfl)⟩
theorem lw_p10 : lw_okq (⟨"BranchTimesModel", "isAsking", "()Z"⟩, 8) := ⟨⟨by decide +kernel, by decide +kernel⟩, lw_t1 (List.mem_of_getElem? (i := 131) rfl), lw_t1 (List.mem_of_getElem? (i := 191) rfl), lw_t1 (List.mem_of_getElem? (i := 192) rfl)⟩
theorem lw_p11 : lw_okq (⟨"BranchTimesModel", "neighbours", "()I"⟩, 8) := ⟨⟨by decide +kernel, by decide +kernel⟩, lw_t1 (List.mem_of_getElem? (i := 131) rfl), lw_t1 (List.mem_of_getElem? (i := 195) rfl), lw_t1 (List.mem_of_getElem? (i := 196) rfl)⟩
theorem lw_p12 : lw_okq (⟨"BranchTimesModel", "till", "(II)I"⟩, 8) := ⟨⟨by decide +kernel, by decide +kernel⟩, lw_t1 (List.mem_of_getElem? (i := 131) rfl), lw_t1 (List.mem_of_getElem? (i := 210) rfl), lw_t1 (List.mem_of_getElem? (i := 211) rfl)⟩
theorem lw_p13 : lw_okq (⟨"BranchTimesModel", "isCrowded", "()Z"⟩, 8) := ⟨⟨by decide +kernel, by decide +kernel⟩, lw_t1 (List.mem_of_getElem? (i := 131) rfl), lw_t1 (List.mem_of_getElem? (i := 214) rfl), lw_t1 (List.mem_of_getElem? (i := 215) rfl)⟩
theorem lw_p14 : lw_okq (⟨"BranchTimesModel", "isFirst", "()Z"⟩, 8) := ⟨⟨by decide +kernel, by decide +kernel⟩, lw_t1 (List.mem_of_getElem? (i := 131) rfl), lw_t1 (List.mem_of_getElem? (i := 238) rfl), lw_t1 (List.mem_of_getElem? (i := 239) rfl)⟩
theorem lw_p15 : lw_okq (⟨"BranchTimesModel", "isCutOff", "(II)Z"⟩, 8) := ⟨⟨by decide +kernel, by decide +kernel⟩, lw_t1 (List.mem_of_getElem? (i := 131) rfl), lw_t2 (List.mem_of_getElem? (i := 2) rfl), lw_t2 (List.mem_of_getElem? (i := 3) rfl)⟩
def lw_privs_1 : List (MethodName × Nat) := [(⟨"BranchTimes", "isAsking", "()Z"⟩, 6), (⟨"BranchTimes", "near", "()I"⟩, 6), (⟨"BranchTimes", "isJoined", "(II)Z"⟩, 6), (⟨"BranchTimes", "isCrowded", "()Z"⟩, 6), (⟨"BranchTimes", "goesOn", "(II)Z"⟩, 6), (⟨"BranchTimes", "isFirst", "()Z"⟩, 6), (⟨"BranchTimes", "groups", "()I"⟩, 6), (⟨"BranchTimes", "branches", "()I"⟩, 6), (⟨"BranchTimesModel", "forgetAll", "()V"⟩, 8), (⟨"BranchTimesModel", "memberTill", "(I)I"⟩, 8), (⟨"BranchTimesModel", "isAsking", "()Z"⟩, 8), (⟨"BranchTimesModel", "neighbours", "()I"⟩, 8), (⟨"BranchTimesModel", "till", "(II)I"⟩, 8), (⟨"BranchTimesModel", "isCrowded", "()Z"⟩, 8), (⟨"BranchTimesModel", "isFirst", "()Z"⟩, 8), (⟨"BranchTimesModel", "isCutOff", "(II)Z"⟩, 8)]
theorem lw_r1 : ∀ q ∈ lw_privs_1, lw_okq q := List.forall_mem_cons.mpr ⟨lw_p0, List.forall_mem_cons.mpr ⟨lw_p1, List.forall_mem_cons.mpr ⟨lw_p2, List.forall_mem_cons.mpr ⟨lw_p3, List.forall_mem_cons.mpr ⟨lw_p4, List.forall_mem_cons.mpr ⟨lw_p5, List.forall_mem_cons.mpr ⟨lw_p6, List.forall_mem_cons.mpr ⟨lw_p7, List.forall_mem_cons.mpr ⟨lw_p8, List.forall_mem_cons.mpr ⟨lw_p9, List.forall_mem_cons.mpr ⟨lw_p10, List.forall_mem_cons.mpr ⟨lw_p11, List.forall_mem_cons.mpr ⟨lw_p12, List.forall_mem_cons.mpr ⟨lw_p13, List.forall_mem_cons.mpr ⟨lw_p14, List.forall_mem_cons.mpr ⟨lw_p15, fun _ h => absurd h List.not_mem_nil⟩⟩⟩⟩⟩⟩⟩⟩⟩⟩⟩⟩⟩⟩⟩⟩
theorem lw_p16 : lw_okq (⟨"BranchTimesModel", "going", "()I"⟩, 8) := ⟨⟨by decide +kernel, by decide +kernel⟩, lw_t1 (List.mem_of_getElem? (i := 131) rfl), lw_t2 (List.mem_of_getElem? (i := 10) rfl), lw_t2 (List.mem_of_getElem? (i := 11) rfl)⟩
theorem lw_p17 : lw_okq (⟨"BranchTimesModel", "branches", "()I"⟩, 8) := ⟨⟨by decide +kernel, by decide +kernel⟩, lw_t1 (List.mem_of_getElem? (i := 131) rfl), lw_t2 (List.mem_of_getElem? (i := 15) rfl), lw_t2 (List.mem_of_getElem? (i := 16) rfl)⟩
def lw_privs_2 : List (MethodName × Nat) := [(⟨"BranchTimesModel", "going", "()I"⟩, 8), (⟨"BranchTimesModel", "branches", "()I"⟩, 8)]
theorem lw_r2 : ∀ q ∈ lw_privs_2, lw_okq q := List.forall_mem_cons.mpr ⟨lw_p16, List.forall_mem_cons.mpr ⟨lw_p17, fun _ h => absurd h List.not_mem_nil⟩⟩
def lw_privs : List (MethodName × Nat) := lw_privs_1 ++ (lw_privs_2)
def lw_tbl : List Cond := k2_sels lw_privs ++ tables_1
theorem lw_privs_ok : ∀ q ∈ lw_privs, lw_okq q := by
  show ∀ q ∈ lw_privs_1 ++ (lw_privs_2), lw_okq q
  exact List.forall_mem_append.mpr ⟨lw_r1, lw_r2⟩
def lw_all : List Cond := lw_tbl.filter goodWord
/-- a word of the tables by its place: claim/WORDS.tsv -/
theorem lw_w {w : Cond} (i : Nat) (h : lw_tbl[i]? = some w) (g : goodWord w = true) : w ∈ lw_all := List.mem_filter.mpr ⟨List.mem_of_getElem? h, g⟩
theorem lw_all_tbl {w : Cond} (h : w ∈ lw_all) : w ∈ lw_tbl := (List.mem_filter.mp h).1
theorem lw_self : GoodIn lw_all lw_all := fun w h => ⟨h, good_of_word (List.mem_filter.mp h).2⟩
/-- a class's field words, by their places -/
theorem lw_in (ws : List Cond) (ps : List Nat) (hp : ws = ps.filterMap (fun i => lw_tbl[i]?)) (hg : ws.all goodWord = true) : ∀ w ∈ ws, w ∈ lw_all := by
  intro w h
  have h1 := List.all_eq_true.mp hg w h
  rw [hp] at h
  obtain ⟨i, -, hi⟩ := List.mem_filterMap.mp h
  exact lw_w i hi h1
/-- the words of a contract for the method y with code b, L locals, answer r -/
abbrev ws_ (y : MethodName) (b : ByteArray) (L : Nat) (r : Option FieldType) : List Cond := Cond.code y b L r :: lw_all
theorem lw_meth {y : MethodName} {b : ByteArray} {L : Nat} {r : Option FieldType} (h : Cond.code y b L r ∈ lw_all) : GoodIn lw_all (ws_ y b L r) := by
  intro w hw
  rcases List.mem_cons.mp hw with e | e
  · rw [e]
    exact lw_self _ h
  · exact lw_self _ e
theorem lw_app {a c : List Cond} (ha : ∀ w ∈ a, w ∈ lw_all) (hc : GoodIn lw_all c) : GoodIn lw_all (a ++ c) := by
  intro w hw
  rcases List.mem_append.mp hw with e | e
  · exact lw_self w (ha w e)
  · exact hc w e
/-- what a call through an object asks: cwV n hts (lw_V ..) -/
theorem lw_V {own : String} {idx : Nat} {C : String} {y : MethodName} {b : ByteArray} {L : Nat} {r : Option FieldType} (h1 : Cond.methodLink own idx y ∈ lw_all) (h2 : Cond.instanceMethod y ∈ lw_all) (h3 : Cond.selects C y y ∈ lw_all) (h4 : Cond.initialized C ∈ lw_all) (h5 : Cond.code y b L r ∈ lw_all) : GoodIn lw_all (wsV own idx C y (ws_ y b L r)) := by
  refine lw_app ?_ (lw_meth h5)
  intro w hw
  simp only [List.mem_cons, List.not_mem_nil, or_false] at hw
  rcases hw with e | e | e | e
  · rw [e]; exact h1
  · rw [e]; exact h2
  · rw [e]; exact h3
  · rw [e]; exact h4
/-- what a static call asks: va_cwS n hts (lw_S ..) -/
theorem lw_S {own : String} {idx : Nat} {y : MethodName} {b : ByteArray} {L : Nat} {r : Option FieldType} (h1 : Cond.methodLink own idx y ∈ lw_all) (h2 : Cond.static y ∈ lw_all) (h3 : Cond.initialized y.cls ∈ lw_all) (h4 : Cond.code y b L r ∈ lw_all) : GoodIn lw_all (va_wsS own idx y (ws_ y b L r)) := by
  refine lw_app ?_ (lw_meth h4)
  intro w hw
  simp only [List.mem_cons, List.not_mem_nil, or_false] at hw
  rcases hw with e | e | e
  · rw [e]; exact h1
  · rw [e]; exact h2
  · rw [e]; exact h3
/-- the words of a contract for a method WITH HANDLERS (hh: its table) -/
abbrev wsW_ (y : MethodName) (b : ByteArray) (L : Nat) (r : Option FieldType) (hh : List (Nat × Nat × Nat × Nat)) : List Cond := Cond.codeWith y b L r hh :: lw_all
theorem lw_methW {y : MethodName} {b : ByteArray} {L : Nat} {r : Option FieldType} {hh : List (Nat × Nat × Nat × Nat)} (h : Cond.codeWith y b L r hh ∈ lw_all) : GoodIn lw_all (wsW_ y b L r hh) := by
  intro w hw
  rcases List.mem_cons.mp hw with e | e
  · rw [e]
    exact lw_self _ h
  · exact lw_self _ e
/-- any list of words by their places (lw_in), good -/
theorem lw_good {ws : List Cond} (h : ∀ w ∈ ws, w ∈ lw_all) : GoodIn lw_all ws := fun w hw => lw_self w (h w hw)
/-- what a call of a method with handlers asks: vx_cwVW n hts (lw_VW ..), vx_cwSW n hts (lw_SW ..) -/
theorem lw_VW {own : String} {idx : Nat} {C : String} {y : MethodName} {b : ByteArray} {L : Nat} {r : Option FieldType} {hh : List (Nat × Nat × Nat × Nat)} (h1 : Cond.methodLink own idx y ∈ lw_all) (h2 : Cond.instanceMethod y ∈ lw_all) (h3 : Cond.selects C y y ∈ lw_all) (h4 : Cond.initialized C ∈ lw_all) (h5 : Cond.codeWith y b L r hh ∈ lw_all) : GoodIn lw_all (wsV own idx C y (wsW_ y b L r hh)) := by
  refine lw_app ?_ (lw_methW h5)
  intro w hw
  simp only [List.mem_cons, List.not_mem_nil, or_false] at hw
  rcases hw with e | e | e | e
  · rw [e]; exact h1
  · rw [e]; exact h2
  · rw [e]; exact h3
  · rw [e]; exact h4
theorem lw_SW {own : String} {idx : Nat} {y : MethodName} {b : ByteArray} {L : Nat} {r : Option FieldType} {hh : List (Nat × Nat × Nat × Nat)} (h1 : Cond.methodLink own idx y ∈ lw_all) (h2 : Cond.static y ∈ lw_all) (h3 : Cond.initialized y.cls ∈ lw_all) (h4 : Cond.codeWith y b L r hh ∈ lw_all) : GoodIn lw_all (va_wsS own idx y (wsW_ y b L r hh)) := by
  refine lw_app ?_ (lw_methW h4)
  intro w hw
  simp only [List.mem_cons, List.not_mem_nil, or_false] at hw
  rcases hw with e | e | e
  · rw [e]; exact h1
  · rw [e]; exact h2
  · rw [e]; exact h3
/-- a word by its place in its run of the tables -/
theorem lw_at {r : List Cond} (hr : ∀ w ∈ r, w ∈ lw_tbl) {w : Cond} (i : Nat) (h : r[i]? = some w) : w ∈ lw_tbl := hr w (List.mem_of_getElem? h)
theorem lw_g {w : Cond} (h : w ∈ lw_tbl) (g : goodWord w = true) : w ∈ lw_all := List.mem_filter.mpr ⟨h, g⟩
theorem lw_ms : ∀ w ∈ k2_sels lw_privs, w ∈ lw_tbl := fun w h => show w ∈ k2_sels lw_privs ++ tables_1 from List.mem_append_left _ h
theorem lw_m1 : ∀ w ∈ tables_1_1, w ∈ lw_tbl := fun w h => show w ∈ k2_sels lw_privs ++ tables_1 from List.mem_append_right (k2_sels lw_privs) (show w ∈ tables_1 from List.mem_append_left _ h)
theorem lw_m2 : ∀ w ∈ tables_1_2, w ∈ lw_tbl := fun w h => show w ∈ k2_sels lw_privs ++ tables_1 from List.mem_append_right (k2_sels lw_privs) (show w ∈ tables_1 from List.mem_append_right _ h)
theorem qs0 : (Cond.selects "BranchTimes" ⟨"BranchTimes", "isAsking", "()Z"⟩ ⟨"BranchTimes", "isAsking", "()Z"⟩) ∈ lw_all := lw_g (lw_at lw_ms 0 rfl) rfl
theorem qs1 : (Cond.selects "BranchTimes" ⟨"BranchTimes", "near", "()I"⟩ ⟨"BranchTimes", "near", "()I"⟩) ∈ lw_all := lw_g (lw_at lw_ms 1 rfl) rfl
theorem qs2 : (Cond.selects "BranchTimes" ⟨"BranchTimes", "isJoined", "(II)Z"⟩ ⟨"BranchTimes", "isJoined", "(II)Z"⟩) ∈ lw_all := lw_g (lw_at lw_ms 2 rfl) rfl
theorem qs3 : (Cond.selects "BranchTimes" ⟨"BranchTimes", "isCrowded", "()Z"⟩ ⟨"BranchTimes", "isCrowded", "()Z"⟩) ∈ lw_all := lw_g (lw_at lw_ms 3 rfl) rfl
theorem qs4 : (Cond.selects "BranchTimes" ⟨"BranchTimes", "goesOn", "(II)Z"⟩ ⟨"BranchTimes", "goesOn", "(II)Z"⟩) ∈ lw_all := lw_g (lw_at lw_ms 4 rfl) rfl
theorem qs5 : (Cond.selects "BranchTimes" ⟨"BranchTimes", "isFirst", "()Z"⟩ ⟨"BranchTimes", "isFirst", "()Z"⟩) ∈ lw_all := lw_g (lw_at lw_ms 5 rfl) rfl
theorem qs6 : (Cond.selects "BranchTimes" ⟨"BranchTimes", "groups", "()I"⟩ ⟨"BranchTimes", "groups", "()I"⟩) ∈ lw_all := lw_g (lw_at lw_ms 6 rfl) rfl
theorem qs7 : (Cond.selects "BranchTimes" ⟨"BranchTimes", "branches", "()I"⟩ ⟨"BranchTimes", "branches", "()I"⟩) ∈ lw_all := lw_g (lw_at lw_ms 7 rfl) rfl
theorem qs8 : (Cond.selects "BranchTimesModel" ⟨"BranchTimesModel", "forgetAll", "()V"⟩ ⟨"BranchTimesModel", "forgetAll", "()V"⟩) ∈ lw_all := lw_g (lw_at lw_ms 8 rfl) rfl
theorem qs9 : (Cond.selects "BranchTimesModel" ⟨"BranchTimesModel", "memberTill", "(I)I"⟩ ⟨"BranchTimesModel", "memberTill", "(I)I"⟩) ∈ lw_all := lw_g (lw_at lw_ms 9 rfl) rfl
theorem qs10 : (Cond.selects "BranchTimesModel" ⟨"BranchTimesModel", "isAsking", "()Z"⟩ ⟨"BranchTimesModel", "isAsking", "()Z"⟩) ∈ lw_all := lw_g (lw_at lw_ms 10 rfl) rfl
theorem qs11 : (Cond.selects "BranchTimesModel" ⟨"BranchTimesModel", "neighbours", "()I"⟩ ⟨"BranchTimesModel", "neighbours", "()I"⟩) ∈ lw_all := lw_g (lw_at lw_ms 11 rfl) rfl
theorem qs12 : (Cond.selects "BranchTimesModel" ⟨"BranchTimesModel", "till", "(II)I"⟩ ⟨"BranchTimesModel", "till", "(II)I"⟩) ∈ lw_all := lw_g (lw_at lw_ms 12 rfl) rfl
theorem qs13 : (Cond.selects "BranchTimesModel" ⟨"BranchTimesModel", "isCrowded", "()Z"⟩ ⟨"BranchTimesModel", "isCrowded", "()Z"⟩) ∈ lw_all := lw_g (lw_at lw_ms 13 rfl) rfl
theorem qs14 : (Cond.selects "BranchTimesModel" ⟨"BranchTimesModel", "isFirst", "()Z"⟩ ⟨"BranchTimesModel", "isFirst", "()Z"⟩) ∈ lw_all := lw_g (lw_at lw_ms 14 rfl) rfl
theorem qs15 : (Cond.selects "BranchTimesModel" ⟨"BranchTimesModel", "isCutOff", "(II)Z"⟩ ⟨"BranchTimesModel", "isCutOff", "(II)Z"⟩) ∈ lw_all := lw_g (lw_at lw_ms 15 rfl) rfl
theorem qs16 : (Cond.selects "BranchTimesModel" ⟨"BranchTimesModel", "going", "()I"⟩ ⟨"BranchTimesModel", "going", "()I"⟩) ∈ lw_all := lw_g (lw_at lw_ms 16 rfl) rfl
theorem qs17 : (Cond.selects "BranchTimesModel" ⟨"BranchTimesModel", "branches", "()I"⟩ ⟨"BranchTimesModel", "branches", "()I"⟩) ∈ lw_all := lw_g (lw_at lw_ms 17 rfl) rfl
end
section
set_option maxRecDepth 100000
def RJ0 : String := "java/lang/Math"
abbrev cJ0_min : ByteArray := prog_4_method_69_code
def yJ0_min : MethodName := ⟨RJ0, "min", "(II)I"⟩
abbrev cJ0_max : ByteArray := prog_4_method_65_code
def yJ0_max : MethodName := ⟨RJ0, "max", "(II)I"⟩
theorem q20 : (Jvm.Cond.initialized "java/lang/Math") ∈ lw_all := lw_g (lw_at lw_m1 2 rfl) rfl
theorem q31 : (Jvm.Cond.static ({ cls := "java/lang/Math", name := "min", desc := "(II)I" } : Jvm.MethodName)) ∈ lw_all := lw_g (lw_at lw_m1 13 rfl) rfl
theorem q32 : (Jvm.Cond.code ({ cls := "java/lang/Math", name := "min", desc := "(II)I" } : Jvm.MethodName) prog_4_method_69_code (2 : Nat) (Option.some Jvm.ClassFile.FieldType.int)) ∈ lw_all := lw_g (lw_at lw_m1 14 rfl) rfl
theorem q34 : (Jvm.Cond.static ({ cls := "java/lang/Math", name := "max", desc := "(II)I" } : Jvm.MethodName)) ∈ lw_all := lw_g (lw_at lw_m1 16 rfl) rfl
theorem q35 : (Jvm.Cond.code ({ cls := "java/lang/Math", name := "max", desc := "(II)I" } : Jvm.MethodName) prog_4_method_65_code (2 : Nat) (Option.some Jvm.ClassFile.FieldType.int)) ∈ lw_all := lw_g (lw_at lw_m1 17 rfl) rfl
def RJ1 : String := "java/lang/Object"
abbrev cJ1_init : ByteArray := object_method_1_code
def yJ1_init : MethodName := ⟨RJ1, "<init>", "()V"⟩
theorem q28 : (Jvm.Cond.instanceMethod ({ cls := "java/lang/Object", name := "<init>", desc := "()V" } : Jvm.MethodName)) ∈ lw_all := lw_g (lw_at lw_m1 10 rfl) rfl
theorem q29 : (Jvm.Cond.code ({ cls := "java/lang/Object", name := "<init>", desc := "()V" } : Jvm.MethodName) object_method_1_code (1 : Nat) (Option.none : Option Jvm.ClassFile.FieldType)) ∈ lw_all := lw_g (lw_at lw_m1 11 rfl) rfl
def RX0 : String := "BranchTimesLaw"
abbrev cX0_cell : ByteArray := method_2_code
def yX0_cell : MethodName := ⟨RX0, "cell", "([II)I"⟩
theorem q18 : (Jvm.Cond.initialized "BranchTimesLaw") ∈ lw_all := lw_g (lw_at lw_m1 0 rfl) rfl
theorem q22 : (Jvm.Cond.classLink "BranchTimesLaw" (7 : Nat) "BranchTimes") ∈ lw_all := lw_g (lw_at lw_m1 4 rfl) rfl
theorem q24 : (Jvm.Cond.methodLink "BranchTimesLaw" (15 : Nat) ({ cls := "BranchTimes", name := "<init>", desc := "(I)V" } : Jvm.MethodName)) ∈ lw_all := lw_g (lw_at lw_m1 6 rfl) rfl
theorem q60 : (Jvm.Cond.methodLink "BranchTimesLaw" (21 : Nat) ({ cls := "BranchTimes", name := "tick", desc := "(I)I" } : Jvm.MethodName)) ∈ lw_all := lw_g (lw_at lw_m1 42 rfl) rfl
theorem q65 : (Jvm.Cond.methodLink "BranchTimesLaw" (26 : Nat) ({ cls := "BranchTimes", name := "hello", desc := "(I)Z" } : Jvm.MethodName)) ∈ lw_all := lw_g (lw_at lw_m1 47 rfl) rfl
theorem q69 : (Jvm.Cond.methodLink "BranchTimesLaw" (31 : Nat) ({ cls := "BranchTimes", name := "report", desc := "(I)Z" } : Jvm.MethodName)) ∈ lw_all := lw_g (lw_at lw_m1 51 rfl) rfl
theorem q76 : (Jvm.Cond.methodLink "BranchTimesLaw" (35 : Nat) ({ cls := "BranchTimes", name := "leave", desc := "(I)Z" } : Jvm.MethodName)) ∈ lw_all := lw_g (lw_at lw_m1 58 rfl) rfl
theorem q88 : (Jvm.Cond.methodLink "BranchTimesLaw" (39 : Nat) ({ cls := "BranchTimes", name := "join", desc := "(III)Z" } : Jvm.MethodName)) ∈ lw_all := lw_g (lw_at lw_m1 70 rfl) rfl
theorem q103 : (Jvm.Cond.methodLink "BranchTimesLaw" (44 : Nat) ({ cls := "BranchTimes", name := "prune", desc := "(II)Z" } : Jvm.MethodName)) ∈ lw_all := lw_g (lw_at lw_m1 85 rfl) rfl
theorem q107 : (Jvm.Cond.methodLink "BranchTimesLaw" (49 : Nat) ({ cls := "BranchTimes", name := "forget", desc := "()V" } : Jvm.MethodName)) ∈ lw_all := lw_g (lw_at lw_m1 89 rfl) rfl
theorem q108 : (Jvm.Cond.methodLink "BranchTimesLaw" (53 : Nat) ({ cls := "BranchTimes", name := "joined", desc := "(II)I" } : Jvm.MethodName)) ∈ lw_all := lw_g (lw_at lw_m1 90 rfl) rfl
theorem q112 : (Jvm.Cond.methodLink "BranchTimesLaw" (58 : Nat) ({ cls := "BranchTimes", name := "cut", desc := "(II)I" } : Jvm.MethodName)) ∈ lw_all := lw_g (lw_at lw_m1 94 rfl) rfl
theorem q116 : (Jvm.Cond.methodLink "BranchTimesLaw" (62 : Nat) ({ cls := "BranchTimes", name := "members", desc := "(I)I" } : Jvm.MethodName)) ∈ lw_all := lw_g (lw_at lw_m1 98 rfl) rfl
theorem q120 : (Jvm.Cond.methodLink "BranchTimesLaw" (66 : Nat) ({ cls := "BranchTimes", name := "goes", desc := "(I)I" } : Jvm.MethodName)) ∈ lw_all := lw_g (lw_at lw_m1 102 rfl) rfl
theorem q132 : (Jvm.Cond.methodLink "BranchTimesLaw" (70 : Nat) ({ cls := "BranchTimes", name := "look", desc := "(I)I" } : Jvm.MethodName)) ∈ lw_all := lw_g (lw_at lw_m1 114 rfl) rfl
theorem q145 : (Jvm.Cond.methodLink "BranchTimesLaw" (9 : Nat) ({ cls := "BranchTimesLaw", name := "cell", desc := "([II)I" } : Jvm.MethodName)) ∈ lw_all := lw_g (lw_at lw_m1 127 rfl) rfl
theorem q146 : (Jvm.Cond.static ({ cls := "BranchTimesLaw", name := "cell", desc := "([II)I" } : Jvm.MethodName)) ∈ lw_all := lw_g (lw_at lw_m1 128 rfl) rfl
theorem q147 : (Jvm.Cond.code ({ cls := "BranchTimesLaw", name := "cell", desc := "([II)I" } : Jvm.MethodName) method_2_code (2 : Nat) (Option.some Jvm.ClassFile.FieldType.int)) ∈ lw_all := lw_g (lw_at lw_m1 129 rfl) rfl
theorem q148 : (Jvm.Cond.classLink "BranchTimesLaw" (18 : Nat) "BranchTimesModel") ∈ lw_all := lw_g (lw_at lw_m1 130 rfl) rfl
theorem q150 : (Jvm.Cond.methodLink "BranchTimesLaw" (20 : Nat) ({ cls := "BranchTimesModel", name := "<init>", desc := "(I)V" } : Jvm.MethodName)) ∈ lw_all := lw_g (lw_at lw_m1 132 rfl) rfl
theorem q183 : (Jvm.Cond.methodLink "BranchTimesLaw" (25 : Nat) ({ cls := "BranchTimesModel", name := "tick", desc := "(I)I" } : Jvm.MethodName)) ∈ lw_all := lw_g (lw_at lw_m1 165 rfl) rfl
theorem q188 : (Jvm.Cond.methodLink "BranchTimesLaw" (30 : Nat) ({ cls := "BranchTimesModel", name := "hello", desc := "(I)Z" } : Jvm.MethodName)) ∈ lw_all := lw_g (lw_at lw_m1 170 rfl) rfl
theorem q192 : (Jvm.Cond.methodLink "BranchTimesLaw" (34 : Nat) ({ cls := "BranchTimesModel", name := "report", desc := "(I)Z" } : Jvm.MethodName)) ∈ lw_all := lw_g (lw_at lw_m1 174 rfl) rfl
theorem q200 : (Jvm.Cond.methodLink "BranchTimesLaw" (38 : Nat) ({ cls := "BranchTimesModel", name := "leave", desc := "(I)Z" } : Jvm.MethodName)) ∈ lw_all := lw_g (lw_at lw_m1 182 rfl) rfl
theorem q216 : (Jvm.Cond.methodLink "BranchTimesLaw" (65 : Nat) ({ cls := "BranchTimesModel", name := "members", desc := "(I)I" } : Jvm.MethodName)) ∈ lw_all := lw_g (lw_at lw_m1 198 rfl) rfl
theorem q220 : (Jvm.Cond.methodLink "BranchTimesLaw" (43 : Nat) ({ cls := "BranchTimesModel", name := "join", desc := "(III)Z" } : Jvm.MethodName)) ∈ lw_all := lw_g (lw_at lw_m1 202 rfl) rfl
theorem q235 : (Jvm.Cond.methodLink "BranchTimesLaw" (48 : Nat) ({ cls := "BranchTimesModel", name := "prune", desc := "(II)Z" } : Jvm.MethodName)) ∈ lw_all := lw_g (lw_at lw_m1 217 rfl) rfl
theorem q239 : (Jvm.Cond.methodLink "BranchTimesLaw" (52 : Nat) ({ cls := "BranchTimesModel", name := "forget", desc := "()V" } : Jvm.MethodName)) ∈ lw_all := lw_g (lw_at lw_m1 221 rfl) rfl
theorem q243 : (Jvm.Cond.methodLink "BranchTimesLaw" (57 : Nat) ({ cls := "BranchTimesModel", name := "joined", desc := "(II)I" } : Jvm.MethodName)) ∈ lw_all := lw_g (lw_at lw_m1 225 rfl) rfl
theorem q247 : (Jvm.Cond.methodLink "BranchTimesLaw" (61 : Nat) ({ cls := "BranchTimesModel", name := "cut", desc := "(II)I" } : Jvm.MethodName)) ∈ lw_all := lw_g (lw_at lw_m1 229 rfl) rfl
theorem q251 : (Jvm.Cond.methodLink "BranchTimesLaw" (69 : Nat) ({ cls := "BranchTimesModel", name := "goes", desc := "(I)I" } : Jvm.MethodName)) ∈ lw_all := lw_g (lw_at lw_m1 233 rfl) rfl
theorem q263 : (Jvm.Cond.methodLink "BranchTimesLaw" (73 : Nat) ({ cls := "BranchTimesModel", name := "look", desc := "(I)I" } : Jvm.MethodName)) ∈ lw_all := lw_g (lw_at lw_m2 5 rfl) rfl
def RX1 : String := "BranchTimes"
def TX1 : u_T := fun k => match k with
  | 0 => ("BranchTimes", "me", "I", true)
  | 1 => ("BranchTimes", "time", "I", false)
  | 2 => ("BranchTimes", "nearTill", "[I", true)
  | 3 => ("BranchTimes", "membersTill", "[I", true)
  | 4 => ("BranchTimes", "joinedTill", "[I", true)
  | _ => ("BranchTimes", "cutFrom", "[I", true)
def tyX1 : Nat → FieldType := fun k => match k with
  | 0 => .int
  | 1 => .int
  | 2 => .array .int
  | 3 => .array .int
  | 4 => .array .int
  | _ => .array .int
abbrev wsX10 : List Cond := u_ws RX1 TX1 6
theorem nmX1 : ∀ a, a < 6 → ∀ b, b < 6 → a ≠ b → (TX1 a).2.1 ≠ (TX1 b).2.1 := by decide +kernel
theorem tyX1_ok : ∀ k, k < 6 → parseFieldDescriptor (TX1 k).2.2.1 = some (tyX1 k) := by decide +kernel
abbrev cX1_init : ByteArray := prog_1_method_1_code
def yX1_init : MethodName := ⟨RX1, "<init>", "(I)V"⟩
abbrev cX1_forget : ByteArray := prog_1_method_15_code
def yX1_forget : MethodName := ⟨RX1, "forget", "()V"⟩
abbrev cX1_tick : ByteArray := prog_1_method_2_code
def yX1_tick : MethodName := ⟨RX1, "tick", "(I)I"⟩
abbrev cX1_hello : ByteArray := prog_1_method_9_code
def yX1_hello : MethodName := ⟨RX1, "hello", "(I)Z"⟩
abbrev cX1_report : ByteArray := prog_1_method_10_code
def yX1_report : MethodName := ⟨RX1, "report", "(I)Z"⟩
abbrev cX1_isGroup : ByteArray := prog_1_method_3_code
def yX1_isGroup : MethodName := ⟨RX1, "isGroup", "(I)Z"⟩
abbrev cX1_leave : ByteArray := prog_1_method_11_code
def yX1_leave : MethodName := ⟨RX1, "leave", "(I)Z"⟩
abbrev cX1_isAsking : ByteArray := prog_1_method_8_code
def yX1_isAsking : MethodName := ⟨RX1, "isAsking", "()Z"⟩
abbrev cX1_near : ByteArray := prog_1_method_5_code
def yX1_near : MethodName := ⟨RX1, "near", "()I"⟩
abbrev cX1_join : ByteArray := prog_1_method_13_code
def yX1_join : MethodName := ⟨RX1, "join", "(III)Z"⟩
abbrev cX1_isTree : ByteArray := prog_1_method_4_code
def yX1_isTree : MethodName := ⟨RX1, "isTree", "(II)Z"⟩
abbrev cX1_isJoined : ByteArray := prog_1_method_12_code
def yX1_isJoined : MethodName := ⟨RX1, "isJoined", "(II)Z"⟩
abbrev cX1_isCrowded : ByteArray := prog_1_method_6_code
def yX1_isCrowded : MethodName := ⟨RX1, "isCrowded", "()Z"⟩
abbrev cX1_prune : ByteArray := prog_1_method_14_code
def yX1_prune : MethodName := ⟨RX1, "prune", "(II)Z"⟩
abbrev cX1_joined : ByteArray := prog_1_method_16_code
def yX1_joined : MethodName := ⟨RX1, "joined", "(II)I"⟩
abbrev cX1_cut : ByteArray := prog_1_method_17_code
def yX1_cut : MethodName := ⟨RX1, "cut", "(II)I"⟩
abbrev cX1_members : ByteArray := prog_1_method_18_code
def yX1_members : MethodName := ⟨RX1, "members", "(I)I"⟩
abbrev cX1_goes : ByteArray := prog_1_method_20_code
def yX1_goes : MethodName := ⟨RX1, "goes", "(I)I"⟩
abbrev cX1_goesOn : ByteArray := prog_1_method_19_code
def yX1_goesOn : MethodName := ⟨RX1, "goesOn", "(II)Z"⟩
abbrev cX1_isFirst : ByteArray := prog_1_method_7_code
def yX1_isFirst : MethodName := ⟨RX1, "isFirst", "()Z"⟩
abbrev cX1_look : ByteArray := prog_1_method_23_code
def yX1_look : MethodName := ⟨RX1, "look", "(I)I"⟩
abbrev cX1_groups : ByteArray := prog_1_method_21_code
def yX1_groups : MethodName := ⟨RX1, "groups", "()I"⟩
abbrev cX1_branches : ByteArray := prog_1_method_22_code
def yX1_branches : MethodName := ⟨RX1, "branches", "()I"⟩
theorem q19 : (Jvm.Cond.initialized "BranchTimes") ∈ lw_all := lw_g (lw_at lw_m1 1 rfl) rfl
theorem q23 : (Jvm.Cond.instantiable "BranchTimes" (6 : Nat)) ∈ lw_all := lw_g (lw_at lw_m1 5 rfl) rfl
theorem q25 : (Jvm.Cond.instanceMethod ({ cls := "BranchTimes", name := "<init>", desc := "(I)V" } : Jvm.MethodName)) ∈ lw_all := lw_g (lw_at lw_m1 7 rfl) rfl
theorem q26 : (Jvm.Cond.code ({ cls := "BranchTimes", name := "<init>", desc := "(I)V" } : Jvm.MethodName) prog_1_method_1_code (2 : Nat) (Option.none : Option Jvm.ClassFile.FieldType)) ∈ lw_all := lw_g (lw_at lw_m1 8 rfl) rfl
theorem q27 : (Jvm.Cond.methodLink "BranchTimes" (1 : Nat) ({ cls := "java/lang/Object", name := "<init>", desc := "()V" } : Jvm.MethodName)) ∈ lw_all := lw_g (lw_at lw_m1 9 rfl) rfl
theorem q30 : (Jvm.Cond.methodLink "BranchTimes" (22 : Nat) ({ cls := "java/lang/Math", name := "min", desc := "(II)I" } : Jvm.MethodName)) ∈ lw_all := lw_g (lw_at lw_m1 12 rfl) rfl
theorem q33 : (Jvm.Cond.methodLink "BranchTimes" (28 : Nat) ({ cls := "java/lang/Math", name := "max", desc := "(II)I" } : Jvm.MethodName)) ∈ lw_all := lw_g (lw_at lw_m1 15 rfl) rfl
theorem q36 : (Jvm.Cond.methodLink "BranchTimes" (35 : Nat) ({ cls := "BranchTimes", name := "forget", desc := "()V" } : Jvm.MethodName)) ∈ lw_all := lw_g (lw_at lw_m1 18 rfl) rfl
theorem q37 : (Jvm.Cond.instanceMethod ({ cls := "BranchTimes", name := "forget", desc := "()V" } : Jvm.MethodName)) ∈ lw_all := lw_g (lw_at lw_m1 19 rfl) rfl
theorem q38 : (Jvm.Cond.selects "BranchTimes" ({ cls := "BranchTimes", name := "forget", desc := "()V" } : Jvm.MethodName) ({ cls := "BranchTimes", name := "forget", desc := "()V" } : Jvm.MethodName)) ∈ lw_all := lw_g (lw_at lw_m1 20 rfl) rfl
theorem q39 : (Jvm.Cond.code ({ cls := "BranchTimes", name := "forget", desc := "()V" } : Jvm.MethodName) prog_1_method_15_code (2 : Nat) (Option.none : Option Jvm.ClassFile.FieldType)) ∈ lw_all := lw_g (lw_at lw_m1 21 rfl) rfl
theorem q40 : (Jvm.Cond.fieldLink "BranchTimes" (31 : Nat) "BranchTimes" "me" "I") ∈ lw_all := lw_g (lw_at lw_m1 22 rfl) rfl
theorem q41 : (Jvm.Cond.fieldLink "BranchTimes" (38 : Nat) "BranchTimes" "time" "I") ∈ lw_all := lw_g (lw_at lw_m1 23 rfl) rfl
theorem q42 : (Jvm.Cond.fieldLink "BranchTimes" (7 : Nat) "BranchTimes" "nearTill" "[I") ∈ lw_all := lw_g (lw_at lw_m1 24 rfl) rfl
theorem q43 : (Jvm.Cond.fieldLink "BranchTimes" (13 : Nat) "BranchTimes" "membersTill" "[I") ∈ lw_all := lw_g (lw_at lw_m1 25 rfl) rfl
theorem q44 : (Jvm.Cond.fieldLink "BranchTimes" (16 : Nat) "BranchTimes" "joinedTill" "[I") ∈ lw_all := lw_g (lw_at lw_m1 26 rfl) rfl
theorem q45 : (Jvm.Cond.fieldLink "BranchTimes" (19 : Nat) "BranchTimes" "cutFrom" "[I") ∈ lw_all := lw_g (lw_at lw_m1 27 rfl) rfl
theorem q46 : (Jvm.Cond.laysFinal "BranchTimes" "BranchTimes" "me" "I") ∈ lw_all := lw_g (lw_at lw_m1 28 rfl) rfl
theorem q47 : (Jvm.Cond.soleField "BranchTimes" "me") ∈ lw_all := lw_g (lw_at lw_m1 29 rfl) rfl
theorem q48 : (Jvm.Cond.lays "BranchTimes" "BranchTimes" "time" "I") ∈ lw_all := lw_g (lw_at lw_m1 30 rfl) rfl
theorem q49 : (Jvm.Cond.soleField "BranchTimes" "time") ∈ lw_all := lw_g (lw_at lw_m1 31 rfl) rfl
theorem q50 : (Jvm.Cond.laysFinal "BranchTimes" "BranchTimes" "nearTill" "[I") ∈ lw_all := lw_g (lw_at lw_m1 32 rfl) rfl
theorem q51 : (Jvm.Cond.soleField "BranchTimes" "nearTill") ∈ lw_all := lw_g (lw_at lw_m1 33 rfl) rfl
theorem q52 : (Jvm.Cond.laysFinal "BranchTimes" "BranchTimes" "membersTill" "[I") ∈ lw_all := lw_g (lw_at lw_m1 34 rfl) rfl
theorem q53 : (Jvm.Cond.soleField "BranchTimes" "membersTill") ∈ lw_all := lw_g (lw_at lw_m1 35 rfl) rfl
theorem q54 : (Jvm.Cond.laysFinal "BranchTimes" "BranchTimes" "joinedTill" "[I") ∈ lw_all := lw_g (lw_at lw_m1 36 rfl) rfl
theorem q55 : (Jvm.Cond.soleField "BranchTimes" "joinedTill") ∈ lw_all := lw_g (lw_at lw_m1 37 rfl) rfl
theorem q56 : (Jvm.Cond.laysFinal "BranchTimes" "BranchTimes" "cutFrom" "[I") ∈ lw_all := lw_g (lw_at lw_m1 38 rfl) rfl
theorem q57 : (Jvm.Cond.soleField "BranchTimes" "cutFrom") ∈ lw_all := lw_g (lw_at lw_m1 39 rfl) rfl
theorem q58 : (Jvm.Cond.superclass "BranchTimes" "java/lang/Object") ∈ lw_all := lw_g (lw_at lw_m1 40 rfl) rfl
theorem q61 : (Jvm.Cond.instanceMethod ({ cls := "BranchTimes", name := "tick", desc := "(I)I" } : Jvm.MethodName)) ∈ lw_all := lw_g (lw_at lw_m1 43 rfl) rfl
theorem q62 : (Jvm.Cond.selects "BranchTimes" ({ cls := "BranchTimes", name := "tick", desc := "(I)I" } : Jvm.MethodName) ({ cls := "BranchTimes", name := "tick", desc := "(I)I" } : Jvm.MethodName)) ∈ lw_all := lw_g (lw_at lw_m1 44 rfl) rfl
theorem q63 : (Jvm.Cond.code ({ cls := "BranchTimes", name := "tick", desc := "(I)I" } : Jvm.MethodName) prog_1_method_2_code (2 : Nat) (Option.some Jvm.ClassFile.FieldType.int)) ∈ lw_all := lw_g (lw_at lw_m1 45 rfl) rfl
theorem q64 : (Jvm.Cond.constant "BranchTimes" (41 : Nat) (100000 : Int32)) ∈ lw_all := lw_g (lw_at lw_m1 46 rfl) rfl
theorem q66 : (Jvm.Cond.instanceMethod ({ cls := "BranchTimes", name := "hello", desc := "(I)Z" } : Jvm.MethodName)) ∈ lw_all := lw_g (lw_at lw_m1 48 rfl) rfl
theorem q67 : (Jvm.Cond.selects "BranchTimes" ({ cls := "BranchTimes", name := "hello", desc := "(I)Z" } : Jvm.MethodName) ({ cls := "BranchTimes", name := "hello", desc := "(I)Z" } : Jvm.MethodName)) ∈ lw_all := lw_g (lw_at lw_m1 49 rfl) rfl
theorem q68 : (Jvm.Cond.code ({ cls := "BranchTimes", name := "hello", desc := "(I)Z" } : Jvm.MethodName) prog_1_method_9_code (2 : Nat) (Option.some Jvm.ClassFile.FieldType.boolean)) ∈ lw_all := lw_g (lw_at lw_m1 50 rfl) rfl
theorem q70 : (Jvm.Cond.instanceMethod ({ cls := "BranchTimes", name := "report", desc := "(I)Z" } : Jvm.MethodName)) ∈ lw_all := lw_g (lw_at lw_m1 52 rfl) rfl
theorem q71 : (Jvm.Cond.selects "BranchTimes" ({ cls := "BranchTimes", name := "report", desc := "(I)Z" } : Jvm.MethodName) ({ cls := "BranchTimes", name := "report", desc := "(I)Z" } : Jvm.MethodName)) ∈ lw_all := lw_g (lw_at lw_m1 53 rfl) rfl
theorem q72 : (Jvm.Cond.code ({ cls := "BranchTimes", name := "report", desc := "(I)Z" } : Jvm.MethodName) prog_1_method_10_code (2 : Nat) (Option.some Jvm.ClassFile.FieldType.boolean)) ∈ lw_all := lw_g (lw_at lw_m1 54 rfl) rfl
theorem q73 : (Jvm.Cond.methodLink "BranchTimes" (42 : Nat) ({ cls := "BranchTimes", name := "isGroup", desc := "(I)Z" } : Jvm.MethodName)) ∈ lw_all := lw_g (lw_at lw_m1 55 rfl) rfl
theorem q74 : (Jvm.Cond.static ({ cls := "BranchTimes", name := "isGroup", desc := "(I)Z" } : Jvm.MethodName)) ∈ lw_all := lw_g (lw_at lw_m1 56 rfl) rfl
theorem q75 : (Jvm.Cond.code ({ cls := "BranchTimes", name := "isGroup", desc := "(I)Z" } : Jvm.MethodName) prog_1_method_3_code (1 : Nat) (Option.some Jvm.ClassFile.FieldType.boolean)) ∈ lw_all := lw_g (lw_at lw_m1 57 rfl) rfl
theorem q77 : (Jvm.Cond.instanceMethod ({ cls := "BranchTimes", name := "leave", desc := "(I)Z" } : Jvm.MethodName)) ∈ lw_all := lw_g (lw_at lw_m1 59 rfl) rfl
theorem q78 : (Jvm.Cond.selects "BranchTimes" ({ cls := "BranchTimes", name := "leave", desc := "(I)Z" } : Jvm.MethodName) ({ cls := "BranchTimes", name := "leave", desc := "(I)Z" } : Jvm.MethodName)) ∈ lw_all := lw_g (lw_at lw_m1 60 rfl) rfl
theorem q79 : (Jvm.Cond.code ({ cls := "BranchTimes", name := "leave", desc := "(I)Z" } : Jvm.MethodName) prog_1_method_11_code (2 : Nat) (Option.some Jvm.ClassFile.FieldType.boolean)) ∈ lw_all := lw_g (lw_at lw_m1 61 rfl) rfl
theorem q80 : (Jvm.Cond.methodLink "BranchTimes" (50 : Nat) ({ cls := "BranchTimes", name := "isAsking", desc := "()Z" } : Jvm.MethodName)) ∈ lw_all := lw_g (lw_at lw_m1 62 rfl) rfl
theorem q81 : (Jvm.Cond.privateMethod ({ cls := "BranchTimes", name := "isAsking", desc := "()Z" } : Jvm.MethodName)) ∈ lw_tbl := lw_at lw_m1 63 rfl
theorem q82 : (Jvm.Cond.instanceMethod ({ cls := "BranchTimes", name := "isAsking", desc := "()Z" } : Jvm.MethodName)) ∈ lw_all := lw_g (lw_at lw_m1 64 rfl) rfl
theorem q83 : (Jvm.Cond.code ({ cls := "BranchTimes", name := "isAsking", desc := "()Z" } : Jvm.MethodName) prog_1_method_8_code (1 : Nat) (Option.some Jvm.ClassFile.FieldType.boolean)) ∈ lw_all := lw_g (lw_at lw_m1 65 rfl) rfl
theorem q84 : (Jvm.Cond.methodLink "BranchTimes" (46 : Nat) ({ cls := "BranchTimes", name := "near", desc := "()I" } : Jvm.MethodName)) ∈ lw_all := lw_g (lw_at lw_m1 66 rfl) rfl
theorem q85 : (Jvm.Cond.privateMethod ({ cls := "BranchTimes", name := "near", desc := "()I" } : Jvm.MethodName)) ∈ lw_tbl := lw_at lw_m1 67 rfl
theorem q86 : (Jvm.Cond.instanceMethod ({ cls := "BranchTimes", name := "near", desc := "()I" } : Jvm.MethodName)) ∈ lw_all := lw_g (lw_at lw_m1 68 rfl) rfl
theorem q87 : (Jvm.Cond.code ({ cls := "BranchTimes", name := "near", desc := "()I" } : Jvm.MethodName) prog_1_method_5_code (3 : Nat) (Option.some Jvm.ClassFile.FieldType.int)) ∈ lw_all := lw_g (lw_at lw_m1 69 rfl) rfl
theorem q89 : (Jvm.Cond.instanceMethod ({ cls := "BranchTimes", name := "join", desc := "(III)Z" } : Jvm.MethodName)) ∈ lw_all := lw_g (lw_at lw_m1 71 rfl) rfl
theorem q90 : (Jvm.Cond.selects "BranchTimes" ({ cls := "BranchTimes", name := "join", desc := "(III)Z" } : Jvm.MethodName) ({ cls := "BranchTimes", name := "join", desc := "(III)Z" } : Jvm.MethodName)) ∈ lw_all := lw_g (lw_at lw_m1 72 rfl) rfl
theorem q91 : (Jvm.Cond.code ({ cls := "BranchTimes", name := "join", desc := "(III)Z" } : Jvm.MethodName) prog_1_method_13_code (8 : Nat) (Option.some Jvm.ClassFile.FieldType.boolean)) ∈ lw_all := lw_g (lw_at lw_m1 73 rfl) rfl
theorem q92 : (Jvm.Cond.methodLink "BranchTimes" (54 : Nat) ({ cls := "BranchTimes", name := "isTree", desc := "(II)Z" } : Jvm.MethodName)) ∈ lw_all := lw_g (lw_at lw_m1 74 rfl) rfl
theorem q93 : (Jvm.Cond.static ({ cls := "BranchTimes", name := "isTree", desc := "(II)Z" } : Jvm.MethodName)) ∈ lw_all := lw_g (lw_at lw_m1 75 rfl) rfl
theorem q94 : (Jvm.Cond.code ({ cls := "BranchTimes", name := "isTree", desc := "(II)Z" } : Jvm.MethodName) prog_1_method_4_code (2 : Nat) (Option.some Jvm.ClassFile.FieldType.boolean)) ∈ lw_all := lw_g (lw_at lw_m1 76 rfl) rfl
theorem q95 : (Jvm.Cond.methodLink "BranchTimes" (58 : Nat) ({ cls := "BranchTimes", name := "isJoined", desc := "(II)Z" } : Jvm.MethodName)) ∈ lw_all := lw_g (lw_at lw_m1 77 rfl) rfl
theorem q96 : (Jvm.Cond.privateMethod ({ cls := "BranchTimes", name := "isJoined", desc := "(II)Z" } : Jvm.MethodName)) ∈ lw_tbl := lw_at lw_m1 78 rfl
theorem q97 : (Jvm.Cond.instanceMethod ({ cls := "BranchTimes", name := "isJoined", desc := "(II)Z" } : Jvm.MethodName)) ∈ lw_all := lw_g (lw_at lw_m1 79 rfl) rfl
theorem q98 : (Jvm.Cond.code ({ cls := "BranchTimes", name := "isJoined", desc := "(II)Z" } : Jvm.MethodName) prog_1_method_12_code (3 : Nat) (Option.some Jvm.ClassFile.FieldType.boolean)) ∈ lw_all := lw_g (lw_at lw_m1 80 rfl) rfl
theorem q99 : (Jvm.Cond.methodLink "BranchTimes" (61 : Nat) ({ cls := "BranchTimes", name := "isCrowded", desc := "()Z" } : Jvm.MethodName)) ∈ lw_all := lw_g (lw_at lw_m1 81 rfl) rfl
theorem q100 : (Jvm.Cond.privateMethod ({ cls := "BranchTimes", name := "isCrowded", desc := "()Z" } : Jvm.MethodName)) ∈ lw_tbl := lw_at lw_m1 82 rfl
theorem q101 : (Jvm.Cond.instanceMethod ({ cls := "BranchTimes", name := "isCrowded", desc := "()Z" } : Jvm.MethodName)) ∈ lw_all := lw_g (lw_at lw_m1 83 rfl) rfl
theorem q102 : (Jvm.Cond.code ({ cls := "BranchTimes", name := "isCrowded", desc := "()Z" } : Jvm.MethodName) prog_1_method_6_code (2 : Nat) (Option.some Jvm.ClassFile.FieldType.boolean)) ∈ lw_all := lw_g (lw_at lw_m1 84 rfl) rfl
theorem q104 : (Jvm.Cond.instanceMethod ({ cls := "BranchTimes", name := "prune", desc := "(II)Z" } : Jvm.MethodName)) ∈ lw_all := lw_g (lw_at lw_m1 86 rfl) rfl
theorem q105 : (Jvm.Cond.selects "BranchTimes" ({ cls := "BranchTimes", name := "prune", desc := "(II)Z" } : Jvm.MethodName) ({ cls := "BranchTimes", name := "prune", desc := "(II)Z" } : Jvm.MethodName)) ∈ lw_all := lw_g (lw_at lw_m1 87 rfl) rfl
theorem q106 : (Jvm.Cond.code ({ cls := "BranchTimes", name := "prune", desc := "(II)Z" } : Jvm.MethodName) prog_1_method_14_code (4 : Nat) (Option.some Jvm.ClassFile.FieldType.boolean)) ∈ lw_all := lw_g (lw_at lw_m1 88 rfl) rfl
theorem q109 : (Jvm.Cond.instanceMethod ({ cls := "BranchTimes", name := "joined", desc := "(II)I" } : Jvm.MethodName)) ∈ lw_all := lw_g (lw_at lw_m1 91 rfl) rfl
theorem q110 : (Jvm.Cond.selects "BranchTimes" ({ cls := "BranchTimes", name := "joined", desc := "(II)I" } : Jvm.MethodName) ({ cls := "BranchTimes", name := "joined", desc := "(II)I" } : Jvm.MethodName)) ∈ lw_all := lw_g (lw_at lw_m1 92 rfl) rfl
theorem q111 : (Jvm.Cond.code ({ cls := "BranchTimes", name := "joined", desc := "(II)I" } : Jvm.MethodName) prog_1_method_16_code (3 : Nat) (Option.some Jvm.ClassFile.FieldType.int)) ∈ lw_all := lw_g (lw_at lw_m1 93 rfl) rfl
theorem q113 : (Jvm.Cond.instanceMethod ({ cls := "BranchTimes", name := "cut", desc := "(II)I" } : Jvm.MethodName)) ∈ lw_all := lw_g (lw_at lw_m1 95 rfl) rfl
theorem q114 : (Jvm.Cond.selects "BranchTimes" ({ cls := "BranchTimes", name := "cut", desc := "(II)I" } : Jvm.MethodName) ({ cls := "BranchTimes", name := "cut", desc := "(II)I" } : Jvm.MethodName)) ∈ lw_all := lw_g (lw_at lw_m1 96 rfl) rfl
theorem q115 : (Jvm.Cond.code ({ cls := "BranchTimes", name := "cut", desc := "(II)I" } : Jvm.MethodName) prog_1_method_17_code (4 : Nat) (Option.some Jvm.ClassFile.FieldType.int)) ∈ lw_all := lw_g (lw_at lw_m1 97 rfl) rfl
theorem q117 : (Jvm.Cond.instanceMethod ({ cls := "BranchTimes", name := "members", desc := "(I)I" } : Jvm.MethodName)) ∈ lw_all := lw_g (lw_at lw_m1 99 rfl) rfl
theorem q118 : (Jvm.Cond.selects "BranchTimes" ({ cls := "BranchTimes", name := "members", desc := "(I)I" } : Jvm.MethodName) ({ cls := "BranchTimes", name := "members", desc := "(I)I" } : Jvm.MethodName)) ∈ lw_all := lw_g (lw_at lw_m1 100 rfl) rfl
theorem q119 : (Jvm.Cond.code ({ cls := "BranchTimes", name := "members", desc := "(I)I" } : Jvm.MethodName) prog_1_method_18_code (2 : Nat) (Option.some Jvm.ClassFile.FieldType.int)) ∈ lw_all := lw_g (lw_at lw_m1 101 rfl) rfl
theorem q121 : (Jvm.Cond.instanceMethod ({ cls := "BranchTimes", name := "goes", desc := "(I)I" } : Jvm.MethodName)) ∈ lw_all := lw_g (lw_at lw_m1 103 rfl) rfl
theorem q122 : (Jvm.Cond.selects "BranchTimes" ({ cls := "BranchTimes", name := "goes", desc := "(I)I" } : Jvm.MethodName) ({ cls := "BranchTimes", name := "goes", desc := "(I)I" } : Jvm.MethodName)) ∈ lw_all := lw_g (lw_at lw_m1 104 rfl) rfl
theorem q123 : (Jvm.Cond.code ({ cls := "BranchTimes", name := "goes", desc := "(I)I" } : Jvm.MethodName) prog_1_method_20_code (4 : Nat) (Option.some Jvm.ClassFile.FieldType.int)) ∈ lw_all := lw_g (lw_at lw_m1 105 rfl) rfl
theorem q124 : (Jvm.Cond.methodLink "BranchTimes" (67 : Nat) ({ cls := "BranchTimes", name := "goesOn", desc := "(II)Z" } : Jvm.MethodName)) ∈ lw_all := lw_g (lw_at lw_m1 106 rfl) rfl
theorem q125 : (Jvm.Cond.privateMethod ({ cls := "BranchTimes", name := "goesOn", desc := "(II)Z" } : Jvm.MethodName)) ∈ lw_tbl := lw_at lw_m1 107 rfl
theorem q126 : (Jvm.Cond.instanceMethod ({ cls := "BranchTimes", name := "goesOn", desc := "(II)Z" } : Jvm.MethodName)) ∈ lw_all := lw_g (lw_at lw_m1 108 rfl) rfl
theorem q127 : (Jvm.Cond.code ({ cls := "BranchTimes", name := "goesOn", desc := "(II)Z" } : Jvm.MethodName) prog_1_method_19_code (5 : Nat) (Option.some Jvm.ClassFile.FieldType.boolean)) ∈ lw_all := lw_g (lw_at lw_m1 109 rfl) rfl
theorem q128 : (Jvm.Cond.methodLink "BranchTimes" (64 : Nat) ({ cls := "BranchTimes", name := "isFirst", desc := "()Z" } : Jvm.MethodName)) ∈ lw_all := lw_g (lw_at lw_m1 110 rfl) rfl
theorem q129 : (Jvm.Cond.privateMethod ({ cls := "BranchTimes", name := "isFirst", desc := "()Z" } : Jvm.MethodName)) ∈ lw_tbl := lw_at lw_m1 111 rfl
theorem q130 : (Jvm.Cond.instanceMethod ({ cls := "BranchTimes", name := "isFirst", desc := "()Z" } : Jvm.MethodName)) ∈ lw_all := lw_g (lw_at lw_m1 112 rfl) rfl
theorem q131 : (Jvm.Cond.code ({ cls := "BranchTimes", name := "isFirst", desc := "()Z" } : Jvm.MethodName) prog_1_method_7_code (1 : Nat) (Option.some Jvm.ClassFile.FieldType.boolean)) ∈ lw_all := lw_g (lw_at lw_m1 113 rfl) rfl
theorem q133 : (Jvm.Cond.instanceMethod ({ cls := "BranchTimes", name := "look", desc := "(I)I" } : Jvm.MethodName)) ∈ lw_all := lw_g (lw_at lw_m1 115 rfl) rfl
theorem q134 : (Jvm.Cond.selects "BranchTimes" ({ cls := "BranchTimes", name := "look", desc := "(I)I" } : Jvm.MethodName) ({ cls := "BranchTimes", name := "look", desc := "(I)I" } : Jvm.MethodName)) ∈ lw_all := lw_g (lw_at lw_m1 116 rfl) rfl
theorem q135 : (Jvm.Cond.code ({ cls := "BranchTimes", name := "look", desc := "(I)I" } : Jvm.MethodName) prog_1_method_23_code (2 : Nat) (Option.some Jvm.ClassFile.FieldType.int)) ∈ lw_all := lw_g (lw_at lw_m1 117 rfl) rfl
theorem q136 : (Jvm.Cond.methodLink "BranchTimes" (74 : Nat) ({ cls := "BranchTimes", name := "groups", desc := "()I" } : Jvm.MethodName)) ∈ lw_all := lw_g (lw_at lw_m1 118 rfl) rfl
theorem q137 : (Jvm.Cond.privateMethod ({ cls := "BranchTimes", name := "groups", desc := "()I" } : Jvm.MethodName)) ∈ lw_tbl := lw_at lw_m1 119 rfl
theorem q138 : (Jvm.Cond.instanceMethod ({ cls := "BranchTimes", name := "groups", desc := "()I" } : Jvm.MethodName)) ∈ lw_all := lw_g (lw_at lw_m1 120 rfl) rfl
theorem q139 : (Jvm.Cond.code ({ cls := "BranchTimes", name := "groups", desc := "()I" } : Jvm.MethodName) prog_1_method_21_code (3 : Nat) (Option.some Jvm.ClassFile.FieldType.int)) ∈ lw_all := lw_g (lw_at lw_m1 121 rfl) rfl
theorem q140 : (Jvm.Cond.methodLink "BranchTimes" (70 : Nat) ({ cls := "BranchTimes", name := "goes", desc := "(I)I" } : Jvm.MethodName)) ∈ lw_all := lw_g (lw_at lw_m1 122 rfl) rfl
theorem q141 : (Jvm.Cond.methodLink "BranchTimes" (77 : Nat) ({ cls := "BranchTimes", name := "branches", desc := "()I" } : Jvm.MethodName)) ∈ lw_all := lw_g (lw_at lw_m1 123 rfl) rfl
theorem q142 : (Jvm.Cond.privateMethod ({ cls := "BranchTimes", name := "branches", desc := "()I" } : Jvm.MethodName)) ∈ lw_tbl := lw_at lw_m1 124 rfl
theorem q143 : (Jvm.Cond.instanceMethod ({ cls := "BranchTimes", name := "branches", desc := "()I" } : Jvm.MethodName)) ∈ lw_all := lw_g (lw_at lw_m1 125 rfl) rfl
theorem q144 : (Jvm.Cond.code ({ cls := "BranchTimes", name := "branches", desc := "()I" } : Jvm.MethodName) prog_1_method_22_code (3 : Nat) (Option.some Jvm.ClassFile.FieldType.int)) ∈ lw_all := lw_g (lw_at lw_m1 126 rfl) rfl
theorem in_X1 : ∀ w ∈ wsX10, w ∈ lw_all := lw_in wsX10 [46, 48, 50, 52, 54, 56] (by decide +kernel) (by decide +kernel)
def RX2 : String := "BranchTimesModel"
def TX2 : u_T := fun k => match k with
  | 0 => ("BranchTimesModel", "me", "I", true)
  | 1 => ("BranchTimesModel", "time", "I", false)
  | 2 => ("BranchTimesModel", "helloAt", "[I", true)
  | 3 => ("BranchTimesModel", "reportAt", "[I", true)
  | 4 => ("BranchTimesModel", "leftTill", "[I", true)
  | 5 => ("BranchTimesModel", "joinAt", "[I", true)
  | 6 => ("BranchTimesModel", "prunedTill", "[I", true)
  | _ => ("BranchTimesModel", "cutFrom", "[I", true)
def tyX2 : Nat → FieldType := fun k => match k with
  | 0 => .int
  | 1 => .int
  | 2 => .array .int
  | 3 => .array .int
  | 4 => .array .int
  | 5 => .array .int
  | 6 => .array .int
  | _ => .array .int
abbrev wsX20 : List Cond := u_ws RX2 TX2 8
theorem nmX2 : ∀ a, a < 8 → ∀ b, b < 8 → a ≠ b → (TX2 a).2.1 ≠ (TX2 b).2.1 := by decide +kernel
theorem tyX2_ok : ∀ k, k < 8 → parseFieldDescriptor (TX2 k).2.2.1 = some (tyX2 k) := by decide +kernel
abbrev cX2_init : ByteArray := prog_3_method_1_code
def yX2_init : MethodName := ⟨RX2, "<init>", "(I)V"⟩
abbrev cX2_forgetAll : ByteArray := prog_3_method_3_code
def yX2_forgetAll : MethodName := ⟨RX2, "forgetAll", "()V"⟩
abbrev cX2_tick : ByteArray := prog_3_method_6_code
def yX2_tick : MethodName := ⟨RX2, "tick", "(I)I"⟩
abbrev cX2_hello : ByteArray := prog_3_method_11_code
def yX2_hello : MethodName := ⟨RX2, "hello", "(I)Z"⟩
abbrev cX2_report : ByteArray := prog_3_method_13_code
def yX2_report : MethodName := ⟨RX2, "report", "(I)Z"⟩
abbrev cX2_isGroup : ByteArray := prog_3_method_4_code
def yX2_isGroup : MethodName := ⟨RX2, "isGroup", "(I)Z"⟩
abbrev cX2_leave : ByteArray := prog_3_method_14_code
def yX2_leave : MethodName := ⟨RX2, "leave", "(I)Z"⟩
abbrev cX2_memberTill : ByteArray := prog_3_method_12_code
def yX2_memberTill : MethodName := ⟨RX2, "memberTill", "(I)I"⟩
abbrev cX2_isAsking : ByteArray := prog_3_method_9_code
def yX2_isAsking : MethodName := ⟨RX2, "isAsking", "()Z"⟩
abbrev cX2_neighbours : ByteArray := prog_3_method_7_code
def yX2_neighbours : MethodName := ⟨RX2, "neighbours", "()I"⟩
abbrev cX2_members : ByteArray := prog_3_method_15_code
def yX2_members : MethodName := ⟨RX2, "members", "(I)I"⟩
abbrev cX2_join : ByteArray := prog_3_method_17_code
def yX2_join : MethodName := ⟨RX2, "join", "(III)Z"⟩
abbrev cX2_isBranch : ByteArray := prog_3_method_5_code
def yX2_isBranch : MethodName := ⟨RX2, "isBranch", "(II)Z"⟩
abbrev cX2_till : ByteArray := prog_3_method_16_code
def yX2_till : MethodName := ⟨RX2, "till", "(II)I"⟩
abbrev cX2_isCrowded : ByteArray := prog_3_method_10_code
def yX2_isCrowded : MethodName := ⟨RX2, "isCrowded", "()Z"⟩
abbrev cX2_prune : ByteArray := prog_3_method_18_code
def yX2_prune : MethodName := ⟨RX2, "prune", "(II)Z"⟩
abbrev cX2_forget : ByteArray := prog_3_method_19_code
def yX2_forget : MethodName := ⟨RX2, "forget", "()V"⟩
abbrev cX2_joined : ByteArray := prog_3_method_20_code
def yX2_joined : MethodName := ⟨RX2, "joined", "(II)I"⟩
abbrev cX2_cut : ByteArray := prog_3_method_21_code
def yX2_cut : MethodName := ⟨RX2, "cut", "(II)I"⟩
abbrev cX2_goes : ByteArray := prog_3_method_23_code
def yX2_goes : MethodName := ⟨RX2, "goes", "(I)I"⟩
abbrev cX2_isFirst : ByteArray := prog_3_method_8_code
def yX2_isFirst : MethodName := ⟨RX2, "isFirst", "()Z"⟩
abbrev cX2_isCutOff : ByteArray := prog_3_method_22_code
def yX2_isCutOff : MethodName := ⟨RX2, "isCutOff", "(II)Z"⟩
abbrev cX2_look : ByteArray := prog_3_method_24_code
def yX2_look : MethodName := ⟨RX2, "look", "(I)I"⟩
abbrev cX2_going : ByteArray := prog_3_method_25_code
def yX2_going : MethodName := ⟨RX2, "going", "()I"⟩
abbrev cX2_branches : ByteArray := prog_3_method_26_code
def yX2_branches : MethodName := ⟨RX2, "branches", "()I"⟩
theorem q21 : (Jvm.Cond.initialized "BranchTimesModel") ∈ lw_all := lw_g (lw_at lw_m1 3 rfl) rfl
theorem q149 : (Jvm.Cond.instantiable "BranchTimesModel" (8 : Nat)) ∈ lw_all := lw_g (lw_at lw_m1 131 rfl) rfl
theorem q151 : (Jvm.Cond.instanceMethod ({ cls := "BranchTimesModel", name := "<init>", desc := "(I)V" } : Jvm.MethodName)) ∈ lw_all := lw_g (lw_at lw_m1 133 rfl) rfl
theorem q152 : (Jvm.Cond.code ({ cls := "BranchTimesModel", name := "<init>", desc := "(I)V" } : Jvm.MethodName) prog_3_method_1_code (2 : Nat) (Option.none : Option Jvm.ClassFile.FieldType)) ∈ lw_all := lw_g (lw_at lw_m1 134 rfl) rfl
theorem q153 : (Jvm.Cond.methodLink "BranchTimesModel" (1 : Nat) ({ cls := "java/lang/Object", name := "<init>", desc := "()V" } : Jvm.MethodName)) ∈ lw_all := lw_g (lw_at lw_m1 135 rfl) rfl
theorem q154 : (Jvm.Cond.methodLink "BranchTimesModel" (32 : Nat) ({ cls := "BranchTimesModel", name := "forgetAll", desc := "()V" } : Jvm.MethodName)) ∈ lw_all := lw_g (lw_at lw_m1 136 rfl) rfl
theorem q155 : (Jvm.Cond.privateMethod ({ cls := "BranchTimesModel", name := "forgetAll", desc := "()V" } : Jvm.MethodName)) ∈ lw_tbl := lw_at lw_m1 137 rfl
theorem q156 : (Jvm.Cond.instanceMethod ({ cls := "BranchTimesModel", name := "forgetAll", desc := "()V" } : Jvm.MethodName)) ∈ lw_all := lw_g (lw_at lw_m1 138 rfl) rfl
theorem q157 : (Jvm.Cond.code ({ cls := "BranchTimesModel", name := "forgetAll", desc := "()V" } : Jvm.MethodName) prog_3_method_3_code (2 : Nat) (Option.none : Option Jvm.ClassFile.FieldType)) ∈ lw_all := lw_g (lw_at lw_m1 139 rfl) rfl
theorem q158 : (Jvm.Cond.fieldLink "BranchTimesModel" (28 : Nat) "BranchTimesModel" "me" "I") ∈ lw_all := lw_g (lw_at lw_m1 140 rfl) rfl
theorem q159 : (Jvm.Cond.fieldLink "BranchTimesModel" (39 : Nat) "BranchTimesModel" "time" "I") ∈ lw_all := lw_g (lw_at lw_m1 141 rfl) rfl
theorem q160 : (Jvm.Cond.fieldLink "BranchTimesModel" (7 : Nat) "BranchTimesModel" "helloAt" "[I") ∈ lw_all := lw_g (lw_at lw_m1 142 rfl) rfl
theorem q161 : (Jvm.Cond.fieldLink "BranchTimesModel" (13 : Nat) "BranchTimesModel" "reportAt" "[I") ∈ lw_all := lw_g (lw_at lw_m1 143 rfl) rfl
theorem q162 : (Jvm.Cond.fieldLink "BranchTimesModel" (16 : Nat) "BranchTimesModel" "leftTill" "[I") ∈ lw_all := lw_g (lw_at lw_m1 144 rfl) rfl
theorem q163 : (Jvm.Cond.fieldLink "BranchTimesModel" (19 : Nat) "BranchTimesModel" "joinAt" "[I") ∈ lw_all := lw_g (lw_at lw_m1 145 rfl) rfl
theorem q164 : (Jvm.Cond.fieldLink "BranchTimesModel" (22 : Nat) "BranchTimesModel" "prunedTill" "[I") ∈ lw_all := lw_g (lw_at lw_m1 146 rfl) rfl
theorem q165 : (Jvm.Cond.fieldLink "BranchTimesModel" (25 : Nat) "BranchTimesModel" "cutFrom" "[I") ∈ lw_all := lw_g (lw_at lw_m1 147 rfl) rfl
theorem q166 : (Jvm.Cond.laysFinal "BranchTimesModel" "BranchTimesModel" "me" "I") ∈ lw_all := lw_g (lw_at lw_m1 148 rfl) rfl
theorem q167 : (Jvm.Cond.soleField "BranchTimesModel" "me") ∈ lw_all := lw_g (lw_at lw_m1 149 rfl) rfl
theorem q168 : (Jvm.Cond.lays "BranchTimesModel" "BranchTimesModel" "time" "I") ∈ lw_all := lw_g (lw_at lw_m1 150 rfl) rfl
theorem q169 : (Jvm.Cond.soleField "BranchTimesModel" "time") ∈ lw_all := lw_g (lw_at lw_m1 151 rfl) rfl
theorem q170 : (Jvm.Cond.laysFinal "BranchTimesModel" "BranchTimesModel" "helloAt" "[I") ∈ lw_all := lw_g (lw_at lw_m1 152 rfl) rfl
theorem q171 : (Jvm.Cond.soleField "BranchTimesModel" "helloAt") ∈ lw_all := lw_g (lw_at lw_m1 153 rfl) rfl
theorem q172 : (Jvm.Cond.laysFinal "BranchTimesModel" "BranchTimesModel" "reportAt" "[I") ∈ lw_all := lw_g (lw_at lw_m1 154 rfl) rfl
theorem q173 : (Jvm.Cond.soleField "BranchTimesModel" "reportAt") ∈ lw_all := lw_g (lw_at lw_m1 155 rfl) rfl
theorem q174 : (Jvm.Cond.laysFinal "BranchTimesModel" "BranchTimesModel" "leftTill" "[I") ∈ lw_all := lw_g (lw_at lw_m1 156 rfl) rfl
theorem q175 : (Jvm.Cond.soleField "BranchTimesModel" "leftTill") ∈ lw_all := lw_g (lw_at lw_m1 157 rfl) rfl
theorem q176 : (Jvm.Cond.laysFinal "BranchTimesModel" "BranchTimesModel" "joinAt" "[I") ∈ lw_all := lw_g (lw_at lw_m1 158 rfl) rfl
theorem q177 : (Jvm.Cond.soleField "BranchTimesModel" "joinAt") ∈ lw_all := lw_g (lw_at lw_m1 159 rfl) rfl
theorem q178 : (Jvm.Cond.laysFinal "BranchTimesModel" "BranchTimesModel" "prunedTill" "[I") ∈ lw_all := lw_g (lw_at lw_m1 160 rfl) rfl
theorem q179 : (Jvm.Cond.soleField "BranchTimesModel" "prunedTill") ∈ lw_all := lw_g (lw_at lw_m1 161 rfl) rfl
theorem q180 : (Jvm.Cond.laysFinal "BranchTimesModel" "BranchTimesModel" "cutFrom" "[I") ∈ lw_all := lw_g (lw_at lw_m1 162 rfl) rfl
theorem q181 : (Jvm.Cond.soleField "BranchTimesModel" "cutFrom") ∈ lw_all := lw_g (lw_at lw_m1 163 rfl) rfl
theorem q182 : (Jvm.Cond.superclass "BranchTimesModel" "java/lang/Object") ∈ lw_all := lw_g (lw_at lw_m1 164 rfl) rfl
theorem q184 : (Jvm.Cond.instanceMethod ({ cls := "BranchTimesModel", name := "tick", desc := "(I)I" } : Jvm.MethodName)) ∈ lw_all := lw_g (lw_at lw_m1 166 rfl) rfl
theorem q185 : (Jvm.Cond.selects "BranchTimesModel" ({ cls := "BranchTimesModel", name := "tick", desc := "(I)I" } : Jvm.MethodName) ({ cls := "BranchTimesModel", name := "tick", desc := "(I)I" } : Jvm.MethodName)) ∈ lw_all := lw_g (lw_at lw_m1 167 rfl) rfl
theorem q186 : (Jvm.Cond.code ({ cls := "BranchTimesModel", name := "tick", desc := "(I)I" } : Jvm.MethodName) prog_3_method_6_code (2 : Nat) (Option.some Jvm.ClassFile.FieldType.int)) ∈ lw_all := lw_g (lw_at lw_m1 168 rfl) rfl
theorem q187 : (Jvm.Cond.constant "BranchTimesModel" (42 : Nat) (100000 : Int32)) ∈ lw_all := lw_g (lw_at lw_m1 169 rfl) rfl
theorem q189 : (Jvm.Cond.instanceMethod ({ cls := "BranchTimesModel", name := "hello", desc := "(I)Z" } : Jvm.MethodName)) ∈ lw_all := lw_g (lw_at lw_m1 171 rfl) rfl
theorem q190 : (Jvm.Cond.selects "BranchTimesModel" ({ cls := "BranchTimesModel", name := "hello", desc := "(I)Z" } : Jvm.MethodName) ({ cls := "BranchTimesModel", name := "hello", desc := "(I)Z" } : Jvm.MethodName)) ∈ lw_all := lw_g (lw_at lw_m1 172 rfl) rfl
theorem q191 : (Jvm.Cond.code ({ cls := "BranchTimesModel", name := "hello", desc := "(I)Z" } : Jvm.MethodName) prog_3_method_11_code (2 : Nat) (Option.some Jvm.ClassFile.FieldType.boolean)) ∈ lw_all := lw_g (lw_at lw_m1 173 rfl) rfl
theorem q193 : (Jvm.Cond.instanceMethod ({ cls := "BranchTimesModel", name := "report", desc := "(I)Z" } : Jvm.MethodName)) ∈ lw_all := lw_g (lw_at lw_m1 175 rfl) rfl
theorem q194 : (Jvm.Cond.selects "BranchTimesModel" ({ cls := "BranchTimesModel", name := "report", desc := "(I)Z" } : Jvm.MethodName) ({ cls := "BranchTimesModel", name := "report", desc := "(I)Z" } : Jvm.MethodName)) ∈ lw_all := lw_g (lw_at lw_m1 176 rfl) rfl
theorem q195 : (Jvm.Cond.code ({ cls := "BranchTimesModel", name := "report", desc := "(I)Z" } : Jvm.MethodName) prog_3_method_13_code (2 : Nat) (Option.some Jvm.ClassFile.FieldType.boolean)) ∈ lw_all := lw_g (lw_at lw_m1 177 rfl) rfl
theorem q196 : (Jvm.Cond.methodLink "BranchTimesModel" (35 : Nat) ({ cls := "BranchTimesModel", name := "isGroup", desc := "(I)Z" } : Jvm.MethodName)) ∈ lw_all := lw_g (lw_at lw_m1 178 rfl) rfl
theorem q197 : (Jvm.Cond.static ({ cls := "BranchTimesModel", name := "isGroup", desc := "(I)Z" } : Jvm.MethodName)) ∈ lw_all := lw_g (lw_at lw_m1 179 rfl) rfl
theorem q198 : (Jvm.Cond.code ({ cls := "BranchTimesModel", name := "isGroup", desc := "(I)Z" } : Jvm.MethodName) prog_3_method_4_code (1 : Nat) (Option.some Jvm.ClassFile.FieldType.boolean)) ∈ lw_all := lw_g (lw_at lw_m1 180 rfl) rfl
theorem q199 : (Jvm.Cond.constant "BranchTimesModel" (47 : Nat) (1000000 : Int32)) ∈ lw_all := lw_g (lw_at lw_m1 181 rfl) rfl
theorem q201 : (Jvm.Cond.instanceMethod ({ cls := "BranchTimesModel", name := "leave", desc := "(I)Z" } : Jvm.MethodName)) ∈ lw_all := lw_g (lw_at lw_m1 183 rfl) rfl
theorem q202 : (Jvm.Cond.selects "BranchTimesModel" ({ cls := "BranchTimesModel", name := "leave", desc := "(I)Z" } : Jvm.MethodName) ({ cls := "BranchTimesModel", name := "leave", desc := "(I)Z" } : Jvm.MethodName)) ∈ lw_all := lw_g (lw_at lw_m1 184 rfl) rfl
theorem q203 : (Jvm.Cond.code ({ cls := "BranchTimesModel", name := "leave", desc := "(I)Z" } : Jvm.MethodName) prog_3_method_14_code (2 : Nat) (Option.some Jvm.ClassFile.FieldType.boolean)) ∈ lw_all := lw_g (lw_at lw_m1 185 rfl) rfl
theorem q204 : (Jvm.Cond.methodLink "BranchTimesModel" (48 : Nat) ({ cls := "BranchTimesModel", name := "memberTill", desc := "(I)I" } : Jvm.MethodName)) ∈ lw_all := lw_g (lw_at lw_m1 186 rfl) rfl
theorem q205 : (Jvm.Cond.privateMethod ({ cls := "BranchTimesModel", name := "memberTill", desc := "(I)I" } : Jvm.MethodName)) ∈ lw_tbl := lw_at lw_m1 187 rfl
theorem q206 : (Jvm.Cond.instanceMethod ({ cls := "BranchTimesModel", name := "memberTill", desc := "(I)I" } : Jvm.MethodName)) ∈ lw_all := lw_g (lw_at lw_m1 188 rfl) rfl
theorem q207 : (Jvm.Cond.code ({ cls := "BranchTimesModel", name := "memberTill", desc := "(I)I" } : Jvm.MethodName) prog_3_method_12_code (3 : Nat) (Option.some Jvm.ClassFile.FieldType.int)) ∈ lw_all := lw_g (lw_at lw_m1 189 rfl) rfl
theorem q208 : (Jvm.Cond.methodLink "BranchTimesModel" (52 : Nat) ({ cls := "BranchTimesModel", name := "isAsking", desc := "()Z" } : Jvm.MethodName)) ∈ lw_all := lw_g (lw_at lw_m1 190 rfl) rfl
theorem q209 : (Jvm.Cond.privateMethod ({ cls := "BranchTimesModel", name := "isAsking", desc := "()Z" } : Jvm.MethodName)) ∈ lw_tbl := lw_at lw_m1 191 rfl
theorem q210 : (Jvm.Cond.instanceMethod ({ cls := "BranchTimesModel", name := "isAsking", desc := "()Z" } : Jvm.MethodName)) ∈ lw_all := lw_g (lw_at lw_m1 192 rfl) rfl
theorem q211 : (Jvm.Cond.code ({ cls := "BranchTimesModel", name := "isAsking", desc := "()Z" } : Jvm.MethodName) prog_3_method_9_code (1 : Nat) (Option.some Jvm.ClassFile.FieldType.boolean)) ∈ lw_all := lw_g (lw_at lw_m1 193 rfl) rfl
theorem q212 : (Jvm.Cond.methodLink "BranchTimesModel" (43 : Nat) ({ cls := "BranchTimesModel", name := "neighbours", desc := "()I" } : Jvm.MethodName)) ∈ lw_all := lw_g (lw_at lw_m1 194 rfl) rfl
theorem q213 : (Jvm.Cond.privateMethod ({ cls := "BranchTimesModel", name := "neighbours", desc := "()I" } : Jvm.MethodName)) ∈ lw_tbl := lw_at lw_m1 195 rfl
theorem q214 : (Jvm.Cond.instanceMethod ({ cls := "BranchTimesModel", name := "neighbours", desc := "()I" } : Jvm.MethodName)) ∈ lw_all := lw_g (lw_at lw_m1 196 rfl) rfl
theorem q215 : (Jvm.Cond.code ({ cls := "BranchTimesModel", name := "neighbours", desc := "()I" } : Jvm.MethodName) prog_3_method_7_code (3 : Nat) (Option.some Jvm.ClassFile.FieldType.int)) ∈ lw_all := lw_g (lw_at lw_m1 197 rfl) rfl
theorem q217 : (Jvm.Cond.instanceMethod ({ cls := "BranchTimesModel", name := "members", desc := "(I)I" } : Jvm.MethodName)) ∈ lw_all := lw_g (lw_at lw_m1 199 rfl) rfl
theorem q218 : (Jvm.Cond.selects "BranchTimesModel" ({ cls := "BranchTimesModel", name := "members", desc := "(I)I" } : Jvm.MethodName) ({ cls := "BranchTimesModel", name := "members", desc := "(I)I" } : Jvm.MethodName)) ∈ lw_all := lw_g (lw_at lw_m1 200 rfl) rfl
theorem q219 : (Jvm.Cond.code ({ cls := "BranchTimesModel", name := "members", desc := "(I)I" } : Jvm.MethodName) prog_3_method_15_code (2 : Nat) (Option.some Jvm.ClassFile.FieldType.int)) ∈ lw_all := lw_g (lw_at lw_m1 201 rfl) rfl
theorem q221 : (Jvm.Cond.instanceMethod ({ cls := "BranchTimesModel", name := "join", desc := "(III)Z" } : Jvm.MethodName)) ∈ lw_all := lw_g (lw_at lw_m1 203 rfl) rfl
theorem q222 : (Jvm.Cond.selects "BranchTimesModel" ({ cls := "BranchTimesModel", name := "join", desc := "(III)Z" } : Jvm.MethodName) ({ cls := "BranchTimesModel", name := "join", desc := "(III)Z" } : Jvm.MethodName)) ∈ lw_all := lw_g (lw_at lw_m1 204 rfl) rfl
theorem q223 : (Jvm.Cond.code ({ cls := "BranchTimesModel", name := "join", desc := "(III)Z" } : Jvm.MethodName) prog_3_method_17_code (8 : Nat) (Option.some Jvm.ClassFile.FieldType.boolean)) ∈ lw_all := lw_g (lw_at lw_m1 205 rfl) rfl
theorem q224 : (Jvm.Cond.methodLink "BranchTimesModel" (56 : Nat) ({ cls := "BranchTimesModel", name := "isBranch", desc := "(II)Z" } : Jvm.MethodName)) ∈ lw_all := lw_g (lw_at lw_m1 206 rfl) rfl
theorem q225 : (Jvm.Cond.static ({ cls := "BranchTimesModel", name := "isBranch", desc := "(II)Z" } : Jvm.MethodName)) ∈ lw_all := lw_g (lw_at lw_m1 207 rfl) rfl
theorem q226 : (Jvm.Cond.code ({ cls := "BranchTimesModel", name := "isBranch", desc := "(II)Z" } : Jvm.MethodName) prog_3_method_5_code (2 : Nat) (Option.some Jvm.ClassFile.FieldType.boolean)) ∈ lw_all := lw_g (lw_at lw_m1 208 rfl) rfl
theorem q227 : (Jvm.Cond.methodLink "BranchTimesModel" (60 : Nat) ({ cls := "BranchTimesModel", name := "till", desc := "(II)I" } : Jvm.MethodName)) ∈ lw_all := lw_g (lw_at lw_m1 209 rfl) rfl
theorem q228 : (Jvm.Cond.privateMethod ({ cls := "BranchTimesModel", name := "till", desc := "(II)I" } : Jvm.MethodName)) ∈ lw_tbl := lw_at lw_m1 210 rfl
theorem q229 : (Jvm.Cond.instanceMethod ({ cls := "BranchTimesModel", name := "till", desc := "(II)I" } : Jvm.MethodName)) ∈ lw_all := lw_g (lw_at lw_m1 211 rfl) rfl
theorem q230 : (Jvm.Cond.code ({ cls := "BranchTimesModel", name := "till", desc := "(II)I" } : Jvm.MethodName) prog_3_method_16_code (5 : Nat) (Option.some Jvm.ClassFile.FieldType.int)) ∈ lw_all := lw_g (lw_at lw_m1 212 rfl) rfl
theorem q231 : (Jvm.Cond.methodLink "BranchTimesModel" (64 : Nat) ({ cls := "BranchTimesModel", name := "isCrowded", desc := "()Z" } : Jvm.MethodName)) ∈ lw_all := lw_g (lw_at lw_m1 213 rfl) rfl
theorem q232 : (Jvm.Cond.privateMethod ({ cls := "BranchTimesModel", name := "isCrowded", desc := "()Z" } : Jvm.MethodName)) ∈ lw_tbl := lw_at lw_m1 214 rfl
theorem q233 : (Jvm.Cond.instanceMethod ({ cls := "BranchTimesModel", name := "isCrowded", desc := "()Z" } : Jvm.MethodName)) ∈ lw_all := lw_g (lw_at lw_m1 215 rfl) rfl
theorem q234 : (Jvm.Cond.code ({ cls := "BranchTimesModel", name := "isCrowded", desc := "()Z" } : Jvm.MethodName) prog_3_method_10_code (3 : Nat) (Option.some Jvm.ClassFile.FieldType.boolean)) ∈ lw_all := lw_g (lw_at lw_m1 216 rfl) rfl
theorem q236 : (Jvm.Cond.instanceMethod ({ cls := "BranchTimesModel", name := "prune", desc := "(II)Z" } : Jvm.MethodName)) ∈ lw_all := lw_g (lw_at lw_m1 218 rfl) rfl
theorem q237 : (Jvm.Cond.selects "BranchTimesModel" ({ cls := "BranchTimesModel", name := "prune", desc := "(II)Z" } : Jvm.MethodName) ({ cls := "BranchTimesModel", name := "prune", desc := "(II)Z" } : Jvm.MethodName)) ∈ lw_all := lw_g (lw_at lw_m1 219 rfl) rfl
theorem q238 : (Jvm.Cond.code ({ cls := "BranchTimesModel", name := "prune", desc := "(II)Z" } : Jvm.MethodName) prog_3_method_18_code (5 : Nat) (Option.some Jvm.ClassFile.FieldType.boolean)) ∈ lw_all := lw_g (lw_at lw_m1 220 rfl) rfl
theorem q240 : (Jvm.Cond.instanceMethod ({ cls := "BranchTimesModel", name := "forget", desc := "()V" } : Jvm.MethodName)) ∈ lw_all := lw_g (lw_at lw_m1 222 rfl) rfl
theorem q241 : (Jvm.Cond.selects "BranchTimesModel" ({ cls := "BranchTimesModel", name := "forget", desc := "()V" } : Jvm.MethodName) ({ cls := "BranchTimesModel", name := "forget", desc := "()V" } : Jvm.MethodName)) ∈ lw_all := lw_g (lw_at lw_m1 223 rfl) rfl
theorem q242 : (Jvm.Cond.code ({ cls := "BranchTimesModel", name := "forget", desc := "()V" } : Jvm.MethodName) prog_3_method_19_code (1 : Nat) (Option.none : Option Jvm.ClassFile.FieldType)) ∈ lw_all := lw_g (lw_at lw_m1 224 rfl) rfl
theorem q244 : (Jvm.Cond.instanceMethod ({ cls := "BranchTimesModel", name := "joined", desc := "(II)I" } : Jvm.MethodName)) ∈ lw_all := lw_g (lw_at lw_m1 226 rfl) rfl
theorem q245 : (Jvm.Cond.selects "BranchTimesModel" ({ cls := "BranchTimesModel", name := "joined", desc := "(II)I" } : Jvm.MethodName) ({ cls := "BranchTimesModel", name := "joined", desc := "(II)I" } : Jvm.MethodName)) ∈ lw_all := lw_g (lw_at lw_m1 227 rfl) rfl
theorem q246 : (Jvm.Cond.code ({ cls := "BranchTimesModel", name := "joined", desc := "(II)I" } : Jvm.MethodName) prog_3_method_20_code (3 : Nat) (Option.some Jvm.ClassFile.FieldType.int)) ∈ lw_all := lw_g (lw_at lw_m1 228 rfl) rfl
theorem q248 : (Jvm.Cond.instanceMethod ({ cls := "BranchTimesModel", name := "cut", desc := "(II)I" } : Jvm.MethodName)) ∈ lw_all := lw_g (lw_at lw_m1 230 rfl) rfl
theorem q249 : (Jvm.Cond.selects "BranchTimesModel" ({ cls := "BranchTimesModel", name := "cut", desc := "(II)I" } : Jvm.MethodName) ({ cls := "BranchTimesModel", name := "cut", desc := "(II)I" } : Jvm.MethodName)) ∈ lw_all := lw_g (lw_at lw_m1 231 rfl) rfl
theorem q250 : (Jvm.Cond.code ({ cls := "BranchTimesModel", name := "cut", desc := "(II)I" } : Jvm.MethodName) prog_3_method_21_code (3 : Nat) (Option.some Jvm.ClassFile.FieldType.int)) ∈ lw_all := lw_g (lw_at lw_m1 232 rfl) rfl
theorem q252 : (Jvm.Cond.instanceMethod ({ cls := "BranchTimesModel", name := "goes", desc := "(I)I" } : Jvm.MethodName)) ∈ lw_all := lw_g (lw_at lw_m1 234 rfl) rfl
theorem q253 : (Jvm.Cond.selects "BranchTimesModel" ({ cls := "BranchTimesModel", name := "goes", desc := "(I)I" } : Jvm.MethodName) ({ cls := "BranchTimesModel", name := "goes", desc := "(I)I" } : Jvm.MethodName)) ∈ lw_all := lw_g (lw_at lw_m1 235 rfl) rfl
theorem q254 : (Jvm.Cond.code ({ cls := "BranchTimesModel", name := "goes", desc := "(I)I" } : Jvm.MethodName) prog_3_method_23_code (6 : Nat) (Option.some Jvm.ClassFile.FieldType.int)) ∈ lw_all := lw_g (lw_at lw_m1 236 rfl) rfl
theorem q255 : (Jvm.Cond.methodLink "BranchTimesModel" (67 : Nat) ({ cls := "BranchTimesModel", name := "isFirst", desc := "()Z" } : Jvm.MethodName)) ∈ lw_all := lw_g (lw_at lw_m1 237 rfl) rfl
theorem q256 : (Jvm.Cond.privateMethod ({ cls := "BranchTimesModel", name := "isFirst", desc := "()Z" } : Jvm.MethodName)) ∈ lw_tbl := lw_at lw_m1 238 rfl
theorem q257 : (Jvm.Cond.instanceMethod ({ cls := "BranchTimesModel", name := "isFirst", desc := "()Z" } : Jvm.MethodName)) ∈ lw_all := lw_g (lw_at lw_m1 239 rfl) rfl
theorem q258 : (Jvm.Cond.code ({ cls := "BranchTimesModel", name := "isFirst", desc := "()Z" } : Jvm.MethodName) prog_3_method_8_code (1 : Nat) (Option.some Jvm.ClassFile.FieldType.boolean)) ∈ lw_all := lw_g (lw_at lw_m2 0 rfl) rfl
theorem q259 : (Jvm.Cond.methodLink "BranchTimesModel" (70 : Nat) ({ cls := "BranchTimesModel", name := "isCutOff", desc := "(II)Z" } : Jvm.MethodName)) ∈ lw_all := lw_g (lw_at lw_m2 1 rfl) rfl
theorem q260 : (Jvm.Cond.privateMethod ({ cls := "BranchTimesModel", name := "isCutOff", desc := "(II)Z" } : Jvm.MethodName)) ∈ lw_tbl := lw_at lw_m2 2 rfl
theorem q261 : (Jvm.Cond.instanceMethod ({ cls := "BranchTimesModel", name := "isCutOff", desc := "(II)Z" } : Jvm.MethodName)) ∈ lw_all := lw_g (lw_at lw_m2 3 rfl) rfl
theorem q262 : (Jvm.Cond.code ({ cls := "BranchTimesModel", name := "isCutOff", desc := "(II)Z" } : Jvm.MethodName) prog_3_method_22_code (3 : Nat) (Option.some Jvm.ClassFile.FieldType.boolean)) ∈ lw_all := lw_g (lw_at lw_m2 4 rfl) rfl
theorem q264 : (Jvm.Cond.instanceMethod ({ cls := "BranchTimesModel", name := "look", desc := "(I)I" } : Jvm.MethodName)) ∈ lw_all := lw_g (lw_at lw_m2 6 rfl) rfl
theorem q265 : (Jvm.Cond.selects "BranchTimesModel" ({ cls := "BranchTimesModel", name := "look", desc := "(I)I" } : Jvm.MethodName) ({ cls := "BranchTimesModel", name := "look", desc := "(I)I" } : Jvm.MethodName)) ∈ lw_all := lw_g (lw_at lw_m2 7 rfl) rfl
theorem q266 : (Jvm.Cond.code ({ cls := "BranchTimesModel", name := "look", desc := "(I)I" } : Jvm.MethodName) prog_3_method_24_code (2 : Nat) (Option.some Jvm.ClassFile.FieldType.int)) ∈ lw_all := lw_g (lw_at lw_m2 8 rfl) rfl
theorem q267 : (Jvm.Cond.methodLink "BranchTimesModel" (73 : Nat) ({ cls := "BranchTimesModel", name := "going", desc := "()I" } : Jvm.MethodName)) ∈ lw_all := lw_g (lw_at lw_m2 9 rfl) rfl
theorem q268 : (Jvm.Cond.privateMethod ({ cls := "BranchTimesModel", name := "going", desc := "()I" } : Jvm.MethodName)) ∈ lw_tbl := lw_at lw_m2 10 rfl
theorem q269 : (Jvm.Cond.instanceMethod ({ cls := "BranchTimesModel", name := "going", desc := "()I" } : Jvm.MethodName)) ∈ lw_all := lw_g (lw_at lw_m2 11 rfl) rfl
theorem q270 : (Jvm.Cond.code ({ cls := "BranchTimesModel", name := "going", desc := "()I" } : Jvm.MethodName) prog_3_method_25_code (3 : Nat) (Option.some Jvm.ClassFile.FieldType.int)) ∈ lw_all := lw_g (lw_at lw_m2 12 rfl) rfl
theorem q271 : (Jvm.Cond.methodLink "BranchTimesModel" (79 : Nat) ({ cls := "BranchTimesModel", name := "goes", desc := "(I)I" } : Jvm.MethodName)) ∈ lw_all := lw_g (lw_at lw_m2 13 rfl) rfl
theorem q272 : (Jvm.Cond.methodLink "BranchTimesModel" (76 : Nat) ({ cls := "BranchTimesModel", name := "branches", desc := "()I" } : Jvm.MethodName)) ∈ lw_all := lw_g (lw_at lw_m2 14 rfl) rfl
theorem q273 : (Jvm.Cond.privateMethod ({ cls := "BranchTimesModel", name := "branches", desc := "()I" } : Jvm.MethodName)) ∈ lw_tbl := lw_at lw_m2 15 rfl
theorem q274 : (Jvm.Cond.instanceMethod ({ cls := "BranchTimesModel", name := "branches", desc := "()I" } : Jvm.MethodName)) ∈ lw_all := lw_g (lw_at lw_m2 16 rfl) rfl
theorem q275 : (Jvm.Cond.code ({ cls := "BranchTimesModel", name := "branches", desc := "()I" } : Jvm.MethodName) prog_3_method_26_code (3 : Nat) (Option.some Jvm.ClassFile.FieldType.int)) ∈ lw_all := lw_g (lw_at lw_m2 17 rfl) rfl
theorem in_X2 : ∀ w ∈ wsX20, w ∈ lw_all := lw_in wsX20 [166, 168, 170, 172, 174, 176, 178, 180] (by decide +kernel) (by decide +kernel)
abbrev cL_law : ByteArray := code
theorem q59 : (Jvm.Cond.arrayClass Jvm.ClassFile.FieldType.int) ∈ lw_all := lw_g (lw_at lw_m1 41 rfl) rfl
end
section
set_option maxRecDepth 100000
theorem dX1_init_0 : decode cX1_init 0 = .ok (.aload_n 0, 1) := by decide +kernel
theorem dX1_init_1 : decode cX1_init 1 = .ok (.invokespecial 1, 3) := by decide +kernel
theorem dX1_init_4 : decode cX1_init 4 = .ok (.aload_n 0, 1) := by decide +kernel
theorem dX1_init_5 : decode cX1_init 5 = .ok (.bipush 10, 2) := by decide +kernel
theorem dX1_init_7 : decode cX1_init 7 = .ok (.newarray .int, 2) := by decide +kernel
theorem dX1_init_9 : decode cX1_init 9 = .ok (.putfield 7, 3) := by decide +kernel
theorem dX1_init_12 : decode cX1_init 12 = .ok (.aload_n 0, 1) := by decide +kernel
theorem dX1_init_13 : decode cX1_init 13 = .ok (.bipush 8, 2) := by decide +kernel
theorem dX1_init_15 : decode cX1_init 15 = .ok (.newarray .int, 2) := by decide +kernel
theorem dX1_init_17 : decode cX1_init 17 = .ok (.putfield 13, 3) := by decide +kernel
theorem dX1_init_20 : decode cX1_init 20 = .ok (.aload_n 0, 1) := by decide +kernel
theorem dX1_init_21 : decode cX1_init 21 = .ok (.sipush 136, 3) := by decide +kernel
theorem dX1_init_24 : decode cX1_init 24 = .ok (.newarray .int, 2) := by decide +kernel
theorem dX1_init_26 : decode cX1_init 26 = .ok (.putfield 16, 3) := by decide +kernel
theorem dX1_init_29 : decode cX1_init 29 = .ok (.aload_n 0, 1) := by decide +kernel
theorem dX1_init_30 : decode cX1_init 30 = .ok (.sipush 128, 3) := by decide +kernel
theorem dX1_init_33 : decode cX1_init 33 = .ok (.newarray .int, 2) := by decide +kernel
theorem dX1_init_35 : decode cX1_init 35 = .ok (.putfield 19, 3) := by decide +kernel
theorem dX1_init_38 : decode cX1_init 38 = .ok (.aload_n 0, 1) := by decide +kernel
theorem dX1_init_39 : decode cX1_init 39 = .ok (.iconst 0, 1) := by decide +kernel
theorem dX1_init_40 : decode cX1_init 40 = .ok (.bipush 9, 2) := by decide +kernel
theorem dX1_init_42 : decode cX1_init 42 = .ok (.iload_n 1, 1) := by decide +kernel
theorem dX1_init_43 : decode cX1_init 43 = .ok (.invokestatic 22, 3) := by decide +kernel
theorem dX1_init_46 : decode cX1_init 46 = .ok (.invokestatic 28, 3) := by decide +kernel
theorem dX1_init_49 : decode cX1_init 49 = .ok (.putfield 31, 3) := by decide +kernel
theorem dX1_init_52 : decode cX1_init 52 = .ok (.aload_n 0, 1) := by decide +kernel
theorem dX1_init_53 : decode cX1_init 53 = .ok (.invokevirtual 35, 3) := by decide +kernel
theorem dX1_init_56 : decode cX1_init 56 = .ok (.return_, 1) := by decide +kernel
theorem dX1_forget_0 : decode cX1_forget 0 = .ok (.iconst 0, 1) := by decide +kernel
theorem dX1_forget_1 : decode cX1_forget 1 = .ok (.istore_n 1, 1) := by decide +kernel
theorem dX1_forget_2 : decode cX1_forget 2 = .ok (.iload_n 1, 1) := by decide +kernel
theorem dX1_forget_3 : decode cX1_forget 3 = .ok (.bipush 10, 2) := by decide +kernel
theorem dX1_forget_5 : decode cX1_forget 5 = .ok (.if_icmp .ge 16, 3) := by decide +kernel
theorem dX1_forget_8 : decode cX1_forget 8 = .ok (.aload_n 0, 1) := by decide +kernel
theorem dX1_forget_9 : decode cX1_forget 9 = .ok (.getfield 7, 3) := by decide +kernel
theorem dX1_forget_12 : decode cX1_forget 12 = .ok (.iload_n 1, 1) := by decide +kernel
theorem dX1_forget_13 : decode cX1_forget 13 = .ok (.iconst 0, 1) := by decide +kernel
theorem dX1_forget_14 : decode cX1_forget 14 = .ok (.iastore, 1) := by decide +kernel
theorem dX1_forget_15 : decode cX1_forget 15 = .ok (.iinc 1 1, 3) := by decide +kernel
theorem dX1_forget_18 : decode cX1_forget 18 = .ok (.goto (-16), 3) := by decide +kernel
theorem dX1_forget_21 : decode cX1_forget 21 = .ok (.iconst 0, 1) := by decide +kernel
theorem dX1_forget_22 : decode cX1_forget 22 = .ok (.istore_n 1, 1) := by decide +kernel
theorem dX1_forget_23 : decode cX1_forget 23 = .ok (.iload_n 1, 1) := by decide +kernel
theorem dX1_forget_24 : decode cX1_forget 24 = .ok (.bipush 8, 2) := by decide +kernel
theorem dX1_forget_26 : decode cX1_forget 26 = .ok (.if_icmp .ge 16, 3) := by decide +kernel
theorem dX1_forget_29 : decode cX1_forget 29 = .ok (.aload_n 0, 1) := by decide +kernel
theorem dX1_forget_30 : decode cX1_forget 30 = .ok (.getfield 13, 3) := by decide +kernel
theorem dX1_forget_33 : decode cX1_forget 33 = .ok (.iload_n 1, 1) := by decide +kernel
theorem dX1_forget_34 : decode cX1_forget 34 = .ok (.iconst 0, 1) := by decide +kernel
theorem dX1_forget_35 : decode cX1_forget 35 = .ok (.iastore, 1) := by decide +kernel
theorem dX1_forget_36 : decode cX1_forget 36 = .ok (.iinc 1 1, 3) := by decide +kernel
theorem dX1_forget_39 : decode cX1_forget 39 = .ok (.goto (-16), 3) := by decide +kernel
theorem dX1_forget_42 : decode cX1_forget 42 = .ok (.iconst 0, 1) := by decide +kernel
theorem dX1_forget_43 : decode cX1_forget 43 = .ok (.istore_n 1, 1) := by decide +kernel
theorem dX1_forget_44 : decode cX1_forget 44 = .ok (.iload_n 1, 1) := by decide +kernel
theorem dX1_forget_45 : decode cX1_forget 45 = .ok (.sipush 136, 3) := by decide +kernel
theorem dX1_forget_48 : decode cX1_forget 48 = .ok (.if_icmp .ge 16, 3) := by decide +kernel
theorem dX1_forget_51 : decode cX1_forget 51 = .ok (.aload_n 0, 1) := by decide +kernel
theorem dX1_forget_52 : decode cX1_forget 52 = .ok (.getfield 16, 3) := by decide +kernel
theorem dX1_forget_55 : decode cX1_forget 55 = .ok (.iload_n 1, 1) := by decide +kernel
theorem dX1_forget_56 : decode cX1_forget 56 = .ok (.iconst 0, 1) := by decide +kernel
theorem dX1_forget_57 : decode cX1_forget 57 = .ok (.iastore, 1) := by decide +kernel
theorem dX1_forget_58 : decode cX1_forget 58 = .ok (.iinc 1 1, 3) := by decide +kernel
theorem dX1_forget_61 : decode cX1_forget 61 = .ok (.goto (-17), 3) := by decide +kernel
theorem dX1_forget_64 : decode cX1_forget 64 = .ok (.iconst 0, 1) := by decide +kernel
theorem dX1_forget_65 : decode cX1_forget 65 = .ok (.istore_n 1, 1) := by decide +kernel
theorem dX1_forget_66 : decode cX1_forget 66 = .ok (.iload_n 1, 1) := by decide +kernel
theorem dX1_forget_67 : decode cX1_forget 67 = .ok (.sipush 128, 3) := by decide +kernel
theorem dX1_forget_70 : decode cX1_forget 70 = .ok (.if_icmp .ge 16, 3) := by decide +kernel
theorem dX1_forget_73 : decode cX1_forget 73 = .ok (.aload_n 0, 1) := by decide +kernel
theorem dX1_forget_74 : decode cX1_forget 74 = .ok (.getfield 19, 3) := by decide +kernel
theorem dX1_forget_77 : decode cX1_forget 77 = .ok (.iload_n 1, 1) := by decide +kernel
theorem dX1_forget_78 : decode cX1_forget 78 = .ok (.iconst (-1), 1) := by decide +kernel
theorem dX1_forget_79 : decode cX1_forget 79 = .ok (.iastore, 1) := by decide +kernel
theorem dX1_forget_80 : decode cX1_forget 80 = .ok (.iinc 1 1, 3) := by decide +kernel
theorem dX1_forget_83 : decode cX1_forget 83 = .ok (.goto (-17), 3) := by decide +kernel
theorem dX1_forget_86 : decode cX1_forget 86 = .ok (.return_, 1) := by decide +kernel
theorem dX1_tick_0 : decode cX1_tick 0 = .ok (.iload_n 1, 1) := by decide +kernel
theorem dX1_tick_1 : decode cX1_tick 1 = .ok (.iconst 1, 1) := by decide +kernel
theorem dX1_tick_2 : decode cX1_tick 2 = .ok (.if_icmp .lt 20, 3) := by decide +kernel
theorem dX1_tick_5 : decode cX1_tick 5 = .ok (.iload_n 1, 1) := by decide +kernel
theorem dX1_tick_6 : decode cX1_tick 6 = .ok (.bipush 100, 2) := by decide +kernel
theorem dX1_tick_8 : decode cX1_tick 8 = .ok (.if_icmp .gt 14, 3) := by decide +kernel
theorem dX1_tick_11 : decode cX1_tick 11 = .ok (.aload_n 0, 1) := by decide +kernel
theorem dX1_tick_12 : decode cX1_tick 12 = .ok (.getfield 38, 3) := by decide +kernel
theorem dX1_tick_15 : decode cX1_tick 15 = .ok (.iload_n 1, 1) := by decide +kernel
theorem dX1_tick_16 : decode cX1_tick 16 = .ok (.iadd, 1) := by decide +kernel
theorem dX1_tick_17 : decode cX1_tick 17 = .ok (.ldc 41, 2) := by decide +kernel
theorem dX1_tick_19 : decode cX1_tick 19 = .ok (.if_icmp .le 5, 3) := by decide +kernel
theorem dX1_tick_22 : decode cX1_tick 22 = .ok (.iconst (-1), 1) := by decide +kernel
theorem dX1_tick_23 : decode cX1_tick 23 = .ok (.ireturn, 1) := by decide +kernel
theorem dX1_tick_24 : decode cX1_tick 24 = .ok (.aload_n 0, 1) := by decide +kernel
theorem dX1_tick_25 : decode cX1_tick 25 = .ok (.dup, 1) := by decide +kernel
theorem dX1_tick_26 : decode cX1_tick 26 = .ok (.getfield 38, 3) := by decide +kernel
theorem dX1_tick_29 : decode cX1_tick 29 = .ok (.iload_n 1, 1) := by decide +kernel
theorem dX1_tick_30 : decode cX1_tick 30 = .ok (.iadd, 1) := by decide +kernel
theorem dX1_tick_31 : decode cX1_tick 31 = .ok (.putfield 38, 3) := by decide +kernel
theorem dX1_tick_34 : decode cX1_tick 34 = .ok (.aload_n 0, 1) := by decide +kernel
theorem dX1_tick_35 : decode cX1_tick 35 = .ok (.getfield 38, 3) := by decide +kernel
theorem dX1_tick_38 : decode cX1_tick 38 = .ok (.ireturn, 1) := by decide +kernel
theorem dX1_hello_0 : decode cX1_hello 0 = .ok (.iload_n 1, 1) := by decide +kernel
theorem dX1_hello_1 : decode cX1_hello 1 = .ok (.ifCond .lt 17, 3) := by decide +kernel
theorem dX1_hello_4 : decode cX1_hello 4 = .ok (.iload_n 1, 1) := by decide +kernel
theorem dX1_hello_5 : decode cX1_hello 5 = .ok (.bipush 10, 2) := by decide +kernel
theorem dX1_hello_7 : decode cX1_hello 7 = .ok (.if_icmp .ge 11, 3) := by decide +kernel
theorem dX1_hello_10 : decode cX1_hello 10 = .ok (.iload_n 1, 1) := by decide +kernel
theorem dX1_hello_11 : decode cX1_hello 11 = .ok (.aload_n 0, 1) := by decide +kernel
theorem dX1_hello_12 : decode cX1_hello 12 = .ok (.getfield 31, 3) := by decide +kernel
theorem dX1_hello_15 : decode cX1_hello 15 = .ok (.if_icmp .ne 5, 3) := by decide +kernel
theorem dX1_hello_18 : decode cX1_hello 18 = .ok (.iconst 0, 1) := by decide +kernel
theorem dX1_hello_19 : decode cX1_hello 19 = .ok (.ireturn, 1) := by decide +kernel
theorem dX1_hello_20 : decode cX1_hello 20 = .ok (.aload_n 0, 1) := by decide +kernel
theorem dX1_hello_21 : decode cX1_hello 21 = .ok (.getfield 7, 3) := by decide +kernel
theorem dX1_hello_24 : decode cX1_hello 24 = .ok (.iload_n 1, 1) := by decide +kernel
theorem dX1_hello_25 : decode cX1_hello 25 = .ok (.aload_n 0, 1) := by decide +kernel
theorem dX1_hello_26 : decode cX1_hello 26 = .ok (.getfield 38, 3) := by decide +kernel
theorem dX1_hello_29 : decode cX1_hello 29 = .ok (.bipush 65, 2) := by decide +kernel
theorem dX1_hello_31 : decode cX1_hello 31 = .ok (.iadd, 1) := by decide +kernel
theorem dX1_hello_32 : decode cX1_hello 32 = .ok (.iastore, 1) := by decide +kernel
theorem dX1_hello_33 : decode cX1_hello 33 = .ok (.iconst 1, 1) := by decide +kernel
theorem dX1_hello_34 : decode cX1_hello 34 = .ok (.ireturn, 1) := by decide +kernel
theorem dX1_report_0 : decode cX1_report 0 = .ok (.iload_n 1, 1) := by decide +kernel
theorem dX1_report_1 : decode cX1_report 1 = .ok (.invokestatic 42, 3) := by decide +kernel
theorem dX1_report_4 : decode cX1_report 4 = .ok (.ifCond .ne 5, 3) := by decide +kernel
theorem dX1_report_7 : decode cX1_report 7 = .ok (.iconst 0, 1) := by decide +kernel
theorem dX1_report_8 : decode cX1_report 8 = .ok (.ireturn, 1) := by decide +kernel
theorem dX1_report_9 : decode cX1_report 9 = .ok (.aload_n 0, 1) := by decide +kernel
theorem dX1_report_10 : decode cX1_report 10 = .ok (.getfield 13, 3) := by decide +kernel
theorem dX1_report_13 : decode cX1_report 13 = .ok (.iload_n 1, 1) := by decide +kernel
theorem dX1_report_14 : decode cX1_report 14 = .ok (.aload_n 0, 1) := by decide +kernel
theorem dX1_report_15 : decode cX1_report 15 = .ok (.getfield 38, 3) := by decide +kernel
theorem dX1_report_18 : decode cX1_report 18 = .ok (.bipush 60, 2) := by decide +kernel
theorem dX1_report_20 : decode cX1_report 20 = .ok (.iadd, 1) := by decide +kernel
theorem dX1_report_21 : decode cX1_report 21 = .ok (.iastore, 1) := by decide +kernel
theorem dX1_report_22 : decode cX1_report 22 = .ok (.iconst 1, 1) := by decide +kernel
theorem dX1_report_23 : decode cX1_report 23 = .ok (.ireturn, 1) := by decide +kernel
theorem dX1_isGroup_0 : decode cX1_isGroup 0 = .ok (.iload_n 0, 1) := by decide +kernel
theorem dX1_isGroup_1 : decode cX1_isGroup 1 = .ok (.ifCond .lt 13, 3) := by decide +kernel
theorem dX1_isGroup_4 : decode cX1_isGroup 4 = .ok (.iload_n 0, 1) := by decide +kernel
theorem dX1_isGroup_5 : decode cX1_isGroup 5 = .ok (.bipush 8, 2) := by decide +kernel
theorem dX1_isGroup_7 : decode cX1_isGroup 7 = .ok (.if_icmp .ge 7, 3) := by decide +kernel
theorem dX1_isGroup_10 : decode cX1_isGroup 10 = .ok (.iconst 1, 1) := by decide +kernel
theorem dX1_isGroup_11 : decode cX1_isGroup 11 = .ok (.goto 4, 3) := by decide +kernel
theorem dX1_isGroup_14 : decode cX1_isGroup 14 = .ok (.iconst 0, 1) := by decide +kernel
theorem dX1_isGroup_15 : decode cX1_isGroup 15 = .ok (.ireturn, 1) := by decide +kernel
theorem dX1_leave_0 : decode cX1_leave 0 = .ok (.iload_n 1, 1) := by decide +kernel
theorem dX1_leave_1 : decode cX1_leave 1 = .ok (.invokestatic 42, 3) := by decide +kernel
theorem dX1_leave_4 : decode cX1_leave 4 = .ok (.ifCond .eq 23, 3) := by decide +kernel
theorem dX1_leave_7 : decode cX1_leave 7 = .ok (.aload_n 0, 1) := by decide +kernel
theorem dX1_leave_8 : decode cX1_leave 8 = .ok (.getfield 38, 3) := by decide +kernel
theorem dX1_leave_11 : decode cX1_leave 11 = .ok (.aload_n 0, 1) := by decide +kernel
theorem dX1_leave_12 : decode cX1_leave 12 = .ok (.getfield 13, 3) := by decide +kernel
theorem dX1_leave_15 : decode cX1_leave 15 = .ok (.iload_n 1, 1) := by decide +kernel
theorem dX1_leave_16 : decode cX1_leave 16 = .ok (.iaload, 1) := by decide +kernel
theorem dX1_leave_17 : decode cX1_leave 17 = .ok (.if_icmp .ge 10, 3) := by decide +kernel
theorem dX1_leave_20 : decode cX1_leave 20 = .ok (.aload_n 0, 1) := by decide +kernel
theorem dX1_leave_21 : decode cX1_leave 21 = .ok (.invokevirtual 50, 3) := by decide +kernel
theorem dX1_leave_24 : decode cX1_leave 24 = .ok (.ifCond .ne 5, 3) := by decide +kernel
theorem dX1_leave_27 : decode cX1_leave 27 = .ok (.iconst 0, 1) := by decide +kernel
theorem dX1_leave_28 : decode cX1_leave 28 = .ok (.ireturn, 1) := by decide +kernel
theorem dX1_leave_29 : decode cX1_leave 29 = .ok (.aload_n 0, 1) := by decide +kernel
theorem dX1_leave_30 : decode cX1_leave 30 = .ok (.getfield 13, 3) := by decide +kernel
theorem dX1_leave_33 : decode cX1_leave 33 = .ok (.iload_n 1, 1) := by decide +kernel
theorem dX1_leave_34 : decode cX1_leave 34 = .ok (.aload_n 0, 1) := by decide +kernel
theorem dX1_leave_35 : decode cX1_leave 35 = .ok (.getfield 13, 3) := by decide +kernel
theorem dX1_leave_38 : decode cX1_leave 38 = .ok (.iload_n 1, 1) := by decide +kernel
theorem dX1_leave_39 : decode cX1_leave 39 = .ok (.iaload, 1) := by decide +kernel
theorem dX1_leave_40 : decode cX1_leave 40 = .ok (.aload_n 0, 1) := by decide +kernel
theorem dX1_leave_41 : decode cX1_leave 41 = .ok (.getfield 38, 3) := by decide +kernel
theorem dX1_leave_44 : decode cX1_leave 44 = .ok (.iconst 4, 1) := by decide +kernel
theorem dX1_leave_45 : decode cX1_leave 45 = .ok (.iadd, 1) := by decide +kernel
theorem dX1_leave_46 : decode cX1_leave 46 = .ok (.invokestatic 22, 3) := by decide +kernel
theorem dX1_leave_49 : decode cX1_leave 49 = .ok (.iastore, 1) := by decide +kernel
theorem dX1_leave_50 : decode cX1_leave 50 = .ok (.iconst 1, 1) := by decide +kernel
theorem dX1_leave_51 : decode cX1_leave 51 = .ok (.ireturn, 1) := by decide +kernel
theorem dX1_isAsking_0 : decode cX1_isAsking 0 = .ok (.aload_n 0, 1) := by decide +kernel
theorem dX1_isAsking_1 : decode cX1_isAsking 1 = .ok (.invokevirtual 46, 3) := by decide +kernel
theorem dX1_isAsking_4 : decode cX1_isAsking 4 = .ok (.iconst 1, 1) := by decide +kernel
theorem dX1_isAsking_5 : decode cX1_isAsking 5 = .ok (.aload_n 0, 1) := by decide +kernel
theorem dX1_isAsking_6 : decode cX1_isAsking 6 = .ok (.getfield 31, 3) := by decide +kernel
theorem dX1_isAsking_9 : decode cX1_isAsking 9 = .ok (.ishl, 1) := by decide +kernel
theorem dX1_isAsking_10 : decode cX1_isAsking 10 = .ok (.iconst 1, 1) := by decide +kernel
theorem dX1_isAsking_11 : decode cX1_isAsking 11 = .ok (.isub, 1) := by decide +kernel
theorem dX1_isAsking_12 : decode cX1_isAsking 12 = .ok (.iand, 1) := by decide +kernel
theorem dX1_isAsking_13 : decode cX1_isAsking 13 = .ok (.ifCond .ne 7, 3) := by decide +kernel
theorem dX1_isAsking_16 : decode cX1_isAsking 16 = .ok (.iconst 1, 1) := by decide +kernel
theorem dX1_isAsking_17 : decode cX1_isAsking 17 = .ok (.goto 4, 3) := by decide +kernel
theorem dX1_isAsking_20 : decode cX1_isAsking 20 = .ok (.iconst 0, 1) := by decide +kernel
theorem dX1_isAsking_21 : decode cX1_isAsking 21 = .ok (.ireturn, 1) := by decide +kernel
theorem dX1_near_0 : decode cX1_near 0 = .ok (.iconst 0, 1) := by decide +kernel
theorem dX1_near_1 : decode cX1_near 1 = .ok (.istore_n 1, 1) := by decide +kernel
theorem dX1_near_2 : decode cX1_near 2 = .ok (.iconst 0, 1) := by decide +kernel
theorem dX1_near_3 : decode cX1_near 3 = .ok (.istore_n 2, 1) := by decide +kernel
theorem dX1_near_4 : decode cX1_near 4 = .ok (.iload_n 2, 1) := by decide +kernel
theorem dX1_near_5 : decode cX1_near 5 = .ok (.bipush 10, 2) := by decide +kernel
theorem dX1_near_7 : decode cX1_near 7 = .ok (.if_icmp .ge 32, 3) := by decide +kernel
theorem dX1_near_10 : decode cX1_near 10 = .ok (.iload_n 1, 1) := by decide +kernel
theorem dX1_near_11 : decode cX1_near 11 = .ok (.aload_n 0, 1) := by decide +kernel
theorem dX1_near_12 : decode cX1_near 12 = .ok (.getfield 38, 3) := by decide +kernel
theorem dX1_near_15 : decode cX1_near 15 = .ok (.aload_n 0, 1) := by decide +kernel
theorem dX1_near_16 : decode cX1_near 16 = .ok (.getfield 7, 3) := by decide +kernel
theorem dX1_near_19 : decode cX1_near 19 = .ok (.iload_n 2, 1) := by decide +kernel
theorem dX1_near_20 : decode cX1_near 20 = .ok (.iaload, 1) := by decide +kernel
theorem dX1_near_21 : decode cX1_near 21 = .ok (.if_icmp .ge 9, 3) := by decide +kernel
theorem dX1_near_24 : decode cX1_near 24 = .ok (.iconst 1, 1) := by decide +kernel
theorem dX1_near_25 : decode cX1_near 25 = .ok (.iload_n 2, 1) := by decide +kernel
theorem dX1_near_26 : decode cX1_near 26 = .ok (.ishl, 1) := by decide +kernel
theorem dX1_near_27 : decode cX1_near 27 = .ok (.goto 4, 3) := by decide +kernel
theorem dX1_near_30 : decode cX1_near 30 = .ok (.iconst 0, 1) := by decide +kernel
theorem dX1_near_31 : decode cX1_near 31 = .ok (.ior, 1) := by decide +kernel
theorem dX1_near_32 : decode cX1_near 32 = .ok (.istore_n 1, 1) := by decide +kernel
theorem dX1_near_33 : decode cX1_near 33 = .ok (.iinc 2 1, 3) := by decide +kernel
theorem dX1_near_36 : decode cX1_near 36 = .ok (.goto (-32), 3) := by decide +kernel
theorem dX1_near_39 : decode cX1_near 39 = .ok (.iload_n 1, 1) := by decide +kernel
theorem dX1_near_40 : decode cX1_near 40 = .ok (.ireturn, 1) := by decide +kernel
theorem dX1_join_0 : decode cX1_join 0 = .ok (.iload_n 1, 1) := by decide +kernel
theorem dX1_join_1 : decode cX1_join 1 = .ok (.iload_n 2, 1) := by decide +kernel
theorem dX1_join_2 : decode cX1_join 2 = .ok (.invokestatic 54, 3) := by decide +kernel
theorem dX1_join_5 : decode cX1_join 5 = .ok (.ifCond .ne 5, 3) := by decide +kernel
theorem dX1_join_8 : decode cX1_join 8 = .ok (.iconst 0, 1) := by decide +kernel
theorem dX1_join_9 : decode cX1_join 9 = .ok (.ireturn, 1) := by decide +kernel
theorem dX1_join_10 : decode cX1_join 10 = .ok (.aload_n 0, 1) := by decide +kernel
theorem dX1_join_11 : decode cX1_join 11 = .ok (.iload_n 1, 1) := by decide +kernel
theorem dX1_join_12 : decode cX1_join 12 = .ok (.iload_n 2, 1) := by decide +kernel
theorem dX1_join_13 : decode cX1_join 13 = .ok (.invokevirtual 58, 3) := by decide +kernel
theorem dX1_join_16 : decode cX1_join 16 = .ok (.istore 4, 2) := by decide +kernel
theorem dX1_join_18 : decode cX1_join 18 = .ok (.aload_n 0, 1) := by decide +kernel
theorem dX1_join_19 : decode cX1_join 19 = .ok (.getfield 16, 3) := by decide +kernel
theorem dX1_join_22 : decode cX1_join 22 = .ok (.iload_n 1, 1) := by decide +kernel
theorem dX1_join_23 : decode cX1_join 23 = .ok (.bipush 17, 2) := by decide +kernel
theorem dX1_join_25 : decode cX1_join 25 = .ok (.imul, 1) := by decide +kernel
theorem dX1_join_26 : decode cX1_join 26 = .ok (.iload_n 2, 1) := by decide +kernel
theorem dX1_join_27 : decode cX1_join 27 = .ok (.iadd, 1) := by decide +kernel
theorem dX1_join_28 : decode cX1_join 28 = .ok (.iconst 1, 1) := by decide +kernel
theorem dX1_join_29 : decode cX1_join 29 = .ok (.iadd, 1) := by decide +kernel
theorem dX1_join_30 : decode cX1_join 30 = .ok (.aload_n 0, 1) := by decide +kernel
theorem dX1_join_31 : decode cX1_join 31 = .ok (.getfield 38, 3) := by decide +kernel
theorem dX1_join_34 : decode cX1_join 34 = .ok (.bipush 70, 2) := by decide +kernel
theorem dX1_join_36 : decode cX1_join 36 = .ok (.iadd, 1) := by decide +kernel
theorem dX1_join_37 : decode cX1_join 37 = .ok (.iastore, 1) := by decide +kernel
theorem dX1_join_38 : decode cX1_join 38 = .ok (.iload_n 2, 1) := by decide +kernel
theorem dX1_join_39 : decode cX1_join 39 = .ok (.iconst (-1), 1) := by decide +kernel
theorem dX1_join_40 : decode cX1_join 40 = .ok (.if_icmp .eq 5, 3) := by decide +kernel
theorem dX1_join_43 : decode cX1_join 43 = .ok (.iconst 1, 1) := by decide +kernel
theorem dX1_join_44 : decode cX1_join 44 = .ok (.ireturn, 1) := by decide +kernel
theorem dX1_join_45 : decode cX1_join 45 = .ok (.aload_n 0, 1) := by decide +kernel
theorem dX1_join_46 : decode cX1_join 46 = .ok (.getfield 38, 3) := by decide +kernel
theorem dX1_join_49 : decode cX1_join 49 = .ok (.aload_n 0, 1) := by decide +kernel
theorem dX1_join_50 : decode cX1_join 50 = .ok (.invokevirtual 61, 3) := by decide +kernel
theorem dX1_join_53 : decode cX1_join 53 = .ok (.ifCond .eq 7, 3) := by decide +kernel
theorem dX1_join_56 : decode cX1_join 56 = .ok (.iconst 3, 1) := by decide +kernel
theorem dX1_join_57 : decode cX1_join 57 = .ok (.goto 4, 3) := by decide +kernel
theorem dX1_join_60 : decode cX1_join 60 = .ok (.iconst 0, 1) := by decide +kernel
theorem dX1_join_61 : decode cX1_join 61 = .ok (.iadd, 1) := by decide +kernel
theorem dX1_join_62 : decode cX1_join 62 = .ok (.istore 5, 2) := by decide +kernel
theorem dX1_join_64 : decode cX1_join 64 = .ok (.iconst 0, 1) := by decide +kernel
theorem dX1_join_65 : decode cX1_join 65 = .ok (.istore 6, 2) := by decide +kernel
theorem dX1_join_67 : decode cX1_join 67 = .ok (.iload 6, 2) := by decide +kernel
theorem dX1_join_69 : decode cX1_join 69 = .ok (.bipush 16, 2) := by decide +kernel
theorem dX1_join_71 : decode cX1_join 71 = .ok (.if_icmp .ge 63, 3) := by decide +kernel
theorem dX1_join_74 : decode cX1_join 74 = .ok (.iload_n 1, 1) := by decide +kernel
theorem dX1_join_75 : decode cX1_join 75 = .ok (.bipush 16, 2) := by decide +kernel
theorem dX1_join_77 : decode cX1_join 77 = .ok (.imul, 1) := by decide +kernel
theorem dX1_join_78 : decode cX1_join 78 = .ok (.iload 6, 2) := by decide +kernel
theorem dX1_join_80 : decode cX1_join 80 = .ok (.iadd, 1) := by decide +kernel
theorem dX1_join_81 : decode cX1_join 81 = .ok (.istore 7, 2) := by decide +kernel
theorem dX1_join_83 : decode cX1_join 83 = .ok (.iload_n 3, 1) := by decide +kernel
theorem dX1_join_84 : decode cX1_join 84 = .ok (.iload 6, 2) := by decide +kernel
theorem dX1_join_86 : decode cX1_join 86 = .ok (.ishr, 1) := by decide +kernel
theorem dX1_join_87 : decode cX1_join 87 = .ok (.iconst 1, 1) := by decide +kernel
theorem dX1_join_88 : decode cX1_join 88 = .ok (.iand, 1) := by decide +kernel
theorem dX1_join_89 : decode cX1_join 89 = .ok (.ifCond .ne 14, 3) := by decide +kernel
theorem dX1_join_92 : decode cX1_join 92 = .ok (.aload_n 0, 1) := by decide +kernel
theorem dX1_join_93 : decode cX1_join 93 = .ok (.getfield 19, 3) := by decide +kernel
theorem dX1_join_96 : decode cX1_join 96 = .ok (.iload 7, 2) := by decide +kernel
theorem dX1_join_98 : decode cX1_join 98 = .ok (.iconst (-1), 1) := by decide +kernel
theorem dX1_join_99 : decode cX1_join 99 = .ok (.iastore, 1) := by decide +kernel
theorem dX1_join_100 : decode cX1_join 100 = .ok (.goto 28, 3) := by decide +kernel
theorem dX1_join_103 : decode cX1_join 103 = .ok (.iload 4, 2) := by decide +kernel
theorem dX1_join_105 : decode cX1_join 105 = .ok (.ifCond .eq 14, 3) := by decide +kernel
theorem dX1_join_108 : decode cX1_join 108 = .ok (.aload_n 0, 1) := by decide +kernel
theorem dX1_join_109 : decode cX1_join 109 = .ok (.getfield 19, 3) := by decide +kernel
theorem dX1_join_112 : decode cX1_join 112 = .ok (.iload 7, 2) := by decide +kernel
theorem dX1_join_114 : decode cX1_join 114 = .ok (.iaload, 1) := by decide +kernel
theorem dX1_join_115 : decode cX1_join 115 = .ok (.iconst (-1), 1) := by decide +kernel
theorem dX1_join_116 : decode cX1_join 116 = .ok (.if_icmp .ne 12, 3) := by decide +kernel
theorem dX1_join_119 : decode cX1_join 119 = .ok (.aload_n 0, 1) := by decide +kernel
theorem dX1_join_120 : decode cX1_join 120 = .ok (.getfield 19, 3) := by decide +kernel
theorem dX1_join_123 : decode cX1_join 123 = .ok (.iload 7, 2) := by decide +kernel
theorem dX1_join_125 : decode cX1_join 125 = .ok (.iload 5, 2) := by decide +kernel
theorem dX1_join_127 : decode cX1_join 127 = .ok (.iastore, 1) := by decide +kernel
theorem dX1_join_128 : decode cX1_join 128 = .ok (.iinc 6 1, 3) := by decide +kernel
theorem dX1_join_131 : decode cX1_join 131 = .ok (.goto (-64), 3) := by decide +kernel
theorem dX1_join_134 : decode cX1_join 134 = .ok (.iconst 1, 1) := by decide +kernel
theorem dX1_join_135 : decode cX1_join 135 = .ok (.ireturn, 1) := by decide +kernel
theorem dX1_isTree_0 : decode cX1_isTree 0 = .ok (.iload_n 0, 1) := by decide +kernel
theorem dX1_isTree_1 : decode cX1_isTree 1 = .ok (.invokestatic 42, 3) := by decide +kernel
theorem dX1_isTree_4 : decode cX1_isTree 4 = .ok (.ifCond .eq 18, 3) := by decide +kernel
theorem dX1_isTree_7 : decode cX1_isTree 7 = .ok (.iload_n 1, 1) := by decide +kernel
theorem dX1_isTree_8 : decode cX1_isTree 8 = .ok (.iconst (-1), 1) := by decide +kernel
theorem dX1_isTree_9 : decode cX1_isTree 9 = .ok (.if_icmp .lt 13, 3) := by decide +kernel
theorem dX1_isTree_12 : decode cX1_isTree 12 = .ok (.iload_n 1, 1) := by decide +kernel
theorem dX1_isTree_13 : decode cX1_isTree 13 = .ok (.bipush 16, 2) := by decide +kernel
theorem dX1_isTree_15 : decode cX1_isTree 15 = .ok (.if_icmp .ge 7, 3) := by decide +kernel
theorem dX1_isTree_18 : decode cX1_isTree 18 = .ok (.iconst 1, 1) := by decide +kernel
theorem dX1_isTree_19 : decode cX1_isTree 19 = .ok (.goto 4, 3) := by decide +kernel
theorem dX1_isTree_22 : decode cX1_isTree 22 = .ok (.iconst 0, 1) := by decide +kernel
theorem dX1_isTree_23 : decode cX1_isTree 23 = .ok (.ireturn, 1) := by decide +kernel
theorem dX1_isJoined_0 : decode cX1_isJoined 0 = .ok (.aload_n 0, 1) := by decide +kernel
theorem dX1_isJoined_1 : decode cX1_isJoined 1 = .ok (.getfield 38, 3) := by decide +kernel
theorem dX1_isJoined_4 : decode cX1_isJoined 4 = .ok (.aload_n 0, 1) := by decide +kernel
end
section
set_option maxRecDepth 100000
theorem dX1_isJoined_5 : decode cX1_isJoined 5 = .ok (.getfield 16, 3) := by decide +kernel
theorem dX1_isJoined_8 : decode cX1_isJoined 8 = .ok (.iload_n 1, 1) := by decide +kernel
theorem dX1_isJoined_9 : decode cX1_isJoined 9 = .ok (.bipush 17, 2) := by decide +kernel
theorem dX1_isJoined_11 : decode cX1_isJoined 11 = .ok (.imul, 1) := by decide +kernel
theorem dX1_isJoined_12 : decode cX1_isJoined 12 = .ok (.iload_n 2, 1) := by decide +kernel
theorem dX1_isJoined_13 : decode cX1_isJoined 13 = .ok (.iadd, 1) := by decide +kernel
theorem dX1_isJoined_14 : decode cX1_isJoined 14 = .ok (.iconst 1, 1) := by decide +kernel
theorem dX1_isJoined_15 : decode cX1_isJoined 15 = .ok (.iadd, 1) := by decide +kernel
theorem dX1_isJoined_16 : decode cX1_isJoined 16 = .ok (.iaload, 1) := by decide +kernel
theorem dX1_isJoined_17 : decode cX1_isJoined 17 = .ok (.if_icmp .ge 7, 3) := by decide +kernel
theorem dX1_isJoined_20 : decode cX1_isJoined 20 = .ok (.iconst 1, 1) := by decide +kernel
theorem dX1_isJoined_21 : decode cX1_isJoined 21 = .ok (.goto 4, 3) := by decide +kernel
theorem dX1_isJoined_24 : decode cX1_isJoined 24 = .ok (.iconst 0, 1) := by decide +kernel
theorem dX1_isJoined_25 : decode cX1_isJoined 25 = .ok (.ireturn, 1) := by decide +kernel
theorem dX1_isCrowded_0 : decode cX1_isCrowded 0 = .ok (.aload_n 0, 1) := by decide +kernel
theorem dX1_isCrowded_1 : decode cX1_isCrowded 1 = .ok (.invokevirtual 46, 3) := by decide +kernel
theorem dX1_isCrowded_4 : decode cX1_isCrowded 4 = .ok (.istore_n 1, 1) := by decide +kernel
theorem dX1_isCrowded_5 : decode cX1_isCrowded 5 = .ok (.iload_n 1, 1) := by decide +kernel
theorem dX1_isCrowded_6 : decode cX1_isCrowded 6 = .ok (.iload_n 1, 1) := by decide +kernel
theorem dX1_isCrowded_7 : decode cX1_isCrowded 7 = .ok (.iconst 1, 1) := by decide +kernel
theorem dX1_isCrowded_8 : decode cX1_isCrowded 8 = .ok (.isub, 1) := by decide +kernel
theorem dX1_isCrowded_9 : decode cX1_isCrowded 9 = .ok (.iand, 1) := by decide +kernel
theorem dX1_isCrowded_10 : decode cX1_isCrowded 10 = .ok (.ifCond .eq 7, 3) := by decide +kernel
theorem dX1_isCrowded_13 : decode cX1_isCrowded 13 = .ok (.iconst 1, 1) := by decide +kernel
theorem dX1_isCrowded_14 : decode cX1_isCrowded 14 = .ok (.goto 4, 3) := by decide +kernel
theorem dX1_isCrowded_17 : decode cX1_isCrowded 17 = .ok (.iconst 0, 1) := by decide +kernel
theorem dX1_isCrowded_18 : decode cX1_isCrowded 18 = .ok (.ireturn, 1) := by decide +kernel
theorem dX1_prune_0 : decode cX1_prune 0 = .ok (.iload_n 1, 1) := by decide +kernel
theorem dX1_prune_1 : decode cX1_prune 1 = .ok (.iload_n 2, 1) := by decide +kernel
theorem dX1_prune_2 : decode cX1_prune 2 = .ok (.invokestatic 54, 3) := by decide +kernel
theorem dX1_prune_5 : decode cX1_prune 5 = .ok (.ifCond .eq 12, 3) := by decide +kernel
theorem dX1_prune_8 : decode cX1_prune 8 = .ok (.aload_n 0, 1) := by decide +kernel
theorem dX1_prune_9 : decode cX1_prune 9 = .ok (.iload_n 1, 1) := by decide +kernel
theorem dX1_prune_10 : decode cX1_prune 10 = .ok (.iload_n 2, 1) := by decide +kernel
theorem dX1_prune_11 : decode cX1_prune 11 = .ok (.invokevirtual 58, 3) := by decide +kernel
theorem dX1_prune_14 : decode cX1_prune 14 = .ok (.ifCond .ne 5, 3) := by decide +kernel
theorem dX1_prune_17 : decode cX1_prune 17 = .ok (.iconst 0, 1) := by decide +kernel
theorem dX1_prune_18 : decode cX1_prune 18 = .ok (.ireturn, 1) := by decide +kernel
theorem dX1_prune_19 : decode cX1_prune 19 = .ok (.iload_n 1, 1) := by decide +kernel
theorem dX1_prune_20 : decode cX1_prune 20 = .ok (.bipush 17, 2) := by decide +kernel
theorem dX1_prune_22 : decode cX1_prune 22 = .ok (.imul, 1) := by decide +kernel
theorem dX1_prune_23 : decode cX1_prune 23 = .ok (.iload_n 2, 1) := by decide +kernel
theorem dX1_prune_24 : decode cX1_prune 24 = .ok (.iadd, 1) := by decide +kernel
theorem dX1_prune_25 : decode cX1_prune 25 = .ok (.iconst 1, 1) := by decide +kernel
theorem dX1_prune_26 : decode cX1_prune 26 = .ok (.iadd, 1) := by decide +kernel
theorem dX1_prune_27 : decode cX1_prune 27 = .ok (.istore_n 3, 1) := by decide +kernel
theorem dX1_prune_28 : decode cX1_prune 28 = .ok (.aload_n 0, 1) := by decide +kernel
theorem dX1_prune_29 : decode cX1_prune 29 = .ok (.getfield 16, 3) := by decide +kernel
theorem dX1_prune_32 : decode cX1_prune 32 = .ok (.iload_n 3, 1) := by decide +kernel
theorem dX1_prune_33 : decode cX1_prune 33 = .ok (.aload_n 0, 1) := by decide +kernel
theorem dX1_prune_34 : decode cX1_prune 34 = .ok (.getfield 16, 3) := by decide +kernel
theorem dX1_prune_37 : decode cX1_prune 37 = .ok (.iload_n 3, 1) := by decide +kernel
theorem dX1_prune_38 : decode cX1_prune 38 = .ok (.iaload, 1) := by decide +kernel
theorem dX1_prune_39 : decode cX1_prune 39 = .ok (.aload_n 0, 1) := by decide +kernel
theorem dX1_prune_40 : decode cX1_prune 40 = .ok (.getfield 38, 3) := by decide +kernel
theorem dX1_prune_43 : decode cX1_prune 43 = .ok (.aload_n 0, 1) := by decide +kernel
theorem dX1_prune_44 : decode cX1_prune 44 = .ok (.invokevirtual 61, 3) := by decide +kernel
theorem dX1_prune_47 : decode cX1_prune 47 = .ok (.ifCond .eq 7, 3) := by decide +kernel
theorem dX1_prune_50 : decode cX1_prune 50 = .ok (.iconst 3, 1) := by decide +kernel
theorem dX1_prune_51 : decode cX1_prune 51 = .ok (.goto 4, 3) := by decide +kernel
theorem dX1_prune_54 : decode cX1_prune 54 = .ok (.iconst 0, 1) := by decide +kernel
theorem dX1_prune_55 : decode cX1_prune 55 = .ok (.iadd, 1) := by decide +kernel
theorem dX1_prune_56 : decode cX1_prune 56 = .ok (.invokestatic 22, 3) := by decide +kernel
theorem dX1_prune_59 : decode cX1_prune 59 = .ok (.iastore, 1) := by decide +kernel
theorem dX1_prune_60 : decode cX1_prune 60 = .ok (.iconst 1, 1) := by decide +kernel
theorem dX1_prune_61 : decode cX1_prune 61 = .ok (.ireturn, 1) := by decide +kernel
theorem dX1_joined_0 : decode cX1_joined 0 = .ok (.iload_n 1, 1) := by decide +kernel
theorem dX1_joined_1 : decode cX1_joined 1 = .ok (.iload_n 2, 1) := by decide +kernel
theorem dX1_joined_2 : decode cX1_joined 2 = .ok (.invokestatic 54, 3) := by decide +kernel
theorem dX1_joined_5 : decode cX1_joined 5 = .ok (.ifCond .ne 5, 3) := by decide +kernel
theorem dX1_joined_8 : decode cX1_joined 8 = .ok (.iconst (-1), 1) := by decide +kernel
theorem dX1_joined_9 : decode cX1_joined 9 = .ok (.ireturn, 1) := by decide +kernel
theorem dX1_joined_10 : decode cX1_joined 10 = .ok (.aload_n 0, 1) := by decide +kernel
theorem dX1_joined_11 : decode cX1_joined 11 = .ok (.iload_n 1, 1) := by decide +kernel
theorem dX1_joined_12 : decode cX1_joined 12 = .ok (.iload_n 2, 1) := by decide +kernel
theorem dX1_joined_13 : decode cX1_joined 13 = .ok (.invokevirtual 58, 3) := by decide +kernel
theorem dX1_joined_16 : decode cX1_joined 16 = .ok (.ifCond .eq 19, 3) := by decide +kernel
theorem dX1_joined_19 : decode cX1_joined 19 = .ok (.aload_n 0, 1) := by decide +kernel
theorem dX1_joined_20 : decode cX1_joined 20 = .ok (.getfield 16, 3) := by decide +kernel
theorem dX1_joined_23 : decode cX1_joined 23 = .ok (.iload_n 1, 1) := by decide +kernel
theorem dX1_joined_24 : decode cX1_joined 24 = .ok (.bipush 17, 2) := by decide +kernel
theorem dX1_joined_26 : decode cX1_joined 26 = .ok (.imul, 1) := by decide +kernel
theorem dX1_joined_27 : decode cX1_joined 27 = .ok (.iload_n 2, 1) := by decide +kernel
theorem dX1_joined_28 : decode cX1_joined 28 = .ok (.iadd, 1) := by decide +kernel
theorem dX1_joined_29 : decode cX1_joined 29 = .ok (.iconst 1, 1) := by decide +kernel
theorem dX1_joined_30 : decode cX1_joined 30 = .ok (.iadd, 1) := by decide +kernel
theorem dX1_joined_31 : decode cX1_joined 31 = .ok (.iaload, 1) := by decide +kernel
theorem dX1_joined_32 : decode cX1_joined 32 = .ok (.goto 4, 3) := by decide +kernel
theorem dX1_joined_35 : decode cX1_joined 35 = .ok (.iconst 0, 1) := by decide +kernel
theorem dX1_joined_36 : decode cX1_joined 36 = .ok (.ireturn, 1) := by decide +kernel
theorem dX1_cut_0 : decode cX1_cut 0 = .ok (.iload_n 1, 1) := by decide +kernel
theorem dX1_cut_1 : decode cX1_cut 1 = .ok (.iload_n 2, 1) := by decide +kernel
theorem dX1_cut_2 : decode cX1_cut 2 = .ok (.invokestatic 54, 3) := by decide +kernel
theorem dX1_cut_5 : decode cX1_cut 5 = .ok (.ifCond .eq 8, 3) := by decide +kernel
theorem dX1_cut_8 : decode cX1_cut 8 = .ok (.iload_n 2, 1) := by decide +kernel
theorem dX1_cut_9 : decode cX1_cut 9 = .ok (.iconst (-1), 1) := by decide +kernel
theorem dX1_cut_10 : decode cX1_cut 10 = .ok (.if_icmp .ne 5, 3) := by decide +kernel
theorem dX1_cut_13 : decode cX1_cut 13 = .ok (.iconst (-1), 1) := by decide +kernel
theorem dX1_cut_14 : decode cX1_cut 14 = .ok (.ireturn, 1) := by decide +kernel
theorem dX1_cut_15 : decode cX1_cut 15 = .ok (.aload_n 0, 1) := by decide +kernel
theorem dX1_cut_16 : decode cX1_cut 16 = .ok (.getfield 19, 3) := by decide +kernel
theorem dX1_cut_19 : decode cX1_cut 19 = .ok (.iload_n 1, 1) := by decide +kernel
theorem dX1_cut_20 : decode cX1_cut 20 = .ok (.bipush 16, 2) := by decide +kernel
theorem dX1_cut_22 : decode cX1_cut 22 = .ok (.imul, 1) := by decide +kernel
theorem dX1_cut_23 : decode cX1_cut 23 = .ok (.iload_n 2, 1) := by decide +kernel
theorem dX1_cut_24 : decode cX1_cut 24 = .ok (.iadd, 1) := by decide +kernel
theorem dX1_cut_25 : decode cX1_cut 25 = .ok (.iaload, 1) := by decide +kernel
theorem dX1_cut_26 : decode cX1_cut 26 = .ok (.istore_n 3, 1) := by decide +kernel
theorem dX1_cut_27 : decode cX1_cut 27 = .ok (.aload_n 0, 1) := by decide +kernel
theorem dX1_cut_28 : decode cX1_cut 28 = .ok (.iload_n 1, 1) := by decide +kernel
theorem dX1_cut_29 : decode cX1_cut 29 = .ok (.iconst (-1), 1) := by decide +kernel
theorem dX1_cut_30 : decode cX1_cut 30 = .ok (.invokevirtual 58, 3) := by decide +kernel
theorem dX1_cut_33 : decode cX1_cut 33 = .ok (.ifCond .eq 12, 3) := by decide +kernel
theorem dX1_cut_36 : decode cX1_cut 36 = .ok (.iload_n 3, 1) := by decide +kernel
theorem dX1_cut_37 : decode cX1_cut 37 = .ok (.iconst (-1), 1) := by decide +kernel
theorem dX1_cut_38 : decode cX1_cut 38 = .ok (.if_icmp .eq 7, 3) := by decide +kernel
theorem dX1_cut_41 : decode cX1_cut 41 = .ok (.iload_n 3, 1) := by decide +kernel
theorem dX1_cut_42 : decode cX1_cut 42 = .ok (.goto 4, 3) := by decide +kernel
theorem dX1_cut_45 : decode cX1_cut 45 = .ok (.iconst 0, 1) := by decide +kernel
theorem dX1_cut_46 : decode cX1_cut 46 = .ok (.ireturn, 1) := by decide +kernel
theorem dX1_members_0 : decode cX1_members 0 = .ok (.iload_n 1, 1) := by decide +kernel
theorem dX1_members_1 : decode cX1_members 1 = .ok (.invokestatic 42, 3) := by decide +kernel
theorem dX1_members_4 : decode cX1_members 4 = .ok (.ifCond .ne 5, 3) := by decide +kernel
theorem dX1_members_7 : decode cX1_members 7 = .ok (.iconst (-1), 1) := by decide +kernel
theorem dX1_members_8 : decode cX1_members 8 = .ok (.ireturn, 1) := by decide +kernel
theorem dX1_members_9 : decode cX1_members 9 = .ok (.aload_n 0, 1) := by decide +kernel
theorem dX1_members_10 : decode cX1_members 10 = .ok (.getfield 38, 3) := by decide +kernel
theorem dX1_members_13 : decode cX1_members 13 = .ok (.aload_n 0, 1) := by decide +kernel
theorem dX1_members_14 : decode cX1_members 14 = .ok (.getfield 13, 3) := by decide +kernel
theorem dX1_members_17 : decode cX1_members 17 = .ok (.iload_n 1, 1) := by decide +kernel
theorem dX1_members_18 : decode cX1_members 18 = .ok (.iaload, 1) := by decide +kernel
theorem dX1_members_19 : decode cX1_members 19 = .ok (.if_icmp .ge 12, 3) := by decide +kernel
theorem dX1_members_22 : decode cX1_members 22 = .ok (.aload_n 0, 1) := by decide +kernel
theorem dX1_members_23 : decode cX1_members 23 = .ok (.getfield 13, 3) := by decide +kernel
theorem dX1_members_26 : decode cX1_members 26 = .ok (.iload_n 1, 1) := by decide +kernel
theorem dX1_members_27 : decode cX1_members 27 = .ok (.iaload, 1) := by decide +kernel
theorem dX1_members_28 : decode cX1_members 28 = .ok (.goto 4, 3) := by decide +kernel
theorem dX1_members_31 : decode cX1_members 31 = .ok (.iconst 0, 1) := by decide +kernel
theorem dX1_members_32 : decode cX1_members 32 = .ok (.ireturn, 1) := by decide +kernel
theorem dX1_goes_0 : decode cX1_goes 0 = .ok (.iload_n 1, 1) := by decide +kernel
theorem dX1_goes_1 : decode cX1_goes 1 = .ok (.invokestatic 42, 3) := by decide +kernel
theorem dX1_goes_4 : decode cX1_goes 4 = .ok (.ifCond .ne 5, 3) := by decide +kernel
theorem dX1_goes_7 : decode cX1_goes 7 = .ok (.iconst (-1), 1) := by decide +kernel
theorem dX1_goes_8 : decode cX1_goes 8 = .ok (.ireturn, 1) := by decide +kernel
theorem dX1_goes_9 : decode cX1_goes 9 = .ok (.iconst 0, 1) := by decide +kernel
theorem dX1_goes_10 : decode cX1_goes 10 = .ok (.istore_n 2, 1) := by decide +kernel
theorem dX1_goes_11 : decode cX1_goes 11 = .ok (.iconst 0, 1) := by decide +kernel
theorem dX1_goes_12 : decode cX1_goes 12 = .ok (.istore_n 3, 1) := by decide +kernel
theorem dX1_goes_13 : decode cX1_goes 13 = .ok (.iload_n 3, 1) := by decide +kernel
theorem dX1_goes_14 : decode cX1_goes 14 = .ok (.bipush 16, 2) := by decide +kernel
theorem dX1_goes_16 : decode cX1_goes 16 = .ok (.if_icmp .ge 28, 3) := by decide +kernel
theorem dX1_goes_19 : decode cX1_goes 19 = .ok (.iload_n 2, 1) := by decide +kernel
theorem dX1_goes_20 : decode cX1_goes 20 = .ok (.aload_n 0, 1) := by decide +kernel
theorem dX1_goes_21 : decode cX1_goes 21 = .ok (.iload_n 1, 1) := by decide +kernel
theorem dX1_goes_22 : decode cX1_goes 22 = .ok (.iload_n 3, 1) := by decide +kernel
theorem dX1_goes_23 : decode cX1_goes 23 = .ok (.invokevirtual 67, 3) := by decide +kernel
theorem dX1_goes_26 : decode cX1_goes 26 = .ok (.ifCond .eq 9, 3) := by decide +kernel
theorem dX1_goes_29 : decode cX1_goes 29 = .ok (.iconst 1, 1) := by decide +kernel
theorem dX1_goes_30 : decode cX1_goes 30 = .ok (.iload_n 3, 1) := by decide +kernel
theorem dX1_goes_31 : decode cX1_goes 31 = .ok (.ishl, 1) := by decide +kernel
theorem dX1_goes_32 : decode cX1_goes 32 = .ok (.goto 4, 3) := by decide +kernel
theorem dX1_goes_35 : decode cX1_goes 35 = .ok (.iconst 0, 1) := by decide +kernel
theorem dX1_goes_36 : decode cX1_goes 36 = .ok (.ior, 1) := by decide +kernel
theorem dX1_goes_37 : decode cX1_goes 37 = .ok (.istore_n 2, 1) := by decide +kernel
theorem dX1_goes_38 : decode cX1_goes 38 = .ok (.iinc 3 1, 3) := by decide +kernel
theorem dX1_goes_41 : decode cX1_goes 41 = .ok (.goto (-28), 3) := by decide +kernel
theorem dX1_goes_44 : decode cX1_goes 44 = .ok (.iload_n 2, 1) := by decide +kernel
theorem dX1_goes_45 : decode cX1_goes 45 = .ok (.ireturn, 1) := by decide +kernel
theorem dX1_goesOn_0 : decode cX1_goesOn 0 = .ok (.aload_n 0, 1) := by decide +kernel
theorem dX1_goesOn_1 : decode cX1_goesOn 1 = .ok (.getfield 19, 3) := by decide +kernel
theorem dX1_goesOn_4 : decode cX1_goesOn 4 = .ok (.iload_n 1, 1) := by decide +kernel
theorem dX1_goesOn_5 : decode cX1_goesOn 5 = .ok (.bipush 16, 2) := by decide +kernel
theorem dX1_goesOn_7 : decode cX1_goesOn 7 = .ok (.imul, 1) := by decide +kernel
theorem dX1_goesOn_8 : decode cX1_goesOn 8 = .ok (.iload_n 2, 1) := by decide +kernel
theorem dX1_goesOn_9 : decode cX1_goesOn 9 = .ok (.iadd, 1) := by decide +kernel
theorem dX1_goesOn_10 : decode cX1_goesOn 10 = .ok (.iaload, 1) := by decide +kernel
theorem dX1_goesOn_11 : decode cX1_goesOn 11 = .ok (.istore_n 3, 1) := by decide +kernel
theorem dX1_goesOn_12 : decode cX1_goesOn 12 = .ok (.iload_n 3, 1) := by decide +kernel
theorem dX1_goesOn_13 : decode cX1_goesOn 13 = .ok (.iconst (-1), 1) := by decide +kernel
theorem dX1_goesOn_14 : decode cX1_goesOn 14 = .ok (.if_icmp .eq 15, 3) := by decide +kernel
theorem dX1_goesOn_17 : decode cX1_goesOn 17 = .ok (.aload_n 0, 1) := by decide +kernel
theorem dX1_goesOn_18 : decode cX1_goesOn 18 = .ok (.getfield 38, 3) := by decide +kernel
theorem dX1_goesOn_21 : decode cX1_goesOn 21 = .ok (.iload_n 3, 1) := by decide +kernel
theorem dX1_goesOn_22 : decode cX1_goesOn 22 = .ok (.if_icmp .lt 7, 3) := by decide +kernel
theorem dX1_goesOn_25 : decode cX1_goesOn 25 = .ok (.iconst 1, 1) := by decide +kernel
theorem dX1_goesOn_26 : decode cX1_goesOn 26 = .ok (.goto 4, 3) := by decide +kernel
theorem dX1_goesOn_29 : decode cX1_goesOn 29 = .ok (.iconst 0, 1) := by decide +kernel
theorem dX1_goesOn_30 : decode cX1_goesOn 30 = .ok (.istore 4, 2) := by decide +kernel
theorem dX1_goesOn_32 : decode cX1_goesOn 32 = .ok (.aload_n 0, 1) := by decide +kernel
theorem dX1_goesOn_33 : decode cX1_goesOn 33 = .ok (.iload_n 1, 1) := by decide +kernel
theorem dX1_goesOn_34 : decode cX1_goesOn 34 = .ok (.iconst (-1), 1) := by decide +kernel
theorem dX1_goesOn_35 : decode cX1_goesOn 35 = .ok (.invokevirtual 58, 3) := by decide +kernel
theorem dX1_goesOn_38 : decode cX1_goesOn 38 = .ok (.ifCond .eq 8, 3) := by decide +kernel
theorem dX1_goesOn_41 : decode cX1_goesOn 41 = .ok (.iload 4, 2) := by decide +kernel
theorem dX1_goesOn_43 : decode cX1_goesOn 43 = .ok (.ifCond .eq 32, 3) := by decide +kernel
theorem dX1_goesOn_46 : decode cX1_goesOn 46 = .ok (.aload_n 0, 1) := by decide +kernel
theorem dX1_goesOn_47 : decode cX1_goesOn 47 = .ok (.iload_n 1, 1) := by decide +kernel
theorem dX1_goesOn_48 : decode cX1_goesOn 48 = .ok (.iload_n 2, 1) := by decide +kernel
theorem dX1_goesOn_49 : decode cX1_goesOn 49 = .ok (.invokevirtual 58, 3) := by decide +kernel
theorem dX1_goesOn_52 : decode cX1_goesOn 52 = .ok (.ifCond .ne 23, 3) := by decide +kernel
theorem dX1_goesOn_55 : decode cX1_goesOn 55 = .ok (.aload_n 0, 1) := by decide +kernel
theorem dX1_goesOn_56 : decode cX1_goesOn 56 = .ok (.getfield 38, 3) := by decide +kernel
theorem dX1_goesOn_59 : decode cX1_goesOn 59 = .ok (.aload_n 0, 1) := by decide +kernel
theorem dX1_goesOn_60 : decode cX1_goesOn 60 = .ok (.getfield 13, 3) := by decide +kernel
theorem dX1_goesOn_63 : decode cX1_goesOn 63 = .ok (.iload_n 1, 1) := by decide +kernel
theorem dX1_goesOn_64 : decode cX1_goesOn 64 = .ok (.iaload, 1) := by decide +kernel
theorem dX1_goesOn_65 : decode cX1_goesOn 65 = .ok (.if_icmp .ge 14, 3) := by decide +kernel
theorem dX1_goesOn_68 : decode cX1_goesOn 68 = .ok (.aload_n 0, 1) := by decide +kernel
theorem dX1_goesOn_69 : decode cX1_goesOn 69 = .ok (.invokevirtual 64, 3) := by decide +kernel
theorem dX1_goesOn_72 : decode cX1_goesOn 72 = .ok (.ifCond .eq 7, 3) := by decide +kernel
theorem dX1_goesOn_75 : decode cX1_goesOn 75 = .ok (.iconst 1, 1) := by decide +kernel
theorem dX1_goesOn_76 : decode cX1_goesOn 76 = .ok (.goto 4, 3) := by decide +kernel
theorem dX1_goesOn_79 : decode cX1_goesOn 79 = .ok (.iconst 0, 1) := by decide +kernel
theorem dX1_goesOn_80 : decode cX1_goesOn 80 = .ok (.ireturn, 1) := by decide +kernel
theorem dX1_isFirst_0 : decode cX1_isFirst 0 = .ok (.aload_n 0, 1) := by decide +kernel
theorem dX1_isFirst_1 : decode cX1_isFirst 1 = .ok (.invokevirtual 46, 3) := by decide +kernel
theorem dX1_isFirst_4 : decode cX1_isFirst 4 = .ok (.aload_n 0, 1) := by decide +kernel
theorem dX1_isFirst_5 : decode cX1_isFirst 5 = .ok (.getfield 31, 3) := by decide +kernel
theorem dX1_isFirst_8 : decode cX1_isFirst 8 = .ok (.ishr, 1) := by decide +kernel
theorem dX1_isFirst_9 : decode cX1_isFirst 9 = .ok (.ifCond .ne 7, 3) := by decide +kernel
theorem dX1_isFirst_12 : decode cX1_isFirst 12 = .ok (.iconst 1, 1) := by decide +kernel
theorem dX1_isFirst_13 : decode cX1_isFirst 13 = .ok (.goto 4, 3) := by decide +kernel
theorem dX1_isFirst_16 : decode cX1_isFirst 16 = .ok (.iconst 0, 1) := by decide +kernel
theorem dX1_isFirst_17 : decode cX1_isFirst 17 = .ok (.ireturn, 1) := by decide +kernel
theorem dX1_look_0 : decode cX1_look 0 = .ok (.iload_n 1, 1) := by decide +kernel
theorem dX1_look_1 : decode cX1_look 1 = .ok (.tableswitch 111 0 7 #[47, 52, 57, 70, 83, 96, 101, 106], 47) := by decide +kernel
theorem dX1_look_48 : decode cX1_look 48 = .ok (.aload_n 0, 1) := by decide +kernel
theorem dX1_look_49 : decode cX1_look 49 = .ok (.getfield 38, 3) := by decide +kernel
theorem dX1_look_52 : decode cX1_look 52 = .ok (.ireturn, 1) := by decide +kernel
theorem dX1_look_53 : decode cX1_look 53 = .ok (.aload_n 0, 1) := by decide +kernel
theorem dX1_look_54 : decode cX1_look 54 = .ok (.invokevirtual 46, 3) := by decide +kernel
theorem dX1_look_57 : decode cX1_look 57 = .ok (.ireturn, 1) := by decide +kernel
theorem dX1_look_58 : decode cX1_look 58 = .ok (.aload_n 0, 1) := by decide +kernel
theorem dX1_look_59 : decode cX1_look 59 = .ok (.invokevirtual 64, 3) := by decide +kernel
theorem dX1_look_62 : decode cX1_look 62 = .ok (.ifCond .eq 7, 3) := by decide +kernel
theorem dX1_look_65 : decode cX1_look 65 = .ok (.iconst 1, 1) := by decide +kernel
theorem dX1_look_66 : decode cX1_look 66 = .ok (.goto 4, 3) := by decide +kernel
theorem dX1_look_69 : decode cX1_look 69 = .ok (.iconst 0, 1) := by decide +kernel
theorem dX1_look_70 : decode cX1_look 70 = .ok (.ireturn, 1) := by decide +kernel
theorem dX1_look_71 : decode cX1_look 71 = .ok (.aload_n 0, 1) := by decide +kernel
theorem dX1_look_72 : decode cX1_look 72 = .ok (.invokevirtual 50, 3) := by decide +kernel
theorem dX1_look_75 : decode cX1_look 75 = .ok (.ifCond .eq 7, 3) := by decide +kernel
theorem dX1_look_78 : decode cX1_look 78 = .ok (.iconst 1, 1) := by decide +kernel
theorem dX1_look_79 : decode cX1_look 79 = .ok (.goto 4, 3) := by decide +kernel
theorem dX1_look_82 : decode cX1_look 82 = .ok (.iconst 0, 1) := by decide +kernel
theorem dX1_look_83 : decode cX1_look 83 = .ok (.ireturn, 1) := by decide +kernel
theorem dX1_look_84 : decode cX1_look 84 = .ok (.aload_n 0, 1) := by decide +kernel
theorem dX1_look_85 : decode cX1_look 85 = .ok (.invokevirtual 61, 3) := by decide +kernel
theorem dX1_look_88 : decode cX1_look 88 = .ok (.ifCond .eq 7, 3) := by decide +kernel
theorem dX1_look_91 : decode cX1_look 91 = .ok (.iconst 1, 1) := by decide +kernel
theorem dX1_look_92 : decode cX1_look 92 = .ok (.goto 4, 3) := by decide +kernel
theorem dX1_look_95 : decode cX1_look 95 = .ok (.iconst 0, 1) := by decide +kernel
theorem dX1_look_96 : decode cX1_look 96 = .ok (.ireturn, 1) := by decide +kernel
theorem dX1_look_97 : decode cX1_look 97 = .ok (.aload_n 0, 1) := by decide +kernel
theorem dX1_look_98 : decode cX1_look 98 = .ok (.getfield 31, 3) := by decide +kernel
theorem dX1_look_101 : decode cX1_look 101 = .ok (.ireturn, 1) := by decide +kernel
theorem dX1_look_102 : decode cX1_look 102 = .ok (.aload_n 0, 1) := by decide +kernel
theorem dX1_look_103 : decode cX1_look 103 = .ok (.invokevirtual 74, 3) := by decide +kernel
theorem dX1_look_106 : decode cX1_look 106 = .ok (.ireturn, 1) := by decide +kernel
theorem dX1_look_107 : decode cX1_look 107 = .ok (.aload_n 0, 1) := by decide +kernel
theorem dX1_look_108 : decode cX1_look 108 = .ok (.invokevirtual 77, 3) := by decide +kernel
theorem dX1_look_111 : decode cX1_look 111 = .ok (.ireturn, 1) := by decide +kernel
theorem dX1_look_112 : decode cX1_look 112 = .ok (.iconst (-1), 1) := by decide +kernel
theorem dX1_look_113 : decode cX1_look 113 = .ok (.ireturn, 1) := by decide +kernel
theorem dX1_groups_0 : decode cX1_groups 0 = .ok (.iconst 0, 1) := by decide +kernel
theorem dX1_groups_1 : decode cX1_groups 1 = .ok (.istore_n 1, 1) := by decide +kernel
theorem dX1_groups_2 : decode cX1_groups 2 = .ok (.iconst 0, 1) := by decide +kernel
theorem dX1_groups_3 : decode cX1_groups 3 = .ok (.istore_n 2, 1) := by decide +kernel
theorem dX1_groups_4 : decode cX1_groups 4 = .ok (.iload_n 2, 1) := by decide +kernel
theorem dX1_groups_5 : decode cX1_groups 5 = .ok (.bipush 8, 2) := by decide +kernel
theorem dX1_groups_7 : decode cX1_groups 7 = .ok (.if_icmp .ge 27, 3) := by decide +kernel
theorem dX1_groups_10 : decode cX1_groups 10 = .ok (.iload_n 1, 1) := by decide +kernel
theorem dX1_groups_11 : decode cX1_groups 11 = .ok (.aload_n 0, 1) := by decide +kernel
theorem dX1_groups_12 : decode cX1_groups 12 = .ok (.iload_n 2, 1) := by decide +kernel
theorem dX1_groups_13 : decode cX1_groups 13 = .ok (.invokevirtual 70, 3) := by decide +kernel
theorem dX1_groups_16 : decode cX1_groups 16 = .ok (.ifCond .eq 9, 3) := by decide +kernel
theorem dX1_groups_19 : decode cX1_groups 19 = .ok (.iconst 1, 1) := by decide +kernel
theorem dX1_groups_20 : decode cX1_groups 20 = .ok (.iload_n 2, 1) := by decide +kernel
theorem dX1_groups_21 : decode cX1_groups 21 = .ok (.ishl, 1) := by decide +kernel
theorem dX1_groups_22 : decode cX1_groups 22 = .ok (.goto 4, 3) := by decide +kernel
theorem dX1_groups_25 : decode cX1_groups 25 = .ok (.iconst 0, 1) := by decide +kernel
theorem dX1_groups_26 : decode cX1_groups 26 = .ok (.ior, 1) := by decide +kernel
theorem dX1_groups_27 : decode cX1_groups 27 = .ok (.istore_n 1, 1) := by decide +kernel
theorem dX1_groups_28 : decode cX1_groups 28 = .ok (.iinc 2 1, 3) := by decide +kernel
theorem dX1_groups_31 : decode cX1_groups 31 = .ok (.goto (-27), 3) := by decide +kernel
theorem dX1_groups_34 : decode cX1_groups 34 = .ok (.iload_n 1, 1) := by decide +kernel
theorem dX1_groups_35 : decode cX1_groups 35 = .ok (.ireturn, 1) := by decide +kernel
theorem dX1_branches_0 : decode cX1_branches 0 = .ok (.iconst 0, 1) := by decide +kernel
theorem dX1_branches_1 : decode cX1_branches 1 = .ok (.istore_n 1, 1) := by decide +kernel
theorem dX1_branches_2 : decode cX1_branches 2 = .ok (.iconst 0, 1) := by decide +kernel
theorem dX1_branches_3 : decode cX1_branches 3 = .ok (.istore_n 2, 1) := by decide +kernel
theorem dX1_branches_4 : decode cX1_branches 4 = .ok (.iload_n 2, 1) := by decide +kernel
theorem dX1_branches_5 : decode cX1_branches 5 = .ok (.sipush 136, 3) := by decide +kernel
theorem dX1_branches_8 : decode cX1_branches 8 = .ok (.if_icmp .ge 30, 3) := by decide +kernel
theorem dX1_branches_11 : decode cX1_branches 11 = .ok (.iload_n 1, 1) := by decide +kernel
theorem dX1_branches_12 : decode cX1_branches 12 = .ok (.aload_n 0, 1) := by decide +kernel
theorem dX1_branches_13 : decode cX1_branches 13 = .ok (.getfield 38, 3) := by decide +kernel
theorem dX1_branches_16 : decode cX1_branches 16 = .ok (.aload_n 0, 1) := by decide +kernel
theorem dX1_branches_17 : decode cX1_branches 17 = .ok (.getfield 16, 3) := by decide +kernel
theorem dX1_branches_20 : decode cX1_branches 20 = .ok (.iload_n 2, 1) := by decide +kernel
theorem dX1_branches_21 : decode cX1_branches 21 = .ok (.iaload, 1) := by decide +kernel
theorem dX1_branches_22 : decode cX1_branches 22 = .ok (.if_icmp .ge 7, 3) := by decide +kernel
theorem dX1_branches_25 : decode cX1_branches 25 = .ok (.iconst 1, 1) := by decide +kernel
theorem dX1_branches_26 : decode cX1_branches 26 = .ok (.goto 4, 3) := by decide +kernel
theorem dX1_branches_29 : decode cX1_branches 29 = .ok (.iconst 0, 1) := by decide +kernel
theorem dX1_branches_30 : decode cX1_branches 30 = .ok (.iadd, 1) := by decide +kernel
theorem dX1_branches_31 : decode cX1_branches 31 = .ok (.istore_n 1, 1) := by decide +kernel
theorem dX1_branches_32 : decode cX1_branches 32 = .ok (.iinc 2 1, 3) := by decide +kernel
theorem dX1_branches_35 : decode cX1_branches 35 = .ok (.goto (-31), 3) := by decide +kernel
theorem dX1_branches_38 : decode cX1_branches 38 = .ok (.iload_n 1, 1) := by decide +kernel
theorem dX1_branches_39 : decode cX1_branches 39 = .ok (.ireturn, 1) := by decide +kernel
end
section
set_option maxRecDepth 100000
theorem dX2_init_0 : decode cX2_init 0 = .ok (.aload_n 0, 1) := by decide +kernel
theorem dX2_init_1 : decode cX2_init 1 = .ok (.invokespecial 1, 3) := by decide +kernel
theorem dX2_init_4 : decode cX2_init 4 = .ok (.aload_n 0, 1) := by decide +kernel
theorem dX2_init_5 : decode cX2_init 5 = .ok (.bipush 10, 2) := by decide +kernel
theorem dX2_init_7 : decode cX2_init 7 = .ok (.newarray .int, 2) := by decide +kernel
theorem dX2_init_9 : decode cX2_init 9 = .ok (.putfield 7, 3) := by decide +kernel
theorem dX2_init_12 : decode cX2_init 12 = .ok (.aload_n 0, 1) := by decide +kernel
theorem dX2_init_13 : decode cX2_init 13 = .ok (.bipush 8, 2) := by decide +kernel
theorem dX2_init_15 : decode cX2_init 15 = .ok (.newarray .int, 2) := by decide +kernel
theorem dX2_init_17 : decode cX2_init 17 = .ok (.putfield 13, 3) := by decide +kernel
theorem dX2_init_20 : decode cX2_init 20 = .ok (.aload_n 0, 1) := by decide +kernel
theorem dX2_init_21 : decode cX2_init 21 = .ok (.bipush 8, 2) := by decide +kernel
theorem dX2_init_23 : decode cX2_init 23 = .ok (.newarray .int, 2) := by decide +kernel
theorem dX2_init_25 : decode cX2_init 25 = .ok (.putfield 16, 3) := by decide +kernel
theorem dX2_init_28 : decode cX2_init 28 = .ok (.aload_n 0, 1) := by decide +kernel
theorem dX2_init_29 : decode cX2_init 29 = .ok (.sipush 136, 3) := by decide +kernel
theorem dX2_init_32 : decode cX2_init 32 = .ok (.newarray .int, 2) := by decide +kernel
theorem dX2_init_34 : decode cX2_init 34 = .ok (.putfield 19, 3) := by decide +kernel
theorem dX2_init_37 : decode cX2_init 37 = .ok (.aload_n 0, 1) := by decide +kernel
theorem dX2_init_38 : decode cX2_init 38 = .ok (.sipush 136, 3) := by decide +kernel
theorem dX2_init_41 : decode cX2_init 41 = .ok (.newarray .int, 2) := by decide +kernel
theorem dX2_init_43 : decode cX2_init 43 = .ok (.putfield 22, 3) := by decide +kernel
theorem dX2_init_46 : decode cX2_init 46 = .ok (.aload_n 0, 1) := by decide +kernel
theorem dX2_init_47 : decode cX2_init 47 = .ok (.sipush 128, 3) := by decide +kernel
theorem dX2_init_50 : decode cX2_init 50 = .ok (.newarray .int, 2) := by decide +kernel
theorem dX2_init_52 : decode cX2_init 52 = .ok (.putfield 25, 3) := by decide +kernel
theorem dX2_init_55 : decode cX2_init 55 = .ok (.aload_n 0, 1) := by decide +kernel
theorem dX2_init_56 : decode cX2_init 56 = .ok (.iload_n 1, 1) := by decide +kernel
theorem dX2_init_57 : decode cX2_init 57 = .ok (.ifCond .ge 7, 3) := by decide +kernel
theorem dX2_init_60 : decode cX2_init 60 = .ok (.iconst 0, 1) := by decide +kernel
theorem dX2_init_61 : decode cX2_init 61 = .ok (.goto 15, 3) := by decide +kernel
theorem dX2_init_64 : decode cX2_init 64 = .ok (.iload_n 1, 1) := by decide +kernel
theorem dX2_init_65 : decode cX2_init 65 = .ok (.bipush 9, 2) := by decide +kernel
theorem dX2_init_67 : decode cX2_init 67 = .ok (.if_icmp .le 8, 3) := by decide +kernel
theorem dX2_init_70 : decode cX2_init 70 = .ok (.bipush 9, 2) := by decide +kernel
theorem dX2_init_72 : decode cX2_init 72 = .ok (.goto 4, 3) := by decide +kernel
theorem dX2_init_75 : decode cX2_init 75 = .ok (.iload_n 1, 1) := by decide +kernel
theorem dX2_init_76 : decode cX2_init 76 = .ok (.putfield 28, 3) := by decide +kernel
theorem dX2_init_79 : decode cX2_init 79 = .ok (.aload_n 0, 1) := by decide +kernel
theorem dX2_init_80 : decode cX2_init 80 = .ok (.invokevirtual 32, 3) := by decide +kernel
theorem dX2_init_83 : decode cX2_init 83 = .ok (.return_, 1) := by decide +kernel
theorem dX2_forgetAll_0 : decode cX2_forgetAll 0 = .ok (.iconst 0, 1) := by decide +kernel
theorem dX2_forgetAll_1 : decode cX2_forgetAll 1 = .ok (.istore_n 1, 1) := by decide +kernel
theorem dX2_forgetAll_2 : decode cX2_forgetAll 2 = .ok (.iload_n 1, 1) := by decide +kernel
theorem dX2_forgetAll_3 : decode cX2_forgetAll 3 = .ok (.bipush 10, 2) := by decide +kernel
theorem dX2_forgetAll_5 : decode cX2_forgetAll 5 = .ok (.if_icmp .ge 16, 3) := by decide +kernel
theorem dX2_forgetAll_8 : decode cX2_forgetAll 8 = .ok (.aload_n 0, 1) := by decide +kernel
theorem dX2_forgetAll_9 : decode cX2_forgetAll 9 = .ok (.getfield 7, 3) := by decide +kernel
theorem dX2_forgetAll_12 : decode cX2_forgetAll 12 = .ok (.iload_n 1, 1) := by decide +kernel
theorem dX2_forgetAll_13 : decode cX2_forgetAll 13 = .ok (.iconst (-1), 1) := by decide +kernel
theorem dX2_forgetAll_14 : decode cX2_forgetAll 14 = .ok (.iastore, 1) := by decide +kernel
theorem dX2_forgetAll_15 : decode cX2_forgetAll 15 = .ok (.iinc 1 1, 3) := by decide +kernel
theorem dX2_forgetAll_18 : decode cX2_forgetAll 18 = .ok (.goto (-16), 3) := by decide +kernel
theorem dX2_forgetAll_21 : decode cX2_forgetAll 21 = .ok (.iconst 0, 1) := by decide +kernel
theorem dX2_forgetAll_22 : decode cX2_forgetAll 22 = .ok (.istore_n 1, 1) := by decide +kernel
theorem dX2_forgetAll_23 : decode cX2_forgetAll 23 = .ok (.iload_n 1, 1) := by decide +kernel
theorem dX2_forgetAll_24 : decode cX2_forgetAll 24 = .ok (.bipush 8, 2) := by decide +kernel
theorem dX2_forgetAll_26 : decode cX2_forgetAll 26 = .ok (.if_icmp .ge 16, 3) := by decide +kernel
theorem dX2_forgetAll_29 : decode cX2_forgetAll 29 = .ok (.aload_n 0, 1) := by decide +kernel
theorem dX2_forgetAll_30 : decode cX2_forgetAll 30 = .ok (.getfield 13, 3) := by decide +kernel
theorem dX2_forgetAll_33 : decode cX2_forgetAll 33 = .ok (.iload_n 1, 1) := by decide +kernel
theorem dX2_forgetAll_34 : decode cX2_forgetAll 34 = .ok (.iconst (-1), 1) := by decide +kernel
theorem dX2_forgetAll_35 : decode cX2_forgetAll 35 = .ok (.iastore, 1) := by decide +kernel
theorem dX2_forgetAll_36 : decode cX2_forgetAll 36 = .ok (.iinc 1 1, 3) := by decide +kernel
theorem dX2_forgetAll_39 : decode cX2_forgetAll 39 = .ok (.goto (-16), 3) := by decide +kernel
theorem dX2_forgetAll_42 : decode cX2_forgetAll 42 = .ok (.iconst 0, 1) := by decide +kernel
theorem dX2_forgetAll_43 : decode cX2_forgetAll 43 = .ok (.istore_n 1, 1) := by decide +kernel
theorem dX2_forgetAll_44 : decode cX2_forgetAll 44 = .ok (.iload_n 1, 1) := by decide +kernel
theorem dX2_forgetAll_45 : decode cX2_forgetAll 45 = .ok (.sipush 136, 3) := by decide +kernel
theorem dX2_forgetAll_48 : decode cX2_forgetAll 48 = .ok (.if_icmp .ge 16, 3) := by decide +kernel
theorem dX2_forgetAll_51 : decode cX2_forgetAll 51 = .ok (.aload_n 0, 1) := by decide +kernel
theorem dX2_forgetAll_52 : decode cX2_forgetAll 52 = .ok (.getfield 19, 3) := by decide +kernel
theorem dX2_forgetAll_55 : decode cX2_forgetAll 55 = .ok (.iload_n 1, 1) := by decide +kernel
theorem dX2_forgetAll_56 : decode cX2_forgetAll 56 = .ok (.iconst (-1), 1) := by decide +kernel
theorem dX2_forgetAll_57 : decode cX2_forgetAll 57 = .ok (.iastore, 1) := by decide +kernel
theorem dX2_forgetAll_58 : decode cX2_forgetAll 58 = .ok (.iinc 1 1, 3) := by decide +kernel
theorem dX2_forgetAll_61 : decode cX2_forgetAll 61 = .ok (.goto (-17), 3) := by decide +kernel
theorem dX2_forgetAll_64 : decode cX2_forgetAll 64 = .ok (.iconst 0, 1) := by decide +kernel
theorem dX2_forgetAll_65 : decode cX2_forgetAll 65 = .ok (.istore_n 1, 1) := by decide +kernel
theorem dX2_forgetAll_66 : decode cX2_forgetAll 66 = .ok (.iload_n 1, 1) := by decide +kernel
theorem dX2_forgetAll_67 : decode cX2_forgetAll 67 = .ok (.sipush 128, 3) := by decide +kernel
theorem dX2_forgetAll_70 : decode cX2_forgetAll 70 = .ok (.if_icmp .ge 16, 3) := by decide +kernel
theorem dX2_forgetAll_73 : decode cX2_forgetAll 73 = .ok (.aload_n 0, 1) := by decide +kernel
theorem dX2_forgetAll_74 : decode cX2_forgetAll 74 = .ok (.getfield 25, 3) := by decide +kernel
theorem dX2_forgetAll_77 : decode cX2_forgetAll 77 = .ok (.iload_n 1, 1) := by decide +kernel
theorem dX2_forgetAll_78 : decode cX2_forgetAll 78 = .ok (.iconst (-1), 1) := by decide +kernel
theorem dX2_forgetAll_79 : decode cX2_forgetAll 79 = .ok (.iastore, 1) := by decide +kernel
theorem dX2_forgetAll_80 : decode cX2_forgetAll 80 = .ok (.iinc 1 1, 3) := by decide +kernel
theorem dX2_forgetAll_83 : decode cX2_forgetAll 83 = .ok (.goto (-17), 3) := by decide +kernel
theorem dX2_forgetAll_86 : decode cX2_forgetAll 86 = .ok (.return_, 1) := by decide +kernel
theorem dX2_tick_0 : decode cX2_tick 0 = .ok (.iload_n 1, 1) := by decide +kernel
theorem dX2_tick_1 : decode cX2_tick 1 = .ok (.iconst 1, 1) := by decide +kernel
theorem dX2_tick_2 : decode cX2_tick 2 = .ok (.if_icmp .lt 20, 3) := by decide +kernel
theorem dX2_tick_5 : decode cX2_tick 5 = .ok (.iload_n 1, 1) := by decide +kernel
theorem dX2_tick_6 : decode cX2_tick 6 = .ok (.bipush 100, 2) := by decide +kernel
theorem dX2_tick_8 : decode cX2_tick 8 = .ok (.if_icmp .gt 14, 3) := by decide +kernel
theorem dX2_tick_11 : decode cX2_tick 11 = .ok (.aload_n 0, 1) := by decide +kernel
theorem dX2_tick_12 : decode cX2_tick 12 = .ok (.getfield 39, 3) := by decide +kernel
theorem dX2_tick_15 : decode cX2_tick 15 = .ok (.iload_n 1, 1) := by decide +kernel
theorem dX2_tick_16 : decode cX2_tick 16 = .ok (.iadd, 1) := by decide +kernel
theorem dX2_tick_17 : decode cX2_tick 17 = .ok (.ldc 42, 2) := by decide +kernel
theorem dX2_tick_19 : decode cX2_tick 19 = .ok (.if_icmp .le 5, 3) := by decide +kernel
theorem dX2_tick_22 : decode cX2_tick 22 = .ok (.iconst (-1), 1) := by decide +kernel
theorem dX2_tick_23 : decode cX2_tick 23 = .ok (.ireturn, 1) := by decide +kernel
theorem dX2_tick_24 : decode cX2_tick 24 = .ok (.aload_n 0, 1) := by decide +kernel
theorem dX2_tick_25 : decode cX2_tick 25 = .ok (.dup, 1) := by decide +kernel
theorem dX2_tick_26 : decode cX2_tick 26 = .ok (.getfield 39, 3) := by decide +kernel
theorem dX2_tick_29 : decode cX2_tick 29 = .ok (.iload_n 1, 1) := by decide +kernel
theorem dX2_tick_30 : decode cX2_tick 30 = .ok (.iadd, 1) := by decide +kernel
theorem dX2_tick_31 : decode cX2_tick 31 = .ok (.putfield 39, 3) := by decide +kernel
theorem dX2_tick_34 : decode cX2_tick 34 = .ok (.aload_n 0, 1) := by decide +kernel
theorem dX2_tick_35 : decode cX2_tick 35 = .ok (.getfield 39, 3) := by decide +kernel
theorem dX2_tick_38 : decode cX2_tick 38 = .ok (.ireturn, 1) := by decide +kernel
theorem dX2_hello_0 : decode cX2_hello 0 = .ok (.iload_n 1, 1) := by decide +kernel
theorem dX2_hello_1 : decode cX2_hello 1 = .ok (.ifCond .lt 17, 3) := by decide +kernel
theorem dX2_hello_4 : decode cX2_hello 4 = .ok (.iload_n 1, 1) := by decide +kernel
theorem dX2_hello_5 : decode cX2_hello 5 = .ok (.bipush 9, 2) := by decide +kernel
theorem dX2_hello_7 : decode cX2_hello 7 = .ok (.if_icmp .gt 11, 3) := by decide +kernel
theorem dX2_hello_10 : decode cX2_hello 10 = .ok (.iload_n 1, 1) := by decide +kernel
theorem dX2_hello_11 : decode cX2_hello 11 = .ok (.aload_n 0, 1) := by decide +kernel
theorem dX2_hello_12 : decode cX2_hello 12 = .ok (.getfield 28, 3) := by decide +kernel
theorem dX2_hello_15 : decode cX2_hello 15 = .ok (.if_icmp .ne 5, 3) := by decide +kernel
theorem dX2_hello_18 : decode cX2_hello 18 = .ok (.iconst 0, 1) := by decide +kernel
theorem dX2_hello_19 : decode cX2_hello 19 = .ok (.ireturn, 1) := by decide +kernel
theorem dX2_hello_20 : decode cX2_hello 20 = .ok (.aload_n 0, 1) := by decide +kernel
theorem dX2_hello_21 : decode cX2_hello 21 = .ok (.getfield 7, 3) := by decide +kernel
theorem dX2_hello_24 : decode cX2_hello 24 = .ok (.iload_n 1, 1) := by decide +kernel
theorem dX2_hello_25 : decode cX2_hello 25 = .ok (.aload_n 0, 1) := by decide +kernel
theorem dX2_hello_26 : decode cX2_hello 26 = .ok (.getfield 39, 3) := by decide +kernel
theorem dX2_hello_29 : decode cX2_hello 29 = .ok (.iastore, 1) := by decide +kernel
theorem dX2_hello_30 : decode cX2_hello 30 = .ok (.iconst 1, 1) := by decide +kernel
theorem dX2_hello_31 : decode cX2_hello 31 = .ok (.ireturn, 1) := by decide +kernel
theorem dX2_report_0 : decode cX2_report 0 = .ok (.iload_n 1, 1) := by decide +kernel
theorem dX2_report_1 : decode cX2_report 1 = .ok (.invokestatic 35, 3) := by decide +kernel
theorem dX2_report_4 : decode cX2_report 4 = .ok (.ifCond .ne 5, 3) := by decide +kernel
theorem dX2_report_7 : decode cX2_report 7 = .ok (.iconst 0, 1) := by decide +kernel
theorem dX2_report_8 : decode cX2_report 8 = .ok (.ireturn, 1) := by decide +kernel
theorem dX2_report_9 : decode cX2_report 9 = .ok (.aload_n 0, 1) := by decide +kernel
theorem dX2_report_10 : decode cX2_report 10 = .ok (.getfield 13, 3) := by decide +kernel
theorem dX2_report_13 : decode cX2_report 13 = .ok (.iload_n 1, 1) := by decide +kernel
theorem dX2_report_14 : decode cX2_report 14 = .ok (.aload_n 0, 1) := by decide +kernel
theorem dX2_report_15 : decode cX2_report 15 = .ok (.getfield 39, 3) := by decide +kernel
theorem dX2_report_18 : decode cX2_report 18 = .ok (.iastore, 1) := by decide +kernel
theorem dX2_report_19 : decode cX2_report 19 = .ok (.aload_n 0, 1) := by decide +kernel
theorem dX2_report_20 : decode cX2_report 20 = .ok (.getfield 16, 3) := by decide +kernel
theorem dX2_report_23 : decode cX2_report 23 = .ok (.iload_n 1, 1) := by decide +kernel
theorem dX2_report_24 : decode cX2_report 24 = .ok (.ldc 47, 2) := by decide +kernel
theorem dX2_report_26 : decode cX2_report 26 = .ok (.iastore, 1) := by decide +kernel
theorem dX2_report_27 : decode cX2_report 27 = .ok (.iconst 1, 1) := by decide +kernel
theorem dX2_report_28 : decode cX2_report 28 = .ok (.ireturn, 1) := by decide +kernel
theorem dX2_isGroup_0 : decode cX2_isGroup 0 = .ok (.iload_n 0, 1) := by decide +kernel
theorem dX2_isGroup_1 : decode cX2_isGroup 1 = .ok (.ifCond .lt 13, 3) := by decide +kernel
theorem dX2_isGroup_4 : decode cX2_isGroup 4 = .ok (.iload_n 0, 1) := by decide +kernel
theorem dX2_isGroup_5 : decode cX2_isGroup 5 = .ok (.bipush 8, 2) := by decide +kernel
theorem dX2_isGroup_7 : decode cX2_isGroup 7 = .ok (.if_icmp .ge 7, 3) := by decide +kernel
theorem dX2_isGroup_10 : decode cX2_isGroup 10 = .ok (.iconst 1, 1) := by decide +kernel
theorem dX2_isGroup_11 : decode cX2_isGroup 11 = .ok (.goto 4, 3) := by decide +kernel
theorem dX2_isGroup_14 : decode cX2_isGroup 14 = .ok (.iconst 0, 1) := by decide +kernel
theorem dX2_isGroup_15 : decode cX2_isGroup 15 = .ok (.ireturn, 1) := by decide +kernel
theorem dX2_leave_0 : decode cX2_leave 0 = .ok (.iload_n 1, 1) := by decide +kernel
theorem dX2_leave_1 : decode cX2_leave 1 = .ok (.invokestatic 35, 3) := by decide +kernel
theorem dX2_leave_4 : decode cX2_leave 4 = .ok (.ifCond .eq 18, 3) := by decide +kernel
theorem dX2_leave_7 : decode cX2_leave 7 = .ok (.aload_n 0, 1) := by decide +kernel
theorem dX2_leave_8 : decode cX2_leave 8 = .ok (.iload_n 1, 1) := by decide +kernel
theorem dX2_leave_9 : decode cX2_leave 9 = .ok (.invokevirtual 48, 3) := by decide +kernel
theorem dX2_leave_12 : decode cX2_leave 12 = .ok (.ifCond .eq 10, 3) := by decide +kernel
theorem dX2_leave_15 : decode cX2_leave 15 = .ok (.aload_n 0, 1) := by decide +kernel
theorem dX2_leave_16 : decode cX2_leave 16 = .ok (.invokevirtual 52, 3) := by decide +kernel
theorem dX2_leave_19 : decode cX2_leave 19 = .ok (.ifCond .ne 5, 3) := by decide +kernel
theorem dX2_leave_22 : decode cX2_leave 22 = .ok (.iconst 0, 1) := by decide +kernel
theorem dX2_leave_23 : decode cX2_leave 23 = .ok (.ireturn, 1) := by decide +kernel
theorem dX2_leave_24 : decode cX2_leave 24 = .ok (.aload_n 0, 1) := by decide +kernel
theorem dX2_leave_25 : decode cX2_leave 25 = .ok (.getfield 16, 3) := by decide +kernel
theorem dX2_leave_28 : decode cX2_leave 28 = .ok (.iload_n 1, 1) := by decide +kernel
theorem dX2_leave_29 : decode cX2_leave 29 = .ok (.aload_n 0, 1) := by decide +kernel
theorem dX2_leave_30 : decode cX2_leave 30 = .ok (.getfield 39, 3) := by decide +kernel
theorem dX2_leave_33 : decode cX2_leave 33 = .ok (.iconst 4, 1) := by decide +kernel
theorem dX2_leave_34 : decode cX2_leave 34 = .ok (.iadd, 1) := by decide +kernel
theorem dX2_leave_35 : decode cX2_leave 35 = .ok (.aload_n 0, 1) := by decide +kernel
theorem dX2_leave_36 : decode cX2_leave 36 = .ok (.getfield 16, 3) := by decide +kernel
theorem dX2_leave_39 : decode cX2_leave 39 = .ok (.iload_n 1, 1) := by decide +kernel
theorem dX2_leave_40 : decode cX2_leave 40 = .ok (.iaload, 1) := by decide +kernel
theorem dX2_leave_41 : decode cX2_leave 41 = .ok (.if_icmp .ge 12, 3) := by decide +kernel
theorem dX2_leave_44 : decode cX2_leave 44 = .ok (.aload_n 0, 1) := by decide +kernel
theorem dX2_leave_45 : decode cX2_leave 45 = .ok (.getfield 39, 3) := by decide +kernel
theorem dX2_leave_48 : decode cX2_leave 48 = .ok (.iconst 4, 1) := by decide +kernel
theorem dX2_leave_49 : decode cX2_leave 49 = .ok (.iadd, 1) := by decide +kernel
theorem dX2_leave_50 : decode cX2_leave 50 = .ok (.goto 9, 3) := by decide +kernel
theorem dX2_leave_53 : decode cX2_leave 53 = .ok (.aload_n 0, 1) := by decide +kernel
theorem dX2_leave_54 : decode cX2_leave 54 = .ok (.getfield 16, 3) := by decide +kernel
theorem dX2_leave_57 : decode cX2_leave 57 = .ok (.iload_n 1, 1) := by decide +kernel
theorem dX2_leave_58 : decode cX2_leave 58 = .ok (.iaload, 1) := by decide +kernel
theorem dX2_leave_59 : decode cX2_leave 59 = .ok (.iastore, 1) := by decide +kernel
theorem dX2_leave_60 : decode cX2_leave 60 = .ok (.iconst 1, 1) := by decide +kernel
theorem dX2_leave_61 : decode cX2_leave 61 = .ok (.ireturn, 1) := by decide +kernel
theorem dX2_memberTill_0 : decode cX2_memberTill 0 = .ok (.aload_n 0, 1) := by decide +kernel
theorem dX2_memberTill_1 : decode cX2_memberTill 1 = .ok (.getfield 13, 3) := by decide +kernel
theorem dX2_memberTill_4 : decode cX2_memberTill 4 = .ok (.iload_n 1, 1) := by decide +kernel
theorem dX2_memberTill_5 : decode cX2_memberTill 5 = .ok (.iaload, 1) := by decide +kernel
theorem dX2_memberTill_6 : decode cX2_memberTill 6 = .ok (.iconst (-1), 1) := by decide +kernel
theorem dX2_memberTill_7 : decode cX2_memberTill 7 = .ok (.if_icmp .ne 5, 3) := by decide +kernel
theorem dX2_memberTill_10 : decode cX2_memberTill 10 = .ok (.iconst 0, 1) := by decide +kernel
theorem dX2_memberTill_11 : decode cX2_memberTill 11 = .ok (.ireturn, 1) := by decide +kernel
theorem dX2_memberTill_12 : decode cX2_memberTill 12 = .ok (.aload_n 0, 1) := by decide +kernel
theorem dX2_memberTill_13 : decode cX2_memberTill 13 = .ok (.getfield 13, 3) := by decide +kernel
theorem dX2_memberTill_16 : decode cX2_memberTill 16 = .ok (.iload_n 1, 1) := by decide +kernel
theorem dX2_memberTill_17 : decode cX2_memberTill 17 = .ok (.iaload, 1) := by decide +kernel
theorem dX2_memberTill_18 : decode cX2_memberTill 18 = .ok (.bipush 60, 2) := by decide +kernel
theorem dX2_memberTill_20 : decode cX2_memberTill 20 = .ok (.iadd, 1) := by decide +kernel
theorem dX2_memberTill_21 : decode cX2_memberTill 21 = .ok (.istore_n 2, 1) := by decide +kernel
theorem dX2_memberTill_22 : decode cX2_memberTill 22 = .ok (.aload_n 0, 1) := by decide +kernel
theorem dX2_memberTill_23 : decode cX2_memberTill 23 = .ok (.getfield 16, 3) := by decide +kernel
theorem dX2_memberTill_26 : decode cX2_memberTill 26 = .ok (.iload_n 1, 1) := by decide +kernel
theorem dX2_memberTill_27 : decode cX2_memberTill 27 = .ok (.iaload, 1) := by decide +kernel
theorem dX2_memberTill_28 : decode cX2_memberTill 28 = .ok (.iload_n 2, 1) := by decide +kernel
theorem dX2_memberTill_29 : decode cX2_memberTill 29 = .ok (.if_icmp .ge 12, 3) := by decide +kernel
theorem dX2_memberTill_32 : decode cX2_memberTill 32 = .ok (.aload_n 0, 1) := by decide +kernel
theorem dX2_memberTill_33 : decode cX2_memberTill 33 = .ok (.getfield 16, 3) := by decide +kernel
theorem dX2_memberTill_36 : decode cX2_memberTill 36 = .ok (.iload_n 1, 1) := by decide +kernel
theorem dX2_memberTill_37 : decode cX2_memberTill 37 = .ok (.iaload, 1) := by decide +kernel
theorem dX2_memberTill_38 : decode cX2_memberTill 38 = .ok (.goto 4, 3) := by decide +kernel
theorem dX2_memberTill_41 : decode cX2_memberTill 41 = .ok (.iload_n 2, 1) := by decide +kernel
theorem dX2_memberTill_42 : decode cX2_memberTill 42 = .ok (.istore_n 2, 1) := by decide +kernel
theorem dX2_memberTill_43 : decode cX2_memberTill 43 = .ok (.aload_n 0, 1) := by decide +kernel
theorem dX2_memberTill_44 : decode cX2_memberTill 44 = .ok (.getfield 39, 3) := by decide +kernel
theorem dX2_memberTill_47 : decode cX2_memberTill 47 = .ok (.iload_n 2, 1) := by decide +kernel
theorem dX2_memberTill_48 : decode cX2_memberTill 48 = .ok (.if_icmp .ge 7, 3) := by decide +kernel
theorem dX2_memberTill_51 : decode cX2_memberTill 51 = .ok (.iload_n 2, 1) := by decide +kernel
theorem dX2_memberTill_52 : decode cX2_memberTill 52 = .ok (.goto 4, 3) := by decide +kernel
theorem dX2_memberTill_55 : decode cX2_memberTill 55 = .ok (.iconst 0, 1) := by decide +kernel
theorem dX2_memberTill_56 : decode cX2_memberTill 56 = .ok (.ireturn, 1) := by decide +kernel
theorem dX2_isAsking_0 : decode cX2_isAsking 0 = .ok (.aload_n 0, 1) := by decide +kernel
theorem dX2_isAsking_1 : decode cX2_isAsking 1 = .ok (.invokevirtual 43, 3) := by decide +kernel
theorem dX2_isAsking_4 : decode cX2_isAsking 4 = .ok (.iconst 1, 1) := by decide +kernel
theorem dX2_isAsking_5 : decode cX2_isAsking 5 = .ok (.aload_n 0, 1) := by decide +kernel
theorem dX2_isAsking_6 : decode cX2_isAsking 6 = .ok (.getfield 28, 3) := by decide +kernel
theorem dX2_isAsking_9 : decode cX2_isAsking 9 = .ok (.ishl, 1) := by decide +kernel
theorem dX2_isAsking_10 : decode cX2_isAsking 10 = .ok (.irem, 1) := by decide +kernel
theorem dX2_isAsking_11 : decode cX2_isAsking 11 = .ok (.ifCond .ne 7, 3) := by decide +kernel
theorem dX2_isAsking_14 : decode cX2_isAsking 14 = .ok (.iconst 1, 1) := by decide +kernel
theorem dX2_isAsking_15 : decode cX2_isAsking 15 = .ok (.goto 4, 3) := by decide +kernel
theorem dX2_isAsking_18 : decode cX2_isAsking 18 = .ok (.iconst 0, 1) := by decide +kernel
theorem dX2_isAsking_19 : decode cX2_isAsking 19 = .ok (.ireturn, 1) := by decide +kernel
theorem dX2_neighbours_0 : decode cX2_neighbours 0 = .ok (.iconst 0, 1) := by decide +kernel
theorem dX2_neighbours_1 : decode cX2_neighbours 1 = .ok (.istore_n 1, 1) := by decide +kernel
theorem dX2_neighbours_2 : decode cX2_neighbours 2 = .ok (.iconst 0, 1) := by decide +kernel
theorem dX2_neighbours_3 : decode cX2_neighbours 3 = .ok (.istore_n 2, 1) := by decide +kernel
theorem dX2_neighbours_4 : decode cX2_neighbours 4 = .ok (.iload_n 2, 1) := by decide +kernel
theorem dX2_neighbours_5 : decode cX2_neighbours 5 = .ok (.bipush 10, 2) := by decide +kernel
theorem dX2_neighbours_7 : decode cX2_neighbours 7 = .ok (.if_icmp .ge 41, 3) := by decide +kernel
theorem dX2_neighbours_10 : decode cX2_neighbours 10 = .ok (.aload_n 0, 1) := by decide +kernel
theorem dX2_neighbours_11 : decode cX2_neighbours 11 = .ok (.getfield 7, 3) := by decide +kernel
theorem dX2_neighbours_14 : decode cX2_neighbours 14 = .ok (.iload_n 2, 1) := by decide +kernel
theorem dX2_neighbours_15 : decode cX2_neighbours 15 = .ok (.iaload, 1) := by decide +kernel
theorem dX2_neighbours_16 : decode cX2_neighbours 16 = .ok (.iconst (-1), 1) := by decide +kernel
theorem dX2_neighbours_17 : decode cX2_neighbours 17 = .ok (.if_icmp .eq 25, 3) := by decide +kernel
theorem dX2_neighbours_20 : decode cX2_neighbours 20 = .ok (.aload_n 0, 1) := by decide +kernel
theorem dX2_neighbours_21 : decode cX2_neighbours 21 = .ok (.getfield 39, 3) := by decide +kernel
theorem dX2_neighbours_24 : decode cX2_neighbours 24 = .ok (.aload_n 0, 1) := by decide +kernel
theorem dX2_neighbours_25 : decode cX2_neighbours 25 = .ok (.getfield 7, 3) := by decide +kernel
theorem dX2_neighbours_28 : decode cX2_neighbours 28 = .ok (.iload_n 2, 1) := by decide +kernel
theorem dX2_neighbours_29 : decode cX2_neighbours 29 = .ok (.iaload, 1) := by decide +kernel
theorem dX2_neighbours_30 : decode cX2_neighbours 30 = .ok (.bipush 65, 2) := by decide +kernel
theorem dX2_neighbours_32 : decode cX2_neighbours 32 = .ok (.iadd, 1) := by decide +kernel
theorem dX2_neighbours_33 : decode cX2_neighbours 33 = .ok (.if_icmp .ge 9, 3) := by decide +kernel
theorem dX2_neighbours_36 : decode cX2_neighbours 36 = .ok (.iload_n 1, 1) := by decide +kernel
theorem dX2_neighbours_37 : decode cX2_neighbours 37 = .ok (.iconst 1, 1) := by decide +kernel
theorem dX2_neighbours_38 : decode cX2_neighbours 38 = .ok (.iload_n 2, 1) := by decide +kernel
theorem dX2_neighbours_39 : decode cX2_neighbours 39 = .ok (.ishl, 1) := by decide +kernel
theorem dX2_neighbours_40 : decode cX2_neighbours 40 = .ok (.ior, 1) := by decide +kernel
theorem dX2_neighbours_41 : decode cX2_neighbours 41 = .ok (.istore_n 1, 1) := by decide +kernel
theorem dX2_neighbours_42 : decode cX2_neighbours 42 = .ok (.iinc 2 1, 3) := by decide +kernel
theorem dX2_neighbours_45 : decode cX2_neighbours 45 = .ok (.goto (-41), 3) := by decide +kernel
theorem dX2_neighbours_48 : decode cX2_neighbours 48 = .ok (.iload_n 1, 1) := by decide +kernel
theorem dX2_neighbours_49 : decode cX2_neighbours 49 = .ok (.ireturn, 1) := by decide +kernel
theorem dX2_members_0 : decode cX2_members 0 = .ok (.iload_n 1, 1) := by decide +kernel
theorem dX2_members_1 : decode cX2_members 1 = .ok (.invokestatic 35, 3) := by decide +kernel
theorem dX2_members_4 : decode cX2_members 4 = .ok (.ifCond .eq 11, 3) := by decide +kernel
theorem dX2_members_7 : decode cX2_members 7 = .ok (.aload_n 0, 1) := by decide +kernel
theorem dX2_members_8 : decode cX2_members 8 = .ok (.iload_n 1, 1) := by decide +kernel
theorem dX2_members_9 : decode cX2_members 9 = .ok (.invokevirtual 48, 3) := by decide +kernel
theorem dX2_members_12 : decode cX2_members 12 = .ok (.goto 4, 3) := by decide +kernel
theorem dX2_members_15 : decode cX2_members 15 = .ok (.iconst (-1), 1) := by decide +kernel
theorem dX2_members_16 : decode cX2_members 16 = .ok (.ireturn, 1) := by decide +kernel
theorem dX2_join_0 : decode cX2_join 0 = .ok (.iload_n 1, 1) := by decide +kernel
theorem dX2_join_1 : decode cX2_join 1 = .ok (.iload_n 2, 1) := by decide +kernel
theorem dX2_join_2 : decode cX2_join 2 = .ok (.invokestatic 56, 3) := by decide +kernel
theorem dX2_join_5 : decode cX2_join 5 = .ok (.ifCond .ne 5, 3) := by decide +kernel
theorem dX2_join_8 : decode cX2_join 8 = .ok (.iconst 0, 1) := by decide +kernel
theorem dX2_join_9 : decode cX2_join 9 = .ok (.ireturn, 1) := by decide +kernel
theorem dX2_join_10 : decode cX2_join 10 = .ok (.aload_n 0, 1) := by decide +kernel
theorem dX2_join_11 : decode cX2_join 11 = .ok (.iload_n 1, 1) := by decide +kernel
theorem dX2_join_12 : decode cX2_join 12 = .ok (.iload_n 2, 1) := by decide +kernel
theorem dX2_join_13 : decode cX2_join 13 = .ok (.invokevirtual 60, 3) := by decide +kernel
theorem dX2_join_16 : decode cX2_join 16 = .ok (.ifCond .le 7, 3) := by decide +kernel
theorem dX2_join_19 : decode cX2_join 19 = .ok (.iconst 1, 1) := by decide +kernel
theorem dX2_join_20 : decode cX2_join 20 = .ok (.goto 4, 3) := by decide +kernel
theorem dX2_join_23 : decode cX2_join 23 = .ok (.iconst 0, 1) := by decide +kernel
theorem dX2_join_24 : decode cX2_join 24 = .ok (.istore 4, 2) := by decide +kernel
theorem dX2_join_26 : decode cX2_join 26 = .ok (.aload_n 0, 1) := by decide +kernel
theorem dX2_join_27 : decode cX2_join 27 = .ok (.getfield 19, 3) := by decide +kernel
theorem dX2_join_30 : decode cX2_join 30 = .ok (.bipush 17, 2) := by decide +kernel
theorem dX2_join_32 : decode cX2_join 32 = .ok (.iload_n 1, 1) := by decide +kernel
theorem dX2_join_33 : decode cX2_join 33 = .ok (.imul, 1) := by decide +kernel
theorem dX2_join_34 : decode cX2_join 34 = .ok (.iload_n 2, 1) := by decide +kernel
theorem dX2_join_35 : decode cX2_join 35 = .ok (.iadd, 1) := by decide +kernel
theorem dX2_join_36 : decode cX2_join 36 = .ok (.iconst 1, 1) := by decide +kernel
theorem dX2_join_37 : decode cX2_join 37 = .ok (.iadd, 1) := by decide +kernel
theorem dX2_join_38 : decode cX2_join 38 = .ok (.aload_n 0, 1) := by decide +kernel
theorem dX2_join_39 : decode cX2_join 39 = .ok (.getfield 39, 3) := by decide +kernel
theorem dX2_join_42 : decode cX2_join 42 = .ok (.iastore, 1) := by decide +kernel
theorem dX2_join_43 : decode cX2_join 43 = .ok (.aload_n 0, 1) := by decide +kernel
theorem dX2_join_44 : decode cX2_join 44 = .ok (.getfield 22, 3) := by decide +kernel
theorem dX2_join_47 : decode cX2_join 47 = .ok (.bipush 17, 2) := by decide +kernel
theorem dX2_join_49 : decode cX2_join 49 = .ok (.iload_n 1, 1) := by decide +kernel
theorem dX2_join_50 : decode cX2_join 50 = .ok (.imul, 1) := by decide +kernel
theorem dX2_join_51 : decode cX2_join 51 = .ok (.iload_n 2, 1) := by decide +kernel
theorem dX2_join_52 : decode cX2_join 52 = .ok (.iadd, 1) := by decide +kernel
theorem dX2_join_53 : decode cX2_join 53 = .ok (.iconst 1, 1) := by decide +kernel
theorem dX2_join_54 : decode cX2_join 54 = .ok (.iadd, 1) := by decide +kernel
theorem dX2_join_55 : decode cX2_join 55 = .ok (.ldc 47, 2) := by decide +kernel
theorem dX2_join_57 : decode cX2_join 57 = .ok (.iastore, 1) := by decide +kernel
theorem dX2_join_58 : decode cX2_join 58 = .ok (.iload_n 2, 1) := by decide +kernel
theorem dX2_join_59 : decode cX2_join 59 = .ok (.iconst (-1), 1) := by decide +kernel
theorem dX2_join_60 : decode cX2_join 60 = .ok (.if_icmp .eq 5, 3) := by decide +kernel
theorem dX2_join_63 : decode cX2_join 63 = .ok (.iconst 1, 1) := by decide +kernel
theorem dX2_join_64 : decode cX2_join 64 = .ok (.ireturn, 1) := by decide +kernel
theorem dX2_join_65 : decode cX2_join 65 = .ok (.iconst 0, 1) := by decide +kernel
theorem dX2_join_66 : decode cX2_join 66 = .ok (.istore 5, 2) := by decide +kernel
theorem dX2_join_68 : decode cX2_join 68 = .ok (.iload 5, 2) := by decide +kernel
theorem dX2_join_70 : decode cX2_join 70 = .ok (.bipush 16, 2) := by decide +kernel
theorem dX2_join_72 : decode cX2_join 72 = .ok (.if_icmp .ge 112, 3) := by decide +kernel
theorem dX2_join_75 : decode cX2_join 75 = .ok (.iload_n 3, 1) := by decide +kernel
theorem dX2_join_76 : decode cX2_join 76 = .ok (.iload 5, 2) := by decide +kernel
theorem dX2_join_78 : decode cX2_join 78 = .ok (.ishr, 1) := by decide +kernel
theorem dX2_join_79 : decode cX2_join 79 = .ok (.iconst 1, 1) := by decide +kernel
theorem dX2_join_80 : decode cX2_join 80 = .ok (.iand, 1) := by decide +kernel
theorem dX2_join_81 : decode cX2_join 81 = .ok (.iconst 1, 1) := by decide +kernel
theorem dX2_join_82 : decode cX2_join 82 = .ok (.if_icmp .ne 7, 3) := by decide +kernel
theorem dX2_join_85 : decode cX2_join 85 = .ok (.iconst 1, 1) := by decide +kernel
theorem dX2_join_86 : decode cX2_join 86 = .ok (.goto 4, 3) := by decide +kernel
theorem dX2_join_89 : decode cX2_join 89 = .ok (.iconst 0, 1) := by decide +kernel
theorem dX2_join_90 : decode cX2_join 90 = .ok (.istore 6, 2) := by decide +kernel
theorem dX2_join_92 : decode cX2_join 92 = .ok (.iload 4, 2) := by decide +kernel
theorem dX2_join_94 : decode cX2_join 94 = .ok (.ifCond .eq 19, 3) := by decide +kernel
theorem dX2_join_97 : decode cX2_join 97 = .ok (.aload_n 0, 1) := by decide +kernel
theorem dX2_join_98 : decode cX2_join 98 = .ok (.getfield 25, 3) := by decide +kernel
theorem dX2_join_101 : decode cX2_join 101 = .ok (.bipush 16, 2) := by decide +kernel
theorem dX2_join_103 : decode cX2_join 103 = .ok (.iload_n 1, 1) := by decide +kernel
theorem dX2_join_104 : decode cX2_join 104 = .ok (.imul, 1) := by decide +kernel
theorem dX2_join_105 : decode cX2_join 105 = .ok (.iload 5, 2) := by decide +kernel
theorem dX2_join_107 : decode cX2_join 107 = .ok (.iadd, 1) := by decide +kernel
theorem dX2_join_108 : decode cX2_join 108 = .ok (.iaload, 1) := by decide +kernel
theorem dX2_join_109 : decode cX2_join 109 = .ok (.iconst (-1), 1) := by decide +kernel
theorem dX2_join_110 : decode cX2_join 110 = .ok (.if_icmp .ne 7, 3) := by decide +kernel
theorem dX2_join_113 : decode cX2_join 113 = .ok (.iconst 1, 1) := by decide +kernel
theorem dX2_join_114 : decode cX2_join 114 = .ok (.goto 4, 3) := by decide +kernel
theorem dX2_join_117 : decode cX2_join 117 = .ok (.iconst 0, 1) := by decide +kernel
theorem dX2_join_118 : decode cX2_join 118 = .ok (.istore 7, 2) := by decide +kernel
theorem dX2_join_120 : decode cX2_join 120 = .ok (.iload 6, 2) := by decide +kernel
theorem dX2_join_122 : decode cX2_join 122 = .ok (.ifCond .ne 19, 3) := by decide +kernel
theorem dX2_join_125 : decode cX2_join 125 = .ok (.aload_n 0, 1) := by decide +kernel
theorem dX2_join_126 : decode cX2_join 126 = .ok (.getfield 25, 3) := by decide +kernel
theorem dX2_join_129 : decode cX2_join 129 = .ok (.bipush 16, 2) := by decide +kernel
theorem dX2_join_131 : decode cX2_join 131 = .ok (.iload_n 1, 1) := by decide +kernel
theorem dX2_join_132 : decode cX2_join 132 = .ok (.imul, 1) := by decide +kernel
theorem dX2_join_133 : decode cX2_join 133 = .ok (.iload 5, 2) := by decide +kernel
theorem dX2_join_135 : decode cX2_join 135 = .ok (.iadd, 1) := by decide +kernel
theorem dX2_join_136 : decode cX2_join 136 = .ok (.iconst (-1), 1) := by decide +kernel
theorem dX2_join_137 : decode cX2_join 137 = .ok (.iastore, 1) := by decide +kernel
theorem dX2_join_138 : decode cX2_join 138 = .ok (.goto 40, 3) := by decide +kernel
theorem dX2_join_141 : decode cX2_join 141 = .ok (.iload 7, 2) := by decide +kernel
theorem dX2_join_143 : decode cX2_join 143 = .ok (.ifCond .eq 35, 3) := by decide +kernel
theorem dX2_join_146 : decode cX2_join 146 = .ok (.aload_n 0, 1) := by decide +kernel
theorem dX2_join_147 : decode cX2_join 147 = .ok (.getfield 25, 3) := by decide +kernel
theorem dX2_join_150 : decode cX2_join 150 = .ok (.bipush 16, 2) := by decide +kernel
theorem dX2_join_152 : decode cX2_join 152 = .ok (.iload_n 1, 1) := by decide +kernel
end
section
set_option maxRecDepth 100000
theorem dX2_join_153 : decode cX2_join 153 = .ok (.imul, 1) := by decide +kernel
theorem dX2_join_154 : decode cX2_join 154 = .ok (.iload 5, 2) := by decide +kernel
theorem dX2_join_156 : decode cX2_join 156 = .ok (.iadd, 1) := by decide +kernel
theorem dX2_join_157 : decode cX2_join 157 = .ok (.aload_n 0, 1) := by decide +kernel
theorem dX2_join_158 : decode cX2_join 158 = .ok (.invokevirtual 64, 3) := by decide +kernel
theorem dX2_join_161 : decode cX2_join 161 = .ok (.ifCond .eq 12, 3) := by decide +kernel
theorem dX2_join_164 : decode cX2_join 164 = .ok (.aload_n 0, 1) := by decide +kernel
theorem dX2_join_165 : decode cX2_join 165 = .ok (.getfield 39, 3) := by decide +kernel
theorem dX2_join_168 : decode cX2_join 168 = .ok (.iconst 3, 1) := by decide +kernel
theorem dX2_join_169 : decode cX2_join 169 = .ok (.iadd, 1) := by decide +kernel
theorem dX2_join_170 : decode cX2_join 170 = .ok (.goto 7, 3) := by decide +kernel
theorem dX2_join_173 : decode cX2_join 173 = .ok (.aload_n 0, 1) := by decide +kernel
theorem dX2_join_174 : decode cX2_join 174 = .ok (.getfield 39, 3) := by decide +kernel
theorem dX2_join_177 : decode cX2_join 177 = .ok (.iastore, 1) := by decide +kernel
theorem dX2_join_178 : decode cX2_join 178 = .ok (.iinc 5 1, 3) := by decide +kernel
theorem dX2_join_181 : decode cX2_join 181 = .ok (.goto (-113), 3) := by decide +kernel
theorem dX2_join_184 : decode cX2_join 184 = .ok (.iconst 1, 1) := by decide +kernel
theorem dX2_join_185 : decode cX2_join 185 = .ok (.ireturn, 1) := by decide +kernel
theorem dX2_isBranch_0 : decode cX2_isBranch 0 = .ok (.iload_n 0, 1) := by decide +kernel
theorem dX2_isBranch_1 : decode cX2_isBranch 1 = .ok (.invokestatic 35, 3) := by decide +kernel
theorem dX2_isBranch_4 : decode cX2_isBranch 4 = .ok (.ifCond .eq 18, 3) := by decide +kernel
theorem dX2_isBranch_7 : decode cX2_isBranch 7 = .ok (.iload_n 1, 1) := by decide +kernel
theorem dX2_isBranch_8 : decode cX2_isBranch 8 = .ok (.iconst (-1), 1) := by decide +kernel
theorem dX2_isBranch_9 : decode cX2_isBranch 9 = .ok (.if_icmp .lt 13, 3) := by decide +kernel
theorem dX2_isBranch_12 : decode cX2_isBranch 12 = .ok (.iload_n 1, 1) := by decide +kernel
theorem dX2_isBranch_13 : decode cX2_isBranch 13 = .ok (.bipush 16, 2) := by decide +kernel
theorem dX2_isBranch_15 : decode cX2_isBranch 15 = .ok (.if_icmp .ge 7, 3) := by decide +kernel
theorem dX2_isBranch_18 : decode cX2_isBranch 18 = .ok (.iconst 1, 1) := by decide +kernel
theorem dX2_isBranch_19 : decode cX2_isBranch 19 = .ok (.goto 4, 3) := by decide +kernel
theorem dX2_isBranch_22 : decode cX2_isBranch 22 = .ok (.iconst 0, 1) := by decide +kernel
theorem dX2_isBranch_23 : decode cX2_isBranch 23 = .ok (.ireturn, 1) := by decide +kernel
theorem dX2_till_0 : decode cX2_till 0 = .ok (.bipush 17, 2) := by decide +kernel
theorem dX2_till_2 : decode cX2_till 2 = .ok (.iload_n 1, 1) := by decide +kernel
theorem dX2_till_3 : decode cX2_till 3 = .ok (.imul, 1) := by decide +kernel
theorem dX2_till_4 : decode cX2_till 4 = .ok (.iload_n 2, 1) := by decide +kernel
theorem dX2_till_5 : decode cX2_till 5 = .ok (.iadd, 1) := by decide +kernel
theorem dX2_till_6 : decode cX2_till 6 = .ok (.iconst 1, 1) := by decide +kernel
theorem dX2_till_7 : decode cX2_till 7 = .ok (.iadd, 1) := by decide +kernel
theorem dX2_till_8 : decode cX2_till 8 = .ok (.istore_n 3, 1) := by decide +kernel
theorem dX2_till_9 : decode cX2_till 9 = .ok (.aload_n 0, 1) := by decide +kernel
theorem dX2_till_10 : decode cX2_till 10 = .ok (.getfield 19, 3) := by decide +kernel
theorem dX2_till_13 : decode cX2_till 13 = .ok (.iload_n 3, 1) := by decide +kernel
theorem dX2_till_14 : decode cX2_till 14 = .ok (.iaload, 1) := by decide +kernel
theorem dX2_till_15 : decode cX2_till 15 = .ok (.iconst (-1), 1) := by decide +kernel
theorem dX2_till_16 : decode cX2_till 16 = .ok (.if_icmp .ne 5, 3) := by decide +kernel
theorem dX2_till_19 : decode cX2_till 19 = .ok (.iconst 0, 1) := by decide +kernel
theorem dX2_till_20 : decode cX2_till 20 = .ok (.ireturn, 1) := by decide +kernel
theorem dX2_till_21 : decode cX2_till 21 = .ok (.aload_n 0, 1) := by decide +kernel
theorem dX2_till_22 : decode cX2_till 22 = .ok (.getfield 19, 3) := by decide +kernel
theorem dX2_till_25 : decode cX2_till 25 = .ok (.iload_n 3, 1) := by decide +kernel
theorem dX2_till_26 : decode cX2_till 26 = .ok (.iaload, 1) := by decide +kernel
theorem dX2_till_27 : decode cX2_till 27 = .ok (.bipush 70, 2) := by decide +kernel
theorem dX2_till_29 : decode cX2_till 29 = .ok (.iadd, 1) := by decide +kernel
theorem dX2_till_30 : decode cX2_till 30 = .ok (.istore 4, 2) := by decide +kernel
theorem dX2_till_32 : decode cX2_till 32 = .ok (.aload_n 0, 1) := by decide +kernel
theorem dX2_till_33 : decode cX2_till 33 = .ok (.getfield 22, 3) := by decide +kernel
theorem dX2_till_36 : decode cX2_till 36 = .ok (.iload_n 3, 1) := by decide +kernel
theorem dX2_till_37 : decode cX2_till 37 = .ok (.iaload, 1) := by decide +kernel
theorem dX2_till_38 : decode cX2_till 38 = .ok (.iload 4, 2) := by decide +kernel
theorem dX2_till_40 : decode cX2_till 40 = .ok (.if_icmp .ge 12, 3) := by decide +kernel
theorem dX2_till_43 : decode cX2_till 43 = .ok (.aload_n 0, 1) := by decide +kernel
theorem dX2_till_44 : decode cX2_till 44 = .ok (.getfield 22, 3) := by decide +kernel
theorem dX2_till_47 : decode cX2_till 47 = .ok (.iload_n 3, 1) := by decide +kernel
theorem dX2_till_48 : decode cX2_till 48 = .ok (.iaload, 1) := by decide +kernel
theorem dX2_till_49 : decode cX2_till 49 = .ok (.goto 5, 3) := by decide +kernel
theorem dX2_till_52 : decode cX2_till 52 = .ok (.iload 4, 2) := by decide +kernel
theorem dX2_till_54 : decode cX2_till 54 = .ok (.istore 4, 2) := by decide +kernel
theorem dX2_till_56 : decode cX2_till 56 = .ok (.aload_n 0, 1) := by decide +kernel
theorem dX2_till_57 : decode cX2_till 57 = .ok (.getfield 39, 3) := by decide +kernel
theorem dX2_till_60 : decode cX2_till 60 = .ok (.iload 4, 2) := by decide +kernel
theorem dX2_till_62 : decode cX2_till 62 = .ok (.if_icmp .ge 8, 3) := by decide +kernel
theorem dX2_till_65 : decode cX2_till 65 = .ok (.iload 4, 2) := by decide +kernel
theorem dX2_till_67 : decode cX2_till 67 = .ok (.goto 4, 3) := by decide +kernel
theorem dX2_till_70 : decode cX2_till 70 = .ok (.iconst 0, 1) := by decide +kernel
theorem dX2_till_71 : decode cX2_till 71 = .ok (.ireturn, 1) := by decide +kernel
theorem dX2_isCrowded_0 : decode cX2_isCrowded 0 = .ok (.iconst 0, 1) := by decide +kernel
theorem dX2_isCrowded_1 : decode cX2_isCrowded 1 = .ok (.istore_n 1, 1) := by decide +kernel
theorem dX2_isCrowded_2 : decode cX2_isCrowded 2 = .ok (.aload_n 0, 1) := by decide +kernel
theorem dX2_isCrowded_3 : decode cX2_isCrowded 3 = .ok (.invokevirtual 43, 3) := by decide +kernel
theorem dX2_isCrowded_6 : decode cX2_isCrowded 6 = .ok (.istore_n 2, 1) := by decide +kernel
theorem dX2_isCrowded_7 : decode cX2_isCrowded 7 = .ok (.iload_n 2, 1) := by decide +kernel
theorem dX2_isCrowded_8 : decode cX2_isCrowded 8 = .ok (.ifCond .eq 16, 3) := by decide +kernel
theorem dX2_isCrowded_11 : decode cX2_isCrowded 11 = .ok (.iload_n 1, 1) := by decide +kernel
theorem dX2_isCrowded_12 : decode cX2_isCrowded 12 = .ok (.iload_n 2, 1) := by decide +kernel
theorem dX2_isCrowded_13 : decode cX2_isCrowded 13 = .ok (.iconst 2, 1) := by decide +kernel
theorem dX2_isCrowded_14 : decode cX2_isCrowded 14 = .ok (.irem, 1) := by decide +kernel
theorem dX2_isCrowded_15 : decode cX2_isCrowded 15 = .ok (.iadd, 1) := by decide +kernel
theorem dX2_isCrowded_16 : decode cX2_isCrowded 16 = .ok (.istore_n 1, 1) := by decide +kernel
theorem dX2_isCrowded_17 : decode cX2_isCrowded 17 = .ok (.iload_n 2, 1) := by decide +kernel
theorem dX2_isCrowded_18 : decode cX2_isCrowded 18 = .ok (.iconst 2, 1) := by decide +kernel
theorem dX2_isCrowded_19 : decode cX2_isCrowded 19 = .ok (.idiv, 1) := by decide +kernel
theorem dX2_isCrowded_20 : decode cX2_isCrowded 20 = .ok (.istore_n 2, 1) := by decide +kernel
theorem dX2_isCrowded_21 : decode cX2_isCrowded 21 = .ok (.goto (-14), 3) := by decide +kernel
theorem dX2_isCrowded_24 : decode cX2_isCrowded 24 = .ok (.iload_n 1, 1) := by decide +kernel
theorem dX2_isCrowded_25 : decode cX2_isCrowded 25 = .ok (.iconst 1, 1) := by decide +kernel
theorem dX2_isCrowded_26 : decode cX2_isCrowded 26 = .ok (.if_icmp .le 7, 3) := by decide +kernel
theorem dX2_isCrowded_29 : decode cX2_isCrowded 29 = .ok (.iconst 1, 1) := by decide +kernel
theorem dX2_isCrowded_30 : decode cX2_isCrowded 30 = .ok (.goto 4, 3) := by decide +kernel
theorem dX2_isCrowded_33 : decode cX2_isCrowded 33 = .ok (.iconst 0, 1) := by decide +kernel
theorem dX2_isCrowded_34 : decode cX2_isCrowded 34 = .ok (.ireturn, 1) := by decide +kernel
theorem dX2_prune_0 : decode cX2_prune 0 = .ok (.iload_n 1, 1) := by decide +kernel
theorem dX2_prune_1 : decode cX2_prune 1 = .ok (.iload_n 2, 1) := by decide +kernel
theorem dX2_prune_2 : decode cX2_prune 2 = .ok (.invokestatic 56, 3) := by decide +kernel
theorem dX2_prune_5 : decode cX2_prune 5 = .ok (.ifCond .eq 12, 3) := by decide +kernel
theorem dX2_prune_8 : decode cX2_prune 8 = .ok (.aload_n 0, 1) := by decide +kernel
theorem dX2_prune_9 : decode cX2_prune 9 = .ok (.iload_n 1, 1) := by decide +kernel
theorem dX2_prune_10 : decode cX2_prune 10 = .ok (.iload_n 2, 1) := by decide +kernel
theorem dX2_prune_11 : decode cX2_prune 11 = .ok (.invokevirtual 60, 3) := by decide +kernel
theorem dX2_prune_14 : decode cX2_prune 14 = .ok (.ifCond .ne 5, 3) := by decide +kernel
theorem dX2_prune_17 : decode cX2_prune 17 = .ok (.iconst 0, 1) := by decide +kernel
theorem dX2_prune_18 : decode cX2_prune 18 = .ok (.ireturn, 1) := by decide +kernel
theorem dX2_prune_19 : decode cX2_prune 19 = .ok (.bipush 17, 2) := by decide +kernel
theorem dX2_prune_21 : decode cX2_prune 21 = .ok (.iload_n 1, 1) := by decide +kernel
theorem dX2_prune_22 : decode cX2_prune 22 = .ok (.imul, 1) := by decide +kernel
theorem dX2_prune_23 : decode cX2_prune 23 = .ok (.iload_n 2, 1) := by decide +kernel
theorem dX2_prune_24 : decode cX2_prune 24 = .ok (.iadd, 1) := by decide +kernel
theorem dX2_prune_25 : decode cX2_prune 25 = .ok (.iconst 1, 1) := by decide +kernel
theorem dX2_prune_26 : decode cX2_prune 26 = .ok (.iadd, 1) := by decide +kernel
theorem dX2_prune_27 : decode cX2_prune 27 = .ok (.istore_n 3, 1) := by decide +kernel
theorem dX2_prune_28 : decode cX2_prune 28 = .ok (.aload_n 0, 1) := by decide +kernel
theorem dX2_prune_29 : decode cX2_prune 29 = .ok (.invokevirtual 64, 3) := by decide +kernel
theorem dX2_prune_32 : decode cX2_prune 32 = .ok (.ifCond .eq 12, 3) := by decide +kernel
theorem dX2_prune_35 : decode cX2_prune 35 = .ok (.aload_n 0, 1) := by decide +kernel
theorem dX2_prune_36 : decode cX2_prune 36 = .ok (.getfield 39, 3) := by decide +kernel
theorem dX2_prune_39 : decode cX2_prune 39 = .ok (.iconst 3, 1) := by decide +kernel
theorem dX2_prune_40 : decode cX2_prune 40 = .ok (.iadd, 1) := by decide +kernel
theorem dX2_prune_41 : decode cX2_prune 41 = .ok (.goto 7, 3) := by decide +kernel
theorem dX2_prune_44 : decode cX2_prune 44 = .ok (.aload_n 0, 1) := by decide +kernel
theorem dX2_prune_45 : decode cX2_prune 45 = .ok (.getfield 39, 3) := by decide +kernel
theorem dX2_prune_48 : decode cX2_prune 48 = .ok (.istore 4, 2) := by decide +kernel
theorem dX2_prune_50 : decode cX2_prune 50 = .ok (.aload_n 0, 1) := by decide +kernel
theorem dX2_prune_51 : decode cX2_prune 51 = .ok (.getfield 22, 3) := by decide +kernel
theorem dX2_prune_54 : decode cX2_prune 54 = .ok (.iload_n 3, 1) := by decide +kernel
theorem dX2_prune_55 : decode cX2_prune 55 = .ok (.iload 4, 2) := by decide +kernel
theorem dX2_prune_57 : decode cX2_prune 57 = .ok (.aload_n 0, 1) := by decide +kernel
theorem dX2_prune_58 : decode cX2_prune 58 = .ok (.getfield 22, 3) := by decide +kernel
theorem dX2_prune_61 : decode cX2_prune 61 = .ok (.iload_n 3, 1) := by decide +kernel
theorem dX2_prune_62 : decode cX2_prune 62 = .ok (.iaload, 1) := by decide +kernel
theorem dX2_prune_63 : decode cX2_prune 63 = .ok (.if_icmp .ge 8, 3) := by decide +kernel
theorem dX2_prune_66 : decode cX2_prune 66 = .ok (.iload 4, 2) := by decide +kernel
theorem dX2_prune_68 : decode cX2_prune 68 = .ok (.goto 9, 3) := by decide +kernel
theorem dX2_prune_71 : decode cX2_prune 71 = .ok (.aload_n 0, 1) := by decide +kernel
theorem dX2_prune_72 : decode cX2_prune 72 = .ok (.getfield 22, 3) := by decide +kernel
theorem dX2_prune_75 : decode cX2_prune 75 = .ok (.iload_n 3, 1) := by decide +kernel
theorem dX2_prune_76 : decode cX2_prune 76 = .ok (.iaload, 1) := by decide +kernel
theorem dX2_prune_77 : decode cX2_prune 77 = .ok (.iastore, 1) := by decide +kernel
theorem dX2_prune_78 : decode cX2_prune 78 = .ok (.iconst 1, 1) := by decide +kernel
theorem dX2_prune_79 : decode cX2_prune 79 = .ok (.ireturn, 1) := by decide +kernel
theorem dX2_forget_0 : decode cX2_forget 0 = .ok (.aload_n 0, 1) := by decide +kernel
theorem dX2_forget_1 : decode cX2_forget 1 = .ok (.invokevirtual 32, 3) := by decide +kernel
theorem dX2_forget_4 : decode cX2_forget 4 = .ok (.return_, 1) := by decide +kernel
theorem dX2_joined_0 : decode cX2_joined 0 = .ok (.iload_n 1, 1) := by decide +kernel
theorem dX2_joined_1 : decode cX2_joined 1 = .ok (.iload_n 2, 1) := by decide +kernel
theorem dX2_joined_2 : decode cX2_joined 2 = .ok (.invokestatic 56, 3) := by decide +kernel
theorem dX2_joined_5 : decode cX2_joined 5 = .ok (.ifCond .eq 12, 3) := by decide +kernel
theorem dX2_joined_8 : decode cX2_joined 8 = .ok (.aload_n 0, 1) := by decide +kernel
theorem dX2_joined_9 : decode cX2_joined 9 = .ok (.iload_n 1, 1) := by decide +kernel
theorem dX2_joined_10 : decode cX2_joined 10 = .ok (.iload_n 2, 1) := by decide +kernel
theorem dX2_joined_11 : decode cX2_joined 11 = .ok (.invokevirtual 60, 3) := by decide +kernel
theorem dX2_joined_14 : decode cX2_joined 14 = .ok (.goto 4, 3) := by decide +kernel
theorem dX2_joined_17 : decode cX2_joined 17 = .ok (.iconst (-1), 1) := by decide +kernel
theorem dX2_joined_18 : decode cX2_joined 18 = .ok (.ireturn, 1) := by decide +kernel
theorem dX2_cut_0 : decode cX2_cut 0 = .ok (.iload_n 1, 1) := by decide +kernel
theorem dX2_cut_1 : decode cX2_cut 1 = .ok (.iload_n 2, 1) := by decide +kernel
theorem dX2_cut_2 : decode cX2_cut 2 = .ok (.invokestatic 56, 3) := by decide +kernel
theorem dX2_cut_5 : decode cX2_cut 5 = .ok (.ifCond .eq 8, 3) := by decide +kernel
theorem dX2_cut_8 : decode cX2_cut 8 = .ok (.iload_n 2, 1) := by decide +kernel
theorem dX2_cut_9 : decode cX2_cut 9 = .ok (.iconst (-1), 1) := by decide +kernel
theorem dX2_cut_10 : decode cX2_cut 10 = .ok (.if_icmp .ne 5, 3) := by decide +kernel
theorem dX2_cut_13 : decode cX2_cut 13 = .ok (.iconst (-1), 1) := by decide +kernel
theorem dX2_cut_14 : decode cX2_cut 14 = .ok (.ireturn, 1) := by decide +kernel
theorem dX2_cut_15 : decode cX2_cut 15 = .ok (.aload_n 0, 1) := by decide +kernel
theorem dX2_cut_16 : decode cX2_cut 16 = .ok (.iload_n 1, 1) := by decide +kernel
theorem dX2_cut_17 : decode cX2_cut 17 = .ok (.iconst (-1), 1) := by decide +kernel
theorem dX2_cut_18 : decode cX2_cut 18 = .ok (.invokevirtual 60, 3) := by decide +kernel
theorem dX2_cut_21 : decode cX2_cut 21 = .ok (.ifCond .eq 18, 3) := by decide +kernel
theorem dX2_cut_24 : decode cX2_cut 24 = .ok (.aload_n 0, 1) := by decide +kernel
theorem dX2_cut_25 : decode cX2_cut 25 = .ok (.getfield 25, 3) := by decide +kernel
theorem dX2_cut_28 : decode cX2_cut 28 = .ok (.bipush 16, 2) := by decide +kernel
theorem dX2_cut_30 : decode cX2_cut 30 = .ok (.iload_n 1, 1) := by decide +kernel
theorem dX2_cut_31 : decode cX2_cut 31 = .ok (.imul, 1) := by decide +kernel
theorem dX2_cut_32 : decode cX2_cut 32 = .ok (.iload_n 2, 1) := by decide +kernel
theorem dX2_cut_33 : decode cX2_cut 33 = .ok (.iadd, 1) := by decide +kernel
theorem dX2_cut_34 : decode cX2_cut 34 = .ok (.iaload, 1) := by decide +kernel
theorem dX2_cut_35 : decode cX2_cut 35 = .ok (.iconst (-1), 1) := by decide +kernel
theorem dX2_cut_36 : decode cX2_cut 36 = .ok (.if_icmp .ne 7, 3) := by decide +kernel
theorem dX2_cut_39 : decode cX2_cut 39 = .ok (.iconst 0, 1) := by decide +kernel
theorem dX2_cut_40 : decode cX2_cut 40 = .ok (.goto 14, 3) := by decide +kernel
theorem dX2_cut_43 : decode cX2_cut 43 = .ok (.aload_n 0, 1) := by decide +kernel
theorem dX2_cut_44 : decode cX2_cut 44 = .ok (.getfield 25, 3) := by decide +kernel
theorem dX2_cut_47 : decode cX2_cut 47 = .ok (.bipush 16, 2) := by decide +kernel
theorem dX2_cut_49 : decode cX2_cut 49 = .ok (.iload_n 1, 1) := by decide +kernel
theorem dX2_cut_50 : decode cX2_cut 50 = .ok (.imul, 1) := by decide +kernel
theorem dX2_cut_51 : decode cX2_cut 51 = .ok (.iload_n 2, 1) := by decide +kernel
theorem dX2_cut_52 : decode cX2_cut 52 = .ok (.iadd, 1) := by decide +kernel
theorem dX2_cut_53 : decode cX2_cut 53 = .ok (.iaload, 1) := by decide +kernel
theorem dX2_cut_54 : decode cX2_cut 54 = .ok (.ireturn, 1) := by decide +kernel
theorem dX2_goes_0 : decode cX2_goes 0 = .ok (.iload_n 1, 1) := by decide +kernel
theorem dX2_goes_1 : decode cX2_goes 1 = .ok (.invokestatic 35, 3) := by decide +kernel
theorem dX2_goes_4 : decode cX2_goes 4 = .ok (.ifCond .ne 5, 3) := by decide +kernel
theorem dX2_goes_7 : decode cX2_goes 7 = .ok (.iconst (-1), 1) := by decide +kernel
theorem dX2_goes_8 : decode cX2_goes 8 = .ok (.ireturn, 1) := by decide +kernel
theorem dX2_goes_9 : decode cX2_goes 9 = .ok (.aload_n 0, 1) := by decide +kernel
theorem dX2_goes_10 : decode cX2_goes 10 = .ok (.iload_n 1, 1) := by decide +kernel
theorem dX2_goes_11 : decode cX2_goes 11 = .ok (.invokevirtual 48, 3) := by decide +kernel
theorem dX2_goes_14 : decode cX2_goes 14 = .ok (.ifCond .le 14, 3) := by decide +kernel
theorem dX2_goes_17 : decode cX2_goes 17 = .ok (.aload_n 0, 1) := by decide +kernel
theorem dX2_goes_18 : decode cX2_goes 18 = .ok (.invokevirtual 67, 3) := by decide +kernel
theorem dX2_goes_21 : decode cX2_goes 21 = .ok (.ifCond .eq 7, 3) := by decide +kernel
theorem dX2_goes_24 : decode cX2_goes 24 = .ok (.iconst 1, 1) := by decide +kernel
theorem dX2_goes_25 : decode cX2_goes 25 = .ok (.goto 4, 3) := by decide +kernel
theorem dX2_goes_28 : decode cX2_goes 28 = .ok (.iconst 0, 1) := by decide +kernel
theorem dX2_goes_29 : decode cX2_goes 29 = .ok (.istore_n 2, 1) := by decide +kernel
theorem dX2_goes_30 : decode cX2_goes 30 = .ok (.iconst 0, 1) := by decide +kernel
theorem dX2_goes_31 : decode cX2_goes 31 = .ok (.istore_n 3, 1) := by decide +kernel
theorem dX2_goes_32 : decode cX2_goes 32 = .ok (.iconst 0, 1) := by decide +kernel
theorem dX2_goes_33 : decode cX2_goes 33 = .ok (.istore 4, 2) := by decide +kernel
theorem dX2_goes_35 : decode cX2_goes 35 = .ok (.iload 4, 2) := by decide +kernel
theorem dX2_goes_37 : decode cX2_goes 37 = .ok (.bipush 16, 2) := by decide +kernel
theorem dX2_goes_39 : decode cX2_goes 39 = .ok (.if_icmp .ge 61, 3) := by decide +kernel
theorem dX2_goes_42 : decode cX2_goes 42 = .ok (.iload_n 2, 1) := by decide +kernel
theorem dX2_goes_43 : decode cX2_goes 43 = .ok (.ifCond .ne 32, 3) := by decide +kernel
theorem dX2_goes_46 : decode cX2_goes 46 = .ok (.aload_n 0, 1) := by decide +kernel
theorem dX2_goes_47 : decode cX2_goes 47 = .ok (.iload_n 1, 1) := by decide +kernel
theorem dX2_goes_48 : decode cX2_goes 48 = .ok (.iload 4, 2) := by decide +kernel
theorem dX2_goes_50 : decode cX2_goes 50 = .ok (.invokevirtual 60, 3) := by decide +kernel
theorem dX2_goes_53 : decode cX2_goes 53 = .ok (.ifCond .gt 22, 3) := by decide +kernel
theorem dX2_goes_56 : decode cX2_goes 56 = .ok (.aload_n 0, 1) := by decide +kernel
theorem dX2_goes_57 : decode cX2_goes 57 = .ok (.iload_n 1, 1) := by decide +kernel
theorem dX2_goes_58 : decode cX2_goes 58 = .ok (.iconst (-1), 1) := by decide +kernel
theorem dX2_goes_59 : decode cX2_goes 59 = .ok (.invokevirtual 60, 3) := by decide +kernel
theorem dX2_goes_62 : decode cX2_goes 62 = .ok (.ifCond .le 17, 3) := by decide +kernel
theorem dX2_goes_65 : decode cX2_goes 65 = .ok (.aload_n 0, 1) := by decide +kernel
theorem dX2_goes_66 : decode cX2_goes 66 = .ok (.iload_n 1, 1) := by decide +kernel
theorem dX2_goes_67 : decode cX2_goes 67 = .ok (.iload 4, 2) := by decide +kernel
theorem dX2_goes_69 : decode cX2_goes 69 = .ok (.invokevirtual 70, 3) := by decide +kernel
theorem dX2_goes_72 : decode cX2_goes 72 = .ok (.ifCond .ne 7, 3) := by decide +kernel
theorem dX2_goes_75 : decode cX2_goes 75 = .ok (.iconst 1, 1) := by decide +kernel
theorem dX2_goes_76 : decode cX2_goes 76 = .ok (.goto 4, 3) := by decide +kernel
theorem dX2_goes_79 : decode cX2_goes 79 = .ok (.iconst 0, 1) := by decide +kernel
theorem dX2_goes_80 : decode cX2_goes 80 = .ok (.istore 5, 2) := by decide +kernel
theorem dX2_goes_82 : decode cX2_goes 82 = .ok (.iload 5, 2) := by decide +kernel
theorem dX2_goes_84 : decode cX2_goes 84 = .ok (.ifCond .eq 10, 3) := by decide +kernel
theorem dX2_goes_87 : decode cX2_goes 87 = .ok (.iload_n 3, 1) := by decide +kernel
theorem dX2_goes_88 : decode cX2_goes 88 = .ok (.iconst 1, 1) := by decide +kernel
theorem dX2_goes_89 : decode cX2_goes 89 = .ok (.iload 4, 2) := by decide +kernel
theorem dX2_goes_91 : decode cX2_goes 91 = .ok (.ishl, 1) := by decide +kernel
theorem dX2_goes_92 : decode cX2_goes 92 = .ok (.ior, 1) := by decide +kernel
theorem dX2_goes_93 : decode cX2_goes 93 = .ok (.istore_n 3, 1) := by decide +kernel
theorem dX2_goes_94 : decode cX2_goes 94 = .ok (.iinc 4 1, 3) := by decide +kernel
theorem dX2_goes_97 : decode cX2_goes 97 = .ok (.goto (-62), 3) := by decide +kernel
theorem dX2_goes_100 : decode cX2_goes 100 = .ok (.iload_n 3, 1) := by decide +kernel
theorem dX2_goes_101 : decode cX2_goes 101 = .ok (.ireturn, 1) := by decide +kernel
theorem dX2_isFirst_0 : decode cX2_isFirst 0 = .ok (.aload_n 0, 1) := by decide +kernel
theorem dX2_isFirst_1 : decode cX2_isFirst 1 = .ok (.invokevirtual 43, 3) := by decide +kernel
theorem dX2_isFirst_4 : decode cX2_isFirst 4 = .ok (.aload_n 0, 1) := by decide +kernel
theorem dX2_isFirst_5 : decode cX2_isFirst 5 = .ok (.getfield 28, 3) := by decide +kernel
theorem dX2_isFirst_8 : decode cX2_isFirst 8 = .ok (.ishr, 1) := by decide +kernel
theorem dX2_isFirst_9 : decode cX2_isFirst 9 = .ok (.ifCond .ne 7, 3) := by decide +kernel
theorem dX2_isFirst_12 : decode cX2_isFirst 12 = .ok (.iconst 1, 1) := by decide +kernel
theorem dX2_isFirst_13 : decode cX2_isFirst 13 = .ok (.goto 4, 3) := by decide +kernel
theorem dX2_isFirst_16 : decode cX2_isFirst 16 = .ok (.iconst 0, 1) := by decide +kernel
theorem dX2_isFirst_17 : decode cX2_isFirst 17 = .ok (.ireturn, 1) := by decide +kernel
theorem dX2_isCutOff_0 : decode cX2_isCutOff 0 = .ok (.aload_n 0, 1) := by decide +kernel
theorem dX2_isCutOff_1 : decode cX2_isCutOff 1 = .ok (.getfield 25, 3) := by decide +kernel
theorem dX2_isCutOff_4 : decode cX2_isCutOff 4 = .ok (.bipush 16, 2) := by decide +kernel
theorem dX2_isCutOff_6 : decode cX2_isCutOff 6 = .ok (.iload_n 1, 1) := by decide +kernel
theorem dX2_isCutOff_7 : decode cX2_isCutOff 7 = .ok (.imul, 1) := by decide +kernel
theorem dX2_isCutOff_8 : decode cX2_isCutOff 8 = .ok (.iload_n 2, 1) := by decide +kernel
theorem dX2_isCutOff_9 : decode cX2_isCutOff 9 = .ok (.iadd, 1) := by decide +kernel
theorem dX2_isCutOff_10 : decode cX2_isCutOff 10 = .ok (.iaload, 1) := by decide +kernel
theorem dX2_isCutOff_11 : decode cX2_isCutOff 11 = .ok (.iconst (-1), 1) := by decide +kernel
theorem dX2_isCutOff_12 : decode cX2_isCutOff 12 = .ok (.if_icmp .eq 25, 3) := by decide +kernel
theorem dX2_isCutOff_15 : decode cX2_isCutOff 15 = .ok (.aload_n 0, 1) := by decide +kernel
theorem dX2_isCutOff_16 : decode cX2_isCutOff 16 = .ok (.getfield 39, 3) := by decide +kernel
theorem dX2_isCutOff_19 : decode cX2_isCutOff 19 = .ok (.aload_n 0, 1) := by decide +kernel
theorem dX2_isCutOff_20 : decode cX2_isCutOff 20 = .ok (.getfield 25, 3) := by decide +kernel
theorem dX2_isCutOff_23 : decode cX2_isCutOff 23 = .ok (.bipush 16, 2) := by decide +kernel
theorem dX2_isCutOff_25 : decode cX2_isCutOff 25 = .ok (.iload_n 1, 1) := by decide +kernel
theorem dX2_isCutOff_26 : decode cX2_isCutOff 26 = .ok (.imul, 1) := by decide +kernel
theorem dX2_isCutOff_27 : decode cX2_isCutOff 27 = .ok (.iload_n 2, 1) := by decide +kernel
theorem dX2_isCutOff_28 : decode cX2_isCutOff 28 = .ok (.iadd, 1) := by decide +kernel
theorem dX2_isCutOff_29 : decode cX2_isCutOff 29 = .ok (.iaload, 1) := by decide +kernel
theorem dX2_isCutOff_30 : decode cX2_isCutOff 30 = .ok (.if_icmp .lt 7, 3) := by decide +kernel
theorem dX2_isCutOff_33 : decode cX2_isCutOff 33 = .ok (.iconst 1, 1) := by decide +kernel
theorem dX2_isCutOff_34 : decode cX2_isCutOff 34 = .ok (.goto 4, 3) := by decide +kernel
theorem dX2_isCutOff_37 : decode cX2_isCutOff 37 = .ok (.iconst 0, 1) := by decide +kernel
theorem dX2_isCutOff_38 : decode cX2_isCutOff 38 = .ok (.ireturn, 1) := by decide +kernel
theorem dX2_look_0 : decode cX2_look 0 = .ok (.iload_n 1, 1) := by decide +kernel
theorem dX2_look_1 : decode cX2_look 1 = .ok (.tableswitch 111 0 7 #[47, 52, 57, 70, 83, 96, 101, 106], 47) := by decide +kernel
theorem dX2_look_48 : decode cX2_look 48 = .ok (.aload_n 0, 1) := by decide +kernel
theorem dX2_look_49 : decode cX2_look 49 = .ok (.getfield 39, 3) := by decide +kernel
theorem dX2_look_52 : decode cX2_look 52 = .ok (.ireturn, 1) := by decide +kernel
theorem dX2_look_53 : decode cX2_look 53 = .ok (.aload_n 0, 1) := by decide +kernel
theorem dX2_look_54 : decode cX2_look 54 = .ok (.invokevirtual 43, 3) := by decide +kernel
theorem dX2_look_57 : decode cX2_look 57 = .ok (.ireturn, 1) := by decide +kernel
theorem dX2_look_58 : decode cX2_look 58 = .ok (.aload_n 0, 1) := by decide +kernel
theorem dX2_look_59 : decode cX2_look 59 = .ok (.invokevirtual 67, 3) := by decide +kernel
theorem dX2_look_62 : decode cX2_look 62 = .ok (.ifCond .eq 7, 3) := by decide +kernel
theorem dX2_look_65 : decode cX2_look 65 = .ok (.iconst 1, 1) := by decide +kernel
theorem dX2_look_66 : decode cX2_look 66 = .ok (.goto 4, 3) := by decide +kernel
theorem dX2_look_69 : decode cX2_look 69 = .ok (.iconst 0, 1) := by decide +kernel
theorem dX2_look_70 : decode cX2_look 70 = .ok (.ireturn, 1) := by decide +kernel
theorem dX2_look_71 : decode cX2_look 71 = .ok (.aload_n 0, 1) := by decide +kernel
theorem dX2_look_72 : decode cX2_look 72 = .ok (.invokevirtual 52, 3) := by decide +kernel
theorem dX2_look_75 : decode cX2_look 75 = .ok (.ifCond .eq 7, 3) := by decide +kernel
theorem dX2_look_78 : decode cX2_look 78 = .ok (.iconst 1, 1) := by decide +kernel
theorem dX2_look_79 : decode cX2_look 79 = .ok (.goto 4, 3) := by decide +kernel
theorem dX2_look_82 : decode cX2_look 82 = .ok (.iconst 0, 1) := by decide +kernel
theorem dX2_look_83 : decode cX2_look 83 = .ok (.ireturn, 1) := by decide +kernel
theorem dX2_look_84 : decode cX2_look 84 = .ok (.aload_n 0, 1) := by decide +kernel
theorem dX2_look_85 : decode cX2_look 85 = .ok (.invokevirtual 64, 3) := by decide +kernel
theorem dX2_look_88 : decode cX2_look 88 = .ok (.ifCond .eq 7, 3) := by decide +kernel
theorem dX2_look_91 : decode cX2_look 91 = .ok (.iconst 1, 1) := by decide +kernel
theorem dX2_look_92 : decode cX2_look 92 = .ok (.goto 4, 3) := by decide +kernel
theorem dX2_look_95 : decode cX2_look 95 = .ok (.iconst 0, 1) := by decide +kernel
theorem dX2_look_96 : decode cX2_look 96 = .ok (.ireturn, 1) := by decide +kernel
theorem dX2_look_97 : decode cX2_look 97 = .ok (.aload_n 0, 1) := by decide +kernel
theorem dX2_look_98 : decode cX2_look 98 = .ok (.getfield 28, 3) := by decide +kernel
theorem dX2_look_101 : decode cX2_look 101 = .ok (.ireturn, 1) := by decide +kernel
theorem dX2_look_102 : decode cX2_look 102 = .ok (.aload_n 0, 1) := by decide +kernel
theorem dX2_look_103 : decode cX2_look 103 = .ok (.invokevirtual 73, 3) := by decide +kernel
theorem dX2_look_106 : decode cX2_look 106 = .ok (.ireturn, 1) := by decide +kernel
theorem dX2_look_107 : decode cX2_look 107 = .ok (.aload_n 0, 1) := by decide +kernel
theorem dX2_look_108 : decode cX2_look 108 = .ok (.invokevirtual 76, 3) := by decide +kernel
theorem dX2_look_111 : decode cX2_look 111 = .ok (.ireturn, 1) := by decide +kernel
theorem dX2_look_112 : decode cX2_look 112 = .ok (.iconst (-1), 1) := by decide +kernel
theorem dX2_look_113 : decode cX2_look 113 = .ok (.ireturn, 1) := by decide +kernel
theorem dX2_going_0 : decode cX2_going 0 = .ok (.iconst 0, 1) := by decide +kernel
theorem dX2_going_1 : decode cX2_going 1 = .ok (.istore_n 1, 1) := by decide +kernel
theorem dX2_going_2 : decode cX2_going 2 = .ok (.iconst 0, 1) := by decide +kernel
theorem dX2_going_3 : decode cX2_going 3 = .ok (.istore_n 2, 1) := by decide +kernel
theorem dX2_going_4 : decode cX2_going 4 = .ok (.iload_n 2, 1) := by decide +kernel
theorem dX2_going_5 : decode cX2_going 5 = .ok (.bipush 8, 2) := by decide +kernel
theorem dX2_going_7 : decode cX2_going 7 = .ok (.if_icmp .ge 23, 3) := by decide +kernel
theorem dX2_going_10 : decode cX2_going 10 = .ok (.aload_n 0, 1) := by decide +kernel
theorem dX2_going_11 : decode cX2_going 11 = .ok (.iload_n 2, 1) := by decide +kernel
theorem dX2_going_12 : decode cX2_going 12 = .ok (.invokevirtual 79, 3) := by decide +kernel
theorem dX2_going_15 : decode cX2_going 15 = .ok (.ifCond .eq 9, 3) := by decide +kernel
theorem dX2_going_18 : decode cX2_going 18 = .ok (.iload_n 1, 1) := by decide +kernel
theorem dX2_going_19 : decode cX2_going 19 = .ok (.iconst 1, 1) := by decide +kernel
theorem dX2_going_20 : decode cX2_going 20 = .ok (.iload_n 2, 1) := by decide +kernel
theorem dX2_going_21 : decode cX2_going 21 = .ok (.ishl, 1) := by decide +kernel
theorem dX2_going_22 : decode cX2_going 22 = .ok (.ior, 1) := by decide +kernel
theorem dX2_going_23 : decode cX2_going 23 = .ok (.istore_n 1, 1) := by decide +kernel
theorem dX2_going_24 : decode cX2_going 24 = .ok (.iinc 2 1, 3) := by decide +kernel
theorem dX2_going_27 : decode cX2_going 27 = .ok (.goto (-23), 3) := by decide +kernel
theorem dX2_going_30 : decode cX2_going 30 = .ok (.iload_n 1, 1) := by decide +kernel
theorem dX2_going_31 : decode cX2_going 31 = .ok (.ireturn, 1) := by decide +kernel
theorem dX2_branches_0 : decode cX2_branches 0 = .ok (.iconst 0, 1) := by decide +kernel
theorem dX2_branches_1 : decode cX2_branches 1 = .ok (.istore_n 1, 1) := by decide +kernel
theorem dX2_branches_2 : decode cX2_branches 2 = .ok (.iconst 0, 1) := by decide +kernel
theorem dX2_branches_3 : decode cX2_branches 3 = .ok (.istore_n 2, 1) := by decide +kernel
theorem dX2_branches_4 : decode cX2_branches 4 = .ok (.iload_n 2, 1) := by decide +kernel
theorem dX2_branches_5 : decode cX2_branches 5 = .ok (.sipush 136, 3) := by decide +kernel
theorem dX2_branches_8 : decode cX2_branches 8 = .ok (.if_icmp .ge 34, 3) := by decide +kernel
theorem dX2_branches_11 : decode cX2_branches 11 = .ok (.iload_n 1, 1) := by decide +kernel
theorem dX2_branches_12 : decode cX2_branches 12 = .ok (.aload_n 0, 1) := by decide +kernel
theorem dX2_branches_13 : decode cX2_branches 13 = .ok (.iload_n 2, 1) := by decide +kernel
theorem dX2_branches_14 : decode cX2_branches 14 = .ok (.bipush 17, 2) := by decide +kernel
theorem dX2_branches_16 : decode cX2_branches 16 = .ok (.idiv, 1) := by decide +kernel
theorem dX2_branches_17 : decode cX2_branches 17 = .ok (.iload_n 2, 1) := by decide +kernel
theorem dX2_branches_18 : decode cX2_branches 18 = .ok (.bipush 17, 2) := by decide +kernel
theorem dX2_branches_20 : decode cX2_branches 20 = .ok (.irem, 1) := by decide +kernel
theorem dX2_branches_21 : decode cX2_branches 21 = .ok (.iconst 1, 1) := by decide +kernel
theorem dX2_branches_22 : decode cX2_branches 22 = .ok (.isub, 1) := by decide +kernel
theorem dX2_branches_23 : decode cX2_branches 23 = .ok (.invokevirtual 60, 3) := by decide +kernel
theorem dX2_branches_26 : decode cX2_branches 26 = .ok (.ifCond .le 7, 3) := by decide +kernel
theorem dX2_branches_29 : decode cX2_branches 29 = .ok (.iconst 1, 1) := by decide +kernel
theorem dX2_branches_30 : decode cX2_branches 30 = .ok (.goto 4, 3) := by decide +kernel
theorem dX2_branches_33 : decode cX2_branches 33 = .ok (.iconst 0, 1) := by decide +kernel
theorem dX2_branches_34 : decode cX2_branches 34 = .ok (.iadd, 1) := by decide +kernel
theorem dX2_branches_35 : decode cX2_branches 35 = .ok (.istore_n 1, 1) := by decide +kernel
theorem dX2_branches_36 : decode cX2_branches 36 = .ok (.iinc 2 1, 3) := by decide +kernel
theorem dX2_branches_39 : decode cX2_branches 39 = .ok (.goto (-35), 3) := by decide +kernel
theorem dX2_branches_42 : decode cX2_branches 42 = .ok (.iload_n 1, 1) := by decide +kernel
theorem dX2_branches_43 : decode cX2_branches 43 = .ok (.ireturn, 1) := by decide +kernel
end
section
set_option maxRecDepth 100000
theorem dX0_cell_0 : decode cX0_cell 0 = .ok (.iload_n 1, 1) := by decide +kernel
theorem dX0_cell_1 : decode cX0_cell 1 = .ok (.aload_n 0, 1) := by decide +kernel
theorem dX0_cell_2 : decode cX0_cell 2 = .ok (.arraylength, 1) := by decide +kernel
theorem dX0_cell_3 : decode cX0_cell 3 = .ok (.if_icmp .ge 9, 3) := by decide +kernel
theorem dX0_cell_6 : decode cX0_cell 6 = .ok (.aload_n 0, 1) := by decide +kernel
theorem dX0_cell_7 : decode cX0_cell 7 = .ok (.iload_n 1, 1) := by decide +kernel
theorem dX0_cell_8 : decode cX0_cell 8 = .ok (.iaload, 1) := by decide +kernel
theorem dX0_cell_9 : decode cX0_cell 9 = .ok (.goto 4, 3) := by decide +kernel
theorem dX0_cell_12 : decode cX0_cell 12 = .ok (.iconst 0, 1) := by decide +kernel
theorem dX0_cell_13 : decode cX0_cell 13 = .ok (.ireturn, 1) := by decide +kernel
theorem dL_law_0 : decode cL_law 0 = .ok (.new 7, 3) := by decide +kernel
theorem dL_law_3 : decode cL_law 3 = .ok (.dup, 1) := by decide +kernel
theorem dL_law_4 : decode cL_law 4 = .ok (.aload_n 0, 1) := by decide +kernel
theorem dL_law_5 : decode cL_law 5 = .ok (.iconst 0, 1) := by decide +kernel
theorem dL_law_6 : decode cL_law 6 = .ok (.invokestatic 9, 3) := by decide +kernel
theorem dL_law_9 : decode cL_law 9 = .ok (.invokespecial 15, 3) := by decide +kernel
theorem dL_law_12 : decode cL_law 12 = .ok (.astore_n 1, 1) := by decide +kernel
theorem dL_law_13 : decode cL_law 13 = .ok (.new 18, 3) := by decide +kernel
theorem dL_law_16 : decode cL_law 16 = .ok (.dup, 1) := by decide +kernel
theorem dL_law_17 : decode cL_law 17 = .ok (.aload_n 0, 1) := by decide +kernel
theorem dL_law_18 : decode cL_law 18 = .ok (.iconst 0, 1) := by decide +kernel
theorem dL_law_19 : decode cL_law 19 = .ok (.invokestatic 9, 3) := by decide +kernel
theorem dL_law_22 : decode cL_law 22 = .ok (.invokespecial 20, 3) := by decide +kernel
theorem dL_law_25 : decode cL_law 25 = .ok (.astore_n 2, 1) := by decide +kernel
theorem dL_law_26 : decode cL_law 26 = .ok (.iconst 1, 1) := by decide +kernel
theorem dL_law_27 : decode cL_law 27 = .ok (.istore_n 3, 1) := by decide +kernel
theorem dL_law_28 : decode cL_law 28 = .ok (.iload_n 3, 1) := by decide +kernel
theorem dL_law_29 : decode cL_law 29 = .ok (.aload_n 0, 1) := by decide +kernel
theorem dL_law_30 : decode cL_law 30 = .ok (.arraylength, 1) := by decide +kernel
theorem dL_law_31 : decode cL_law 31 = .ok (.iconst 4, 1) := by decide +kernel
theorem dL_law_32 : decode cL_law 32 = .ok (.isub, 1) := by decide +kernel
theorem dL_law_33 : decode cL_law 33 = .ok (.if_icmp .gt 391, 3) := by decide +kernel
theorem dL_law_36 : decode cL_law 36 = .ok (.aload_n 0, 1) := by decide +kernel
theorem dL_law_37 : decode cL_law 37 = .ok (.iload_n 3, 1) := by decide +kernel
theorem dL_law_38 : decode cL_law 38 = .ok (.iaload, 1) := by decide +kernel
theorem dL_law_39 : decode cL_law 39 = .ok (.bipush 15, 2) := by decide +kernel
theorem dL_law_41 : decode cL_law 41 = .ok (.iand, 1) := by decide +kernel
theorem dL_law_42 : decode cL_law 42 = .ok (.tableswitch 376 0 11 #[62, 85, 108, 131, 154, 197, 230, 241, 274, 307, 330, 353], 62) := by decide +kernel
theorem dL_law_104 : decode cL_law 104 = .ok (.aload_n 1, 1) := by decide +kernel
theorem dL_law_105 : decode cL_law 105 = .ok (.aload_n 0, 1) := by decide +kernel
theorem dL_law_106 : decode cL_law 106 = .ok (.iload_n 3, 1) := by decide +kernel
theorem dL_law_107 : decode cL_law 107 = .ok (.iconst 1, 1) := by decide +kernel
theorem dL_law_108 : decode cL_law 108 = .ok (.iadd, 1) := by decide +kernel
theorem dL_law_109 : decode cL_law 109 = .ok (.iaload, 1) := by decide +kernel
theorem dL_law_110 : decode cL_law 110 = .ok (.invokevirtual 21, 3) := by decide +kernel
theorem dL_law_113 : decode cL_law 113 = .ok (.aload_n 2, 1) := by decide +kernel
theorem dL_law_114 : decode cL_law 114 = .ok (.aload_n 0, 1) := by decide +kernel
theorem dL_law_115 : decode cL_law 115 = .ok (.iload_n 3, 1) := by decide +kernel
theorem dL_law_116 : decode cL_law 116 = .ok (.iconst 1, 1) := by decide +kernel
theorem dL_law_117 : decode cL_law 117 = .ok (.iadd, 1) := by decide +kernel
theorem dL_law_118 : decode cL_law 118 = .ok (.iaload, 1) := by decide +kernel
theorem dL_law_119 : decode cL_law 119 = .ok (.invokevirtual 25, 3) := by decide +kernel
theorem dL_law_122 : decode cL_law 122 = .ok (.if_icmp .eq 296, 3) := by decide +kernel
theorem dL_law_125 : decode cL_law 125 = .ok (.iconst 0, 1) := by decide +kernel
theorem dL_law_126 : decode cL_law 126 = .ok (.ireturn, 1) := by decide +kernel
theorem dL_law_127 : decode cL_law 127 = .ok (.aload_n 1, 1) := by decide +kernel
theorem dL_law_128 : decode cL_law 128 = .ok (.aload_n 0, 1) := by decide +kernel
theorem dL_law_129 : decode cL_law 129 = .ok (.iload_n 3, 1) := by decide +kernel
theorem dL_law_130 : decode cL_law 130 = .ok (.iconst 1, 1) := by decide +kernel
theorem dL_law_131 : decode cL_law 131 = .ok (.iadd, 1) := by decide +kernel
theorem dL_law_132 : decode cL_law 132 = .ok (.iaload, 1) := by decide +kernel
theorem dL_law_133 : decode cL_law 133 = .ok (.invokevirtual 26, 3) := by decide +kernel
theorem dL_law_136 : decode cL_law 136 = .ok (.aload_n 2, 1) := by decide +kernel
theorem dL_law_137 : decode cL_law 137 = .ok (.aload_n 0, 1) := by decide +kernel
theorem dL_law_138 : decode cL_law 138 = .ok (.iload_n 3, 1) := by decide +kernel
theorem dL_law_139 : decode cL_law 139 = .ok (.iconst 1, 1) := by decide +kernel
theorem dL_law_140 : decode cL_law 140 = .ok (.iadd, 1) := by decide +kernel
theorem dL_law_141 : decode cL_law 141 = .ok (.iaload, 1) := by decide +kernel
theorem dL_law_142 : decode cL_law 142 = .ok (.invokevirtual 30, 3) := by decide +kernel
theorem dL_law_145 : decode cL_law 145 = .ok (.if_icmp .eq 273, 3) := by decide +kernel
theorem dL_law_148 : decode cL_law 148 = .ok (.iconst 0, 1) := by decide +kernel
theorem dL_law_149 : decode cL_law 149 = .ok (.ireturn, 1) := by decide +kernel
theorem dL_law_150 : decode cL_law 150 = .ok (.aload_n 1, 1) := by decide +kernel
theorem dL_law_151 : decode cL_law 151 = .ok (.aload_n 0, 1) := by decide +kernel
theorem dL_law_152 : decode cL_law 152 = .ok (.iload_n 3, 1) := by decide +kernel
theorem dL_law_153 : decode cL_law 153 = .ok (.iconst 1, 1) := by decide +kernel
theorem dL_law_154 : decode cL_law 154 = .ok (.iadd, 1) := by decide +kernel
theorem dL_law_155 : decode cL_law 155 = .ok (.iaload, 1) := by decide +kernel
theorem dL_law_156 : decode cL_law 156 = .ok (.invokevirtual 31, 3) := by decide +kernel
theorem dL_law_159 : decode cL_law 159 = .ok (.aload_n 2, 1) := by decide +kernel
theorem dL_law_160 : decode cL_law 160 = .ok (.aload_n 0, 1) := by decide +kernel
theorem dL_law_161 : decode cL_law 161 = .ok (.iload_n 3, 1) := by decide +kernel
theorem dL_law_162 : decode cL_law 162 = .ok (.iconst 1, 1) := by decide +kernel
theorem dL_law_163 : decode cL_law 163 = .ok (.iadd, 1) := by decide +kernel
theorem dL_law_164 : decode cL_law 164 = .ok (.iaload, 1) := by decide +kernel
theorem dL_law_165 : decode cL_law 165 = .ok (.invokevirtual 34, 3) := by decide +kernel
theorem dL_law_168 : decode cL_law 168 = .ok (.if_icmp .eq 250, 3) := by decide +kernel
theorem dL_law_171 : decode cL_law 171 = .ok (.iconst 0, 1) := by decide +kernel
theorem dL_law_172 : decode cL_law 172 = .ok (.ireturn, 1) := by decide +kernel
theorem dL_law_173 : decode cL_law 173 = .ok (.aload_n 1, 1) := by decide +kernel
theorem dL_law_174 : decode cL_law 174 = .ok (.aload_n 0, 1) := by decide +kernel
theorem dL_law_175 : decode cL_law 175 = .ok (.iload_n 3, 1) := by decide +kernel
theorem dL_law_176 : decode cL_law 176 = .ok (.iconst 1, 1) := by decide +kernel
theorem dL_law_177 : decode cL_law 177 = .ok (.iadd, 1) := by decide +kernel
theorem dL_law_178 : decode cL_law 178 = .ok (.iaload, 1) := by decide +kernel
theorem dL_law_179 : decode cL_law 179 = .ok (.invokevirtual 35, 3) := by decide +kernel
theorem dL_law_182 : decode cL_law 182 = .ok (.aload_n 2, 1) := by decide +kernel
theorem dL_law_183 : decode cL_law 183 = .ok (.aload_n 0, 1) := by decide +kernel
theorem dL_law_184 : decode cL_law 184 = .ok (.iload_n 3, 1) := by decide +kernel
theorem dL_law_185 : decode cL_law 185 = .ok (.iconst 1, 1) := by decide +kernel
theorem dL_law_186 : decode cL_law 186 = .ok (.iadd, 1) := by decide +kernel
theorem dL_law_187 : decode cL_law 187 = .ok (.iaload, 1) := by decide +kernel
theorem dL_law_188 : decode cL_law 188 = .ok (.invokevirtual 38, 3) := by decide +kernel
theorem dL_law_191 : decode cL_law 191 = .ok (.if_icmp .eq 227, 3) := by decide +kernel
theorem dL_law_194 : decode cL_law 194 = .ok (.iconst 0, 1) := by decide +kernel
theorem dL_law_195 : decode cL_law 195 = .ok (.ireturn, 1) := by decide +kernel
theorem dL_law_196 : decode cL_law 196 = .ok (.aload_n 1, 1) := by decide +kernel
theorem dL_law_197 : decode cL_law 197 = .ok (.aload_n 0, 1) := by decide +kernel
theorem dL_law_198 : decode cL_law 198 = .ok (.iload_n 3, 1) := by decide +kernel
theorem dL_law_199 : decode cL_law 199 = .ok (.iconst 1, 1) := by decide +kernel
theorem dL_law_200 : decode cL_law 200 = .ok (.iadd, 1) := by decide +kernel
theorem dL_law_201 : decode cL_law 201 = .ok (.iaload, 1) := by decide +kernel
theorem dL_law_202 : decode cL_law 202 = .ok (.aload_n 0, 1) := by decide +kernel
theorem dL_law_203 : decode cL_law 203 = .ok (.iload_n 3, 1) := by decide +kernel
theorem dL_law_204 : decode cL_law 204 = .ok (.iconst 2, 1) := by decide +kernel
theorem dL_law_205 : decode cL_law 205 = .ok (.iadd, 1) := by decide +kernel
theorem dL_law_206 : decode cL_law 206 = .ok (.iaload, 1) := by decide +kernel
theorem dL_law_207 : decode cL_law 207 = .ok (.aload_n 0, 1) := by decide +kernel
theorem dL_law_208 : decode cL_law 208 = .ok (.iload_n 3, 1) := by decide +kernel
theorem dL_law_209 : decode cL_law 209 = .ok (.iconst 3, 1) := by decide +kernel
theorem dL_law_210 : decode cL_law 210 = .ok (.iadd, 1) := by decide +kernel
theorem dL_law_211 : decode cL_law 211 = .ok (.iaload, 1) := by decide +kernel
theorem dL_law_212 : decode cL_law 212 = .ok (.invokevirtual 39, 3) := by decide +kernel
theorem dL_law_215 : decode cL_law 215 = .ok (.aload_n 2, 1) := by decide +kernel
theorem dL_law_216 : decode cL_law 216 = .ok (.aload_n 0, 1) := by decide +kernel
theorem dL_law_217 : decode cL_law 217 = .ok (.iload_n 3, 1) := by decide +kernel
theorem dL_law_218 : decode cL_law 218 = .ok (.iconst 1, 1) := by decide +kernel
theorem dL_law_219 : decode cL_law 219 = .ok (.iadd, 1) := by decide +kernel
theorem dL_law_220 : decode cL_law 220 = .ok (.iaload, 1) := by decide +kernel
theorem dL_law_221 : decode cL_law 221 = .ok (.aload_n 0, 1) := by decide +kernel
theorem dL_law_222 : decode cL_law 222 = .ok (.iload_n 3, 1) := by decide +kernel
theorem dL_law_223 : decode cL_law 223 = .ok (.iconst 2, 1) := by decide +kernel
theorem dL_law_224 : decode cL_law 224 = .ok (.iadd, 1) := by decide +kernel
theorem dL_law_225 : decode cL_law 225 = .ok (.iaload, 1) := by decide +kernel
theorem dL_law_226 : decode cL_law 226 = .ok (.aload_n 0, 1) := by decide +kernel
theorem dL_law_227 : decode cL_law 227 = .ok (.iload_n 3, 1) := by decide +kernel
theorem dL_law_228 : decode cL_law 228 = .ok (.iconst 3, 1) := by decide +kernel
theorem dL_law_229 : decode cL_law 229 = .ok (.iadd, 1) := by decide +kernel
theorem dL_law_230 : decode cL_law 230 = .ok (.iaload, 1) := by decide +kernel
theorem dL_law_231 : decode cL_law 231 = .ok (.invokevirtual 43, 3) := by decide +kernel
theorem dL_law_234 : decode cL_law 234 = .ok (.if_icmp .eq 184, 3) := by decide +kernel
theorem dL_law_237 : decode cL_law 237 = .ok (.iconst 0, 1) := by decide +kernel
theorem dL_law_238 : decode cL_law 238 = .ok (.ireturn, 1) := by decide +kernel
theorem dL_law_239 : decode cL_law 239 = .ok (.aload_n 1, 1) := by decide +kernel
theorem dL_law_240 : decode cL_law 240 = .ok (.aload_n 0, 1) := by decide +kernel
theorem dL_law_241 : decode cL_law 241 = .ok (.iload_n 3, 1) := by decide +kernel
theorem dL_law_242 : decode cL_law 242 = .ok (.iconst 1, 1) := by decide +kernel
theorem dL_law_243 : decode cL_law 243 = .ok (.iadd, 1) := by decide +kernel
theorem dL_law_244 : decode cL_law 244 = .ok (.iaload, 1) := by decide +kernel
theorem dL_law_245 : decode cL_law 245 = .ok (.aload_n 0, 1) := by decide +kernel
theorem dL_law_246 : decode cL_law 246 = .ok (.iload_n 3, 1) := by decide +kernel
theorem dL_law_247 : decode cL_law 247 = .ok (.iconst 2, 1) := by decide +kernel
theorem dL_law_248 : decode cL_law 248 = .ok (.iadd, 1) := by decide +kernel
theorem dL_law_249 : decode cL_law 249 = .ok (.iaload, 1) := by decide +kernel
theorem dL_law_250 : decode cL_law 250 = .ok (.invokevirtual 44, 3) := by decide +kernel
theorem dL_law_253 : decode cL_law 253 = .ok (.aload_n 2, 1) := by decide +kernel
theorem dL_law_254 : decode cL_law 254 = .ok (.aload_n 0, 1) := by decide +kernel
theorem dL_law_255 : decode cL_law 255 = .ok (.iload_n 3, 1) := by decide +kernel
theorem dL_law_256 : decode cL_law 256 = .ok (.iconst 1, 1) := by decide +kernel
theorem dL_law_257 : decode cL_law 257 = .ok (.iadd, 1) := by decide +kernel
theorem dL_law_258 : decode cL_law 258 = .ok (.iaload, 1) := by decide +kernel
theorem dL_law_259 : decode cL_law 259 = .ok (.aload_n 0, 1) := by decide +kernel
theorem dL_law_260 : decode cL_law 260 = .ok (.iload_n 3, 1) := by decide +kernel
theorem dL_law_261 : decode cL_law 261 = .ok (.iconst 2, 1) := by decide +kernel
theorem dL_law_262 : decode cL_law 262 = .ok (.iadd, 1) := by decide +kernel
theorem dL_law_263 : decode cL_law 263 = .ok (.iaload, 1) := by decide +kernel
theorem dL_law_264 : decode cL_law 264 = .ok (.invokevirtual 48, 3) := by decide +kernel
theorem dL_law_267 : decode cL_law 267 = .ok (.if_icmp .eq 151, 3) := by decide +kernel
theorem dL_law_270 : decode cL_law 270 = .ok (.iconst 0, 1) := by decide +kernel
theorem dL_law_271 : decode cL_law 271 = .ok (.ireturn, 1) := by decide +kernel
theorem dL_law_272 : decode cL_law 272 = .ok (.aload_n 1, 1) := by decide +kernel
theorem dL_law_273 : decode cL_law 273 = .ok (.invokevirtual 49, 3) := by decide +kernel
theorem dL_law_276 : decode cL_law 276 = .ok (.aload_n 2, 1) := by decide +kernel
theorem dL_law_277 : decode cL_law 277 = .ok (.invokevirtual 52, 3) := by decide +kernel
theorem dL_law_280 : decode cL_law 280 = .ok (.goto 138, 3) := by decide +kernel
theorem dL_law_283 : decode cL_law 283 = .ok (.aload_n 1, 1) := by decide +kernel
theorem dL_law_284 : decode cL_law 284 = .ok (.aload_n 0, 1) := by decide +kernel
theorem dL_law_285 : decode cL_law 285 = .ok (.iload_n 3, 1) := by decide +kernel
theorem dL_law_286 : decode cL_law 286 = .ok (.iconst 1, 1) := by decide +kernel
theorem dL_law_287 : decode cL_law 287 = .ok (.iadd, 1) := by decide +kernel
theorem dL_law_288 : decode cL_law 288 = .ok (.iaload, 1) := by decide +kernel
theorem dL_law_289 : decode cL_law 289 = .ok (.aload_n 0, 1) := by decide +kernel
theorem dL_law_290 : decode cL_law 290 = .ok (.iload_n 3, 1) := by decide +kernel
theorem dL_law_291 : decode cL_law 291 = .ok (.iconst 2, 1) := by decide +kernel
theorem dL_law_292 : decode cL_law 292 = .ok (.iadd, 1) := by decide +kernel
theorem dL_law_293 : decode cL_law 293 = .ok (.iaload, 1) := by decide +kernel
theorem dL_law_294 : decode cL_law 294 = .ok (.invokevirtual 53, 3) := by decide +kernel
theorem dL_law_297 : decode cL_law 297 = .ok (.aload_n 2, 1) := by decide +kernel
theorem dL_law_298 : decode cL_law 298 = .ok (.aload_n 0, 1) := by decide +kernel
theorem dL_law_299 : decode cL_law 299 = .ok (.iload_n 3, 1) := by decide +kernel
theorem dL_law_300 : decode cL_law 300 = .ok (.iconst 1, 1) := by decide +kernel
theorem dL_law_301 : decode cL_law 301 = .ok (.iadd, 1) := by decide +kernel
theorem dL_law_302 : decode cL_law 302 = .ok (.iaload, 1) := by decide +kernel
theorem dL_law_303 : decode cL_law 303 = .ok (.aload_n 0, 1) := by decide +kernel
theorem dL_law_304 : decode cL_law 304 = .ok (.iload_n 3, 1) := by decide +kernel
theorem dL_law_305 : decode cL_law 305 = .ok (.iconst 2, 1) := by decide +kernel
theorem dL_law_306 : decode cL_law 306 = .ok (.iadd, 1) := by decide +kernel
theorem dL_law_307 : decode cL_law 307 = .ok (.iaload, 1) := by decide +kernel
theorem dL_law_308 : decode cL_law 308 = .ok (.invokevirtual 57, 3) := by decide +kernel
theorem dL_law_311 : decode cL_law 311 = .ok (.if_icmp .eq 107, 3) := by decide +kernel
theorem dL_law_314 : decode cL_law 314 = .ok (.iconst 0, 1) := by decide +kernel
theorem dL_law_315 : decode cL_law 315 = .ok (.ireturn, 1) := by decide +kernel
theorem dL_law_316 : decode cL_law 316 = .ok (.aload_n 1, 1) := by decide +kernel
theorem dL_law_317 : decode cL_law 317 = .ok (.aload_n 0, 1) := by decide +kernel
theorem dL_law_318 : decode cL_law 318 = .ok (.iload_n 3, 1) := by decide +kernel
theorem dL_law_319 : decode cL_law 319 = .ok (.iconst 1, 1) := by decide +kernel
theorem dL_law_320 : decode cL_law 320 = .ok (.iadd, 1) := by decide +kernel
theorem dL_law_321 : decode cL_law 321 = .ok (.iaload, 1) := by decide +kernel
theorem dL_law_322 : decode cL_law 322 = .ok (.aload_n 0, 1) := by decide +kernel
theorem dL_law_323 : decode cL_law 323 = .ok (.iload_n 3, 1) := by decide +kernel
theorem dL_law_324 : decode cL_law 324 = .ok (.iconst 2, 1) := by decide +kernel
theorem dL_law_325 : decode cL_law 325 = .ok (.iadd, 1) := by decide +kernel
theorem dL_law_326 : decode cL_law 326 = .ok (.iaload, 1) := by decide +kernel
theorem dL_law_327 : decode cL_law 327 = .ok (.invokevirtual 58, 3) := by decide +kernel
theorem dL_law_330 : decode cL_law 330 = .ok (.aload_n 2, 1) := by decide +kernel
theorem dL_law_331 : decode cL_law 331 = .ok (.aload_n 0, 1) := by decide +kernel
theorem dL_law_332 : decode cL_law 332 = .ok (.iload_n 3, 1) := by decide +kernel
theorem dL_law_333 : decode cL_law 333 = .ok (.iconst 1, 1) := by decide +kernel
theorem dL_law_334 : decode cL_law 334 = .ok (.iadd, 1) := by decide +kernel
theorem dL_law_335 : decode cL_law 335 = .ok (.iaload, 1) := by decide +kernel
theorem dL_law_336 : decode cL_law 336 = .ok (.aload_n 0, 1) := by decide +kernel
theorem dL_law_337 : decode cL_law 337 = .ok (.iload_n 3, 1) := by decide +kernel
theorem dL_law_338 : decode cL_law 338 = .ok (.iconst 2, 1) := by decide +kernel
theorem dL_law_339 : decode cL_law 339 = .ok (.iadd, 1) := by decide +kernel
theorem dL_law_340 : decode cL_law 340 = .ok (.iaload, 1) := by decide +kernel
theorem dL_law_341 : decode cL_law 341 = .ok (.invokevirtual 61, 3) := by decide +kernel
theorem dL_law_344 : decode cL_law 344 = .ok (.if_icmp .eq 74, 3) := by decide +kernel
theorem dL_law_347 : decode cL_law 347 = .ok (.iconst 0, 1) := by decide +kernel
theorem dL_law_348 : decode cL_law 348 = .ok (.ireturn, 1) := by decide +kernel
theorem dL_law_349 : decode cL_law 349 = .ok (.aload_n 1, 1) := by decide +kernel
theorem dL_law_350 : decode cL_law 350 = .ok (.aload_n 0, 1) := by decide +kernel
theorem dL_law_351 : decode cL_law 351 = .ok (.iload_n 3, 1) := by decide +kernel
theorem dL_law_352 : decode cL_law 352 = .ok (.iconst 1, 1) := by decide +kernel
theorem dL_law_353 : decode cL_law 353 = .ok (.iadd, 1) := by decide +kernel
theorem dL_law_354 : decode cL_law 354 = .ok (.iaload, 1) := by decide +kernel
theorem dL_law_355 : decode cL_law 355 = .ok (.invokevirtual 62, 3) := by decide +kernel
theorem dL_law_358 : decode cL_law 358 = .ok (.aload_n 2, 1) := by decide +kernel
theorem dL_law_359 : decode cL_law 359 = .ok (.aload_n 0, 1) := by decide +kernel
theorem dL_law_360 : decode cL_law 360 = .ok (.iload_n 3, 1) := by decide +kernel
theorem dL_law_361 : decode cL_law 361 = .ok (.iconst 1, 1) := by decide +kernel
theorem dL_law_362 : decode cL_law 362 = .ok (.iadd, 1) := by decide +kernel
theorem dL_law_363 : decode cL_law 363 = .ok (.iaload, 1) := by decide +kernel
theorem dL_law_364 : decode cL_law 364 = .ok (.invokevirtual 65, 3) := by decide +kernel
theorem dL_law_367 : decode cL_law 367 = .ok (.if_icmp .eq 51, 3) := by decide +kernel
theorem dL_law_370 : decode cL_law 370 = .ok (.iconst 0, 1) := by decide +kernel
theorem dL_law_371 : decode cL_law 371 = .ok (.ireturn, 1) := by decide +kernel
theorem dL_law_372 : decode cL_law 372 = .ok (.aload_n 1, 1) := by decide +kernel
theorem dL_law_373 : decode cL_law 373 = .ok (.aload_n 0, 1) := by decide +kernel
theorem dL_law_374 : decode cL_law 374 = .ok (.iload_n 3, 1) := by decide +kernel
theorem dL_law_375 : decode cL_law 375 = .ok (.iconst 1, 1) := by decide +kernel
theorem dL_law_376 : decode cL_law 376 = .ok (.iadd, 1) := by decide +kernel
theorem dL_law_377 : decode cL_law 377 = .ok (.iaload, 1) := by decide +kernel
theorem dL_law_378 : decode cL_law 378 = .ok (.invokevirtual 66, 3) := by decide +kernel
theorem dL_law_381 : decode cL_law 381 = .ok (.aload_n 2, 1) := by decide +kernel
theorem dL_law_382 : decode cL_law 382 = .ok (.aload_n 0, 1) := by decide +kernel
theorem dL_law_383 : decode cL_law 383 = .ok (.iload_n 3, 1) := by decide +kernel
theorem dL_law_384 : decode cL_law 384 = .ok (.iconst 1, 1) := by decide +kernel
theorem dL_law_385 : decode cL_law 385 = .ok (.iadd, 1) := by decide +kernel
theorem dL_law_386 : decode cL_law 386 = .ok (.iaload, 1) := by decide +kernel
theorem dL_law_387 : decode cL_law 387 = .ok (.invokevirtual 69, 3) := by decide +kernel
theorem dL_law_390 : decode cL_law 390 = .ok (.if_icmp .eq 28, 3) := by decide +kernel
theorem dL_law_393 : decode cL_law 393 = .ok (.iconst 0, 1) := by decide +kernel
theorem dL_law_394 : decode cL_law 394 = .ok (.ireturn, 1) := by decide +kernel
theorem dL_law_395 : decode cL_law 395 = .ok (.aload_n 1, 1) := by decide +kernel
theorem dL_law_396 : decode cL_law 396 = .ok (.aload_n 0, 1) := by decide +kernel
theorem dL_law_397 : decode cL_law 397 = .ok (.iload_n 3, 1) := by decide +kernel
theorem dL_law_398 : decode cL_law 398 = .ok (.iconst 1, 1) := by decide +kernel
theorem dL_law_399 : decode cL_law 399 = .ok (.iadd, 1) := by decide +kernel
theorem dL_law_400 : decode cL_law 400 = .ok (.iaload, 1) := by decide +kernel
theorem dL_law_401 : decode cL_law 401 = .ok (.invokevirtual 70, 3) := by decide +kernel
theorem dL_law_404 : decode cL_law 404 = .ok (.aload_n 2, 1) := by decide +kernel
theorem dL_law_405 : decode cL_law 405 = .ok (.aload_n 0, 1) := by decide +kernel
theorem dL_law_406 : decode cL_law 406 = .ok (.iload_n 3, 1) := by decide +kernel
theorem dL_law_407 : decode cL_law 407 = .ok (.iconst 1, 1) := by decide +kernel
theorem dL_law_408 : decode cL_law 408 = .ok (.iadd, 1) := by decide +kernel
theorem dL_law_409 : decode cL_law 409 = .ok (.iaload, 1) := by decide +kernel
theorem dL_law_410 : decode cL_law 410 = .ok (.invokevirtual 73, 3) := by decide +kernel
theorem dL_law_413 : decode cL_law 413 = .ok (.if_icmp .eq 5, 3) := by decide +kernel
theorem dL_law_416 : decode cL_law 416 = .ok (.iconst 0, 1) := by decide +kernel
theorem dL_law_417 : decode cL_law 417 = .ok (.ireturn, 1) := by decide +kernel
theorem dL_law_418 : decode cL_law 418 = .ok (.iinc 3 4, 3) := by decide +kernel
theorem dL_law_421 : decode cL_law 421 = .ok (.goto (-393), 3) := by decide +kernel
theorem dL_law_424 : decode cL_law 424 = .ok (.iconst 1, 1) := by decide +kernel
theorem dL_law_425 : decode cL_law 425 = .ok (.ireturn, 1) := by decide +kernel
end
section
/-! own rows: a contract's start and end, calls within one object, loops, a merged branch -/
abbrev vwCl : List vw_C := [(RX1, TX1, 6), (RX2, TX2, 8)]
/-- 0 or 1 -/
def bt_B (b : Bool) : Int32 := if b = true then 1 else 0
theorem bt_B0 {b : Bool} (h : bt_B b = 0) : b = false := by
  cases b with
  | false => rfl
  | true => exact absurd h (by decide)
theorem bt_B1 {b : Bool} (h : ¬ bt_B b = 0) : b = true := by
  cases b with
  | false => exact absurd (by decide) h
  | true => rfl
theorem bt_Bn (b : Bool) : narrow .boolean (.int (bt_B b)) = .int (bt_B b) := by cases b <;> rfl
/-- what a reading method asks -/
abbrev bt_RP (D : va_G) (tys : List (ClassId × FieldType)) (ws : va_W) : State → Prop := fun U => va_P D vwCl ws U.heap ∧ va_K D vwCl tys U
/-- what a writing method asks -/
abbrev bt_MP (D : va_G) (tys : List (ClassId × FieldType)) (w0 : va_W) (sz : Nat) : State → Prop := fun U => U.heap.size = sz ∧ va_P D vwCl w0 U.heap ∧ va_K D vwCl tys U ∧ va_D (fun _ => True) w0
/-- what a writing method leaves -/
abbrev bt_MB (D : va_G) (tys : List (ClassId × FieldType)) (w1 : va_W) (A : Nat → Prop) : Unit → State → Prop := fun _ t => va_P D vwCl w1 t.heap ∧ va_K D vwCl tys t ∧ va_D A w1
abbrev bt_Qi (r : Int32) (D : va_G) (tys : List (ClassId × FieldType)) (w1 : va_W) (A : Nat → Prop) : Array Value → State → Outcome → State → Prop := va_Qi (fun r' (_ : Unit) => r' = r) (bt_MB D tys w1 A) A
abbrev bt_Qv (D : va_G) (tys : List (ClassId × FieldType)) (w1 : va_W) (A : Nat → Prop) : Array Value → State → Outcome → State → Prop := va_Qv (fun (_ : Unit) => True) (bt_MB D tys w1 A) A
section BTA
variable {p : Program} {l : Launch} {e : Env} {R : Room} {s : State} {m : MethodId} {args : Array Value} {below : List Frame} {meth : Method} {c : Code} {H : Heap} {locs : List Loc} {cells slots : Nat} {Q : State → Prop}
variable {cc : ByteArray} {pc : Nat} {ls : Array Slot} {rest st : List Value} {D : va_G} {tys : List (ClassId × FieldType)} {A : Nat → Prop} {a : Nat} {ws : va_W} {H0 : Heap}
theorem bt_cut {g g2 : JFrame} (k : W p l e R s m args below meth c H locs cells slots Q g2) (h : W p l e R s m args below meth c H locs cells slots Q g2 → W p l e R s m args below meth c H locs cells slots Q g) : W p l e R s m args below meth c H locs cells slots Q g := h k
theorem bt_top {x y : Int32} (h : x = y) (k : W p l e R s m args below meth c H locs cells slots Q (F0 m pc ls (.int y :: rest))) : W p l e R s m args below meth c H locs cells slots Q (F0 m pc ls (.int x :: rest)) := h ▸ k
theorem bt_loop (n : Nat) (I : Nat → Array Slot → Prop)
    (hx : ∀ ls, I n ls → W p l e R s m args below meth c H locs cells slots Q (F0 m pc ls st))
    (hs : ∀ i ls, i < n → I i ls → (∀ ls', I (i + 1) ls' → W p l e R s m args below meth c H locs cells slots Q (F0 m pc ls' st)) → W p l e R s m args below meth c H locs cells slots Q (F0 m pc ls st)) :
    ∀ k i ls, i + k = n → I i ls → W p l e R s m args below meth c H locs cells slots Q (F0 m pc ls st) := by
  intro k
  induction k with
  | zero =>
    intro i ls h hi
    have h2 : i = n := by omega
    subst h2
    exact hx ls hi
  | succ k ih =>
    intro i ls h hi
    exact hs i ls (by omega) hi (fun ls' h' => ih (i + 1) ls' (by omega) h')
theorem bt_loopH (n : Nat) (I : Nat → Array Slot → Heap → List Loc → Prop)
    (hx : ∀ ls H locs, I n ls H locs → W p l e R s m args below meth c H locs cells slots Q (F0 m pc ls st))
    (hs : ∀ i ls H locs, i < n → I i ls H locs → (∀ ls' H' locs', I (i + 1) ls' H' locs' → W p l e R s m args below meth c H' locs' cells slots Q (F0 m pc ls' st)) → W p l e R s m args below meth c H locs cells slots Q (F0 m pc ls st)) :
    ∀ k i ls H locs, i + k = n → I i ls H locs → W p l e R s m args below meth c H locs cells slots Q (F0 m pc ls st) := by
  intro k
  induction k with
  | zero =>
    intro i ls H locs h hi
    have h2 : i = n := by omega
    subst h2
    exact hx ls H locs hi
  | succ k ih =>
    intro i ls H locs h hi
    exact hs i ls H locs (by omega) hi (fun ls' H' locs' h' => ih (i + 1) ls' H' locs' (by omega) h')
/-- an array read at a counted place -/
theorem bt_ild (hexec : p.tables.exec = Jvm.exec) (hb : c.code = cc) (hK : va_K D vwCl tys s) (hP : va_P D vwCl ws H) (q0 t0 : Nat) {cA : ClassId} {n : Nat} {f : Nat → Int32} (ha : ws[q0]? = some (a, .inl (cA, n, .inl f))) (ht : tys[t0]? = some (cA, .int)) {i : Nat} (hi : i < n) (hn : n < 2 ^ 31) (hdg : decode cc pc = .ok (.iaload, 1))
    (kk : W p l e R s m args below meth c H locs cells slots Q (F0 m (pc + 1) ls (.int (f i) :: rest))) : W p l e R s m args below meth c H locs cells slots Q (F0 m pc ls (.int (nI i) :: .ref a :: rest)) := by
  refine va_iald hexec hb hK hP q0 t0 ha ht (vp_in_nI hi hn) hdg ?_
  rw [nI_clamp (show i < 2 ^ 31 by omega)]
  exact kk
/-- an array written at a counted place -/
theorem bt_ist (hexec : p.tables.exec = Jvm.exec) (hb : c.code = cc) (hK : va_K D vwCl tys s) (hP : va_P D vwCl ws H) (hD : va_D A ws) (hS : va_S A H0 H locs) (q0 t0 : Nat) {cA : ClassId} {n : Nat} {f : Nat → Int32} (ha : ws[q0]? = some (a, .inl (cA, n, .inl f))) (ht : tys[t0]? = some (cA, .int)) {i : Nat} {x : Int32} (hi : i < n) (hn : n < 2 ^ 31) (hdg : decode cc pc = .ok (.iastore, 1))
    (kk : ∀ (H1 : Heap) (locs1 : List Loc), va_P D vwCl (ws.set q0 (a, .inl (cA, n, .inl (upd f i x)))) H1 → va_D A (ws.set q0 (a, .inl (cA, n, .inl (upd f i x)))) → va_S A H0 H1 locs1 → W p l e R s m args below meth c H1 locs1 cells slots Q (F0 m (pc + 1) ls rest)) : W p l e R s m args below meth c H locs cells slots Q (F0 m pc ls (.int x :: .int (nI i) :: .ref a :: rest)) := by
  refine va_iast hexec hb hK hP hD hS q0 t0 ha ht (vp_in_nI hi hn) hdg ?_
  rw [nI_clamp (show i < 2 ^ 31 by omega)]
  exact kk
/-- a reading method's end -/
theorem bt_ri {v r : Int32} (hx : p.tables.exec = Jvm.exec) (hb : c.code = cc) (hr : meth.sig.returnType = some .int) (hlk : meth.locks = false) (he : v = r) (hd : decode cc pc = .ok (.ireturn, 1)) : W p l e R s m args below meth c s.heap [] 0 0 (MQ below (QcRead r) args s 0 0 (fun _ => False)) (F0 m pc ls [.int v]) :=
  W.iret hx hb hr (fun t ht _ => ⟨by rw [he], ht⟩) (fun q h => by cases h) hd hlk
theorem bt_rz {v : Int32} {b : Bool} (hx : p.tables.exec = Jvm.exec) (hb : c.code = cc) (hr : meth.sig.returnType = some .boolean) (hlk : meth.locks = false) (he : v = bt_B b) (hd : decode cc pc = .ok (.ireturn, 1)) : W p l e R s m args below meth c s.heap [] 0 0 (MQ below (QcRead (bt_B b)) args s 0 0 (fun _ => False)) (F0 m pc ls [.int v]) :=
  W.zret (ty := .boolean) hx hb hr (by rw [he]; exact bt_Bn b) (fun t ht _ => ⟨by rw [he], ht⟩) (fun q h => by cases h) hd hlk
/-- a writing method's end -/
theorem bt_wi {v r : Int32} {w1 w2 : va_W} (hx : p.tables.exec = Jvm.exec) (hb : c.code = cc) (hr : meth.sig.returnType = some .int) (hlk : meth.locks = false) (hP : va_P D vwCl w2 H) (hK : va_K D vwCl tys s) (hD : va_D A w2) (hS : va_S A s.heap H locs) (he : v = r) (hw : w2 = w1) (hd : decode cc pc = .ok (.ireturn, 1)) : W p l e R s m args below meth c H locs 0 0 (MQ below (bt_Qi r D tys w1 A) args s 0 0 A) (F0 m pc ls [.int v]) := by
  subst hw
  exact W.iret hx hb hr (fun t ht hW => ⟨⟨v, (), rfl, he, by rw [ht]; exact hP, va_K.moved hW.alike hK, hD⟩, hS.F ht⟩) hS.2.2 hd hlk
theorem bt_wz {v : Int32} {b : Bool} {w1 w2 : va_W} (hx : p.tables.exec = Jvm.exec) (hb : c.code = cc) (hr : meth.sig.returnType = some .boolean) (hlk : meth.locks = false) (hP : va_P D vwCl w2 H) (hK : va_K D vwCl tys s) (hD : va_D A w2) (hS : va_S A s.heap H locs) (he : v = bt_B b) (hw : w2 = w1) (hd : decode cc pc = .ok (.ireturn, 1)) : W p l e R s m args below meth c H locs 0 0 (MQ below (bt_Qi (bt_B b) D tys w1 A) args s 0 0 A) (F0 m pc ls [.int v]) := by
  subst hw
  exact W.zret (ty := .boolean) hx hb hr (by rw [he]; exact bt_Bn b) (fun t ht hW => ⟨⟨v, (), rfl, he, by rw [ht]; exact hP, va_K.moved hW.alike hK, hD⟩, hS.F ht⟩) hS.2.2 hd hlk
theorem bt_wv {w1 w2 : va_W} (hx : p.tables.exec = Jvm.exec) (hb : c.code = cc) (hr : meth.sig.returnType = none) (hlk : meth.locks = false) (hP : va_P D vwCl w2 H) (hK : va_K D vwCl tys s) (hD : va_D A w2) (hS : va_S A s.heap H locs) (hw : w2 = w1) (hd : decode cc pc = .ok (.return_, 1)) : W p l e R s m args below meth c H locs 0 0 (MQ below (bt_Qv D tys w1 A) args s 0 0 A) (F0 m pc ls []) := by
  subst hw
  exact W.vret hx hb hr (fun t ht hW => ⟨⟨(), rfl, trivial, by rw [ht]; exact hP, va_K.moved hW.alike hK, hD⟩, hS.F ht⟩) hS.2.2 hd hlk
end BTA
section BTB
variable {l : Launch} {y : MethodName} {cc : ByteArray} {maxL : Nat} {ret : Option FieldType} {rm : Room} {av : List Value} {mc ms : Nat}
/-- a contract's start -/
theorem bt_met {B : State → Prop} {Qc : Array Value → State → Outcome → State → Prop} {free : Addr → Prop} (hy : plainName y.cls = true) (hn : (lg_sl av).length ≤ maxL)
    (body : ∀ (p : Program) (e : Env) (s : State) (m : MethodId) (below : List Frame) (meth : Method) (c : Code) (ls : Array Slot), p.tables.exec = Jvm.exec → c.code = cc → meth.sig.returnType = ret → meth.locks = false → c.maxLocals = maxL → s.vm.findClass y.cls = some m.cls → (∀ w ∈ lw_all, w.before av.toArray s = true) → meth.name = y.name → lv_has ls maxL (lv_args 0 av) → B s →
      W p l e rm s m av.toArray below meth c s.heap [] 0 0 (MQ below Qc av.toArray s mc ms free) (F0 m 0 ls [])) : Met l y (ws_ y cc maxL ret) rm (va_Pc av B) Qc mc ms free := by
  refine Met.ofW (cc := cc) (maxL := maxL) (ret := ret) hy rfl ?_
  intro p e s m args below meth c s₁ B0 hml hv
  obtain ⟨rfl, hB⟩ := hv
  have hts := atoms_spec (ws := ws_ y cc maxL ret) B0.pre
  rw [lg_entry_eq]
  exact body p e s m below meth c _ B0.exec B0.bytes B0.returns B0.notSynchronized hml (findClass_of_methodNamed B0.named) (fun w h => hts w (List.mem_cons_of_mem _ h)) (name_of_methodNamed B0.named B0.method).1 (lv_entry av hn) hB
/-- a writing method's contract: its start -/
theorem bt_metM {D : va_G} {tys : List (ClassId × FieldType)} {w0 : va_W} {sz : Nat} {Qc : (Nat → Prop) → Array Value → State → Outcome → State → Prop} (hy : plainName y.cls = true) (hn : (lg_sl av).length ≤ maxL)
    (body : ∀ (p : Program) (e : Env) (s : State) (m : MethodId) (below : List Frame) (meth : Method) (c : Code) (ls : Array Slot) (A : Nat → Prop), p.tables.exec = Jvm.exec → c.code = cc → meth.sig.returnType = ret → meth.locks = false → c.maxLocals = maxL → s.vm.findClass y.cls = some m.cls → (∀ w ∈ lw_all, w.before av.toArray s = true) → meth.name = y.name → lv_has ls maxL (lv_args 0 av) → va_P D vwCl w0 s.heap → va_K D vwCl tys s → va_D A w0 → va_S A s.heap s.heap [] → (∀ q, s.heap.size ≤ q → A q) →
      W p l e rm s m av.toArray below meth c s.heap [] 0 0 (MQ below (Qc A) av.toArray s mc ms A) (F0 m 0 ls [])) : Met l y (ws_ y cc maxL ret) rm (va_Pc av (bt_MP D tys w0 sz)) (Qc (va_A w0 sz)) mc ms (va_A w0 sz) := by
  refine bt_met hy hn ?_
  intro p e s m below meth c ls hx hb hr hlk hml hown hts hnm hl hB
  obtain ⟨hsz, hP, hK, hD⟩ := hB
  subst hsz
  exact body p e s m below meth c ls _ hx hb hr hlk hml hown hts hnm hl hP hK hD.self va_S.rf (fun q h => Or.inr h)
end BTB
section BTC
variable {p : Program} {l : Launch} {e : Env} {R : Room} {s : State} {m : MethodId} {args : Array Value} {below : List Frame} {meth : Method} {c : Code} {H : Heap} {locs : List Loc} {cells slots : Nat} {Q : State → Prop}
variable {cc bytes : ByteArray} {pc nL maxL index n : Nat} {ls : Array Slot} {rest st0 As : List Value} {D : va_G} {tys tyc : List (ClassId × FieldType)} {A : Nat → Prop} {b : Nat} {ws wc : va_W} {H0 : Heap} {own C : String} {y : MethodName} {ret : Option FieldType} {rm : Room} {r : Int32}
/-- a call that only reads, of a method of an object of the world -/
theorem bt_cV (S : CallFix p m c cc nL s args lw_all own) (hM : Met l y (ws_ y bytes maxL ret) rm (va_Pc (.ref b :: As) (bt_RP D tyc wc)) (QcRead r) 0 0 (fun _ => False)) (n : Nat) (hG : GoodIn lw_all (wsV own index C y (ws_ y bytes maxL ret)))
    (hrm : rm.cells = 0 ∧ rm.slots = 0) (hd : y.cls = C ∧ y.cls ≠ "java/lang/invoke/MethodHandle" ∧ y.cls ≠ "java/lang/invoke/VarHandle" ∧ (parseMethodDescriptor y.desc).map (fun d => d.parameters.length) = some n) (hR : rm.frames + 1 ≤ R.frames ∧ 8 + (maxL + 11) + rm.locals ≤ R.locals)
    (hK : va_K D vwCl tyc s) (hP : va_P D vwCl wc H) {ci q0 : Nat} {T : u_T} {N : Nat} {fs : List Value} (hc : vwCl[ci]? = some (C, T, N)) (he : wc[q0]? = some (b, .inr (ci, fs)))
    (hn : As.length = n) (hsize : ls.size = nL) (hst : st0 = As.reverse ++ .ref b :: rest) (hW : (rest.map fun v => v.category).sum ≤ 8) (hdg : decode cc pc = .ok (.invokevirtual index, 3)) (hf : cells ≤ R.cells ∧ slots ≤ R.slots)
    (kk : W p l e R s m args below meth c H locs cells slots Q (F0 m (pc + 3) ls (.int r :: rest))) : W p l e R s m args below meth c H locs cells slots Q (F0 m pc ls st0) := by
  refine W.callR (W.runV (g := F0 m pc ls st0) (As := As) (rest := rest) (b := b) S hM (cwV n S.2.2.2.2 hG rfl hrm.1 hrm.2 hd hR) ⟨?_, ?_, ?_⟩ rfl hn hsize hst (lv_room hW) hdg hf) ?_
  · intro a U g mk q
    obtain ⟨q0, qP, qK⟩ := q
    exact ⟨q0, qP, va_K.moved (u := U) (U := U.calling g mk a) (Vm.Alike.refl U.vm) qK⟩
  · exact va_recv hK hP hc he
  · intro U hU hW
    exact ⟨rfl, by rw [hU]; exact hP, va_K.moved hW.alike hK⟩
  · exact kk
/-- a static call that reads nothing -/
theorem bt_cS (S : CallFix p m c cc nL s args lw_all own) (hM : Met l y (ws_ y bytes maxL ret) rm (va_Pc As (fun _ => True)) (QcRead r) 0 0 (fun _ => False)) (n : Nat) (hG : GoodIn lw_all (va_wsS own index y (ws_ y bytes maxL ret)))
    (hrm : rm.cells = 0 ∧ rm.slots = 0) (hd : y.cls ≠ "java/lang/invoke/MethodHandle" ∧ y.cls ≠ "java/lang/invoke/VarHandle" ∧ (parseMethodDescriptor y.desc).map (fun d => d.parameters.length) = some n) (hR : rm.frames + 1 ≤ R.frames ∧ 8 + (maxL + 11) + rm.locals ≤ R.locals)
    (hn : As.length = n) (hsize : ls.size = nL) (hst : st0 = As.reverse ++ rest) (hW : (rest.map fun v => v.category).sum ≤ 8) (hdg : decode cc pc = .ok (.invokestatic index, 3)) (hf : cells ≤ R.cells ∧ slots ≤ R.slots)
    (kk : W p l e R s m args below meth c H locs cells slots Q (F0 m (pc + 3) ls (.int r :: rest))) : W p l e R s m args below meth c H locs cells slots Q (F0 m pc ls st0) := by
  refine W.callR (W.runS (g := F0 m pc ls st0) (As := As) (rest := rest) S hM (va_cwS n S.2.2.2.2 hG rfl hrm.1 hrm.2 hd hR) ⟨?_, ?_⟩ rfl hn hsize hst (lv_room hW) hdg hf) ?_
  · intro a U g mk q
    exact q
  · intro U hU hW
    exact ⟨rfl, trivial⟩
  · exact kk
/-- a call that writes in its object's cells (places isC of the world; the rest, places isR, stays), with an int for answer -/
theorem bt_cWi (S : CallFix p m c cc nL s args lw_all own) {w1 : va_W} (hM : Met l y (ws_ y bytes maxL ret) rm (va_Pc (.ref b :: As) (bt_MP D tyc wc H.size)) (bt_Qi r D tyc w1 (va_A wc H.size)) 0 0 (va_A wc H.size)) (n : Nat) (hG : GoodIn lw_all (wsV own index C y (ws_ y bytes maxL ret)))
    (hrm : rm.cells = 0 ∧ rm.slots = 0) (hd : y.cls = C ∧ y.cls ≠ "java/lang/invoke/MethodHandle" ∧ y.cls ≠ "java/lang/invoke/VarHandle" ∧ (parseMethodDescriptor y.desc).map (fun d => d.parameters.length) = some n) (hR : rm.frames + 1 ≤ R.frames ∧ 8 + (maxL + 11) + rm.locals ≤ R.locals)
    (hK : va_K D vwCl tyc s) (hP : va_P D vwCl ws H) (hD : va_D A ws) (hS : va_S A H0 H locs) (hA : ∀ q, H0.size ≤ q → A q) (isC isR : List Nat) {wr : va_W} (hC : isC.map (fun i => ws[i]?) = wc.map some) (hRr : isR.map (fun i => ws[i]?) = wr.map some) (hnC : va_nd isC = true) (hnR : va_nd isR = true) (hdis : ∀ i ∈ isR, i ∉ isC)
    {ci q0 : Nat} {T : u_T} {N : Nat} {fs : List Value} (hc : vwCl[ci]? = some (C, T, N)) (he : wc[q0]? = some (b, .inr (ci, fs)))
    (hn : As.length = n) (hsize : ls.size = nL) (hst : st0 = As.reverse ++ .ref b :: rest) (hW : (rest.map fun v => v.category).sum ≤ 8) (hdg : decode cc pc = .ok (.invokevirtual index, 3)) (hf : cells ≤ R.cells ∧ slots ≤ R.slots)
    (kk : ∀ (H1 : Heap) (locs1 : List Loc), va_P D vwCl (wr ++ w1) H1 → va_D A (wr ++ w1) → va_S A H0 H1 locs1 → W p l e R s m args below meth c H1 locs1 cells slots Q (F0 m (pc + 3) ls (.int r :: rest))) : W p l e R s m args below meth c H locs cells slots Q (F0 m pc ls st0) := by
  have hPc : va_P D vwCl wc H := by
    intro k q hk
    have h1 : (isC.map (fun i => ws[i]?))[k]? = some (some q) := by rw [hC, List.getElem?_map, hk]; rfl
    rw [List.getElem?_map] at h1
    cases hi : isC[k]? with
    | none => rw [hi] at h1; cases h1
    | some i => rw [hi] at h1; exact hP i q (Option.some.inj h1)
  have hDc := hD.sub isC hnC hC
  have hFc := va_free (wc := wc) hD hS hA isC hC
  refine va_calli (va_runV (As := As) (rest := rest) (b := b) S hM (cwV n S.2.2.2.2 hG rfl hrm.1 hrm.2 hd hR) ⟨?_, ?_, ?_⟩ rfl hn hsize hst (lv_room hW) hdg hf) hS (fun q _ h => hFc q h) hFc ?_
  · intro a U g mk q
    obtain ⟨q0, q1, qP, qK, qD⟩ := q
    exact ⟨q0, q1, qP, va_K.moved (u := U) (U := U.calling g mk a) (Vm.Alike.refl U.vm) qK, qD⟩
  · exact va_recv hK hPc hc he
  · intro U hU hW
    exact ⟨rfl, by rw [hU], by rw [hU]; exact hPc, va_K.moved hW.alike hK, hDc.weaken (fun _ _ _ _ => trivial)⟩
  · intro r' u t H1 locs1 ht hvm hw hB hz1 hk1 hS1
    obtain ⟨hP1, hK1, hD1⟩ := hB
    rw [ht] at hP1
    have hw' : r' = r := hw
    subst hw'
    obtain ⟨hP2, hD2⟩ := va_join (wr := wr) (w1 := w1) hP hD isC isR hC hRr hnR hdis hk1 hFc hP1 hD1
    exact kk H1 locs1 hP2 hD2 hS1
theorem bt_cWv (S : CallFix p m c cc nL s args lw_all own) {w1 : va_W} (hM : Met l y (ws_ y bytes maxL none) rm (va_Pc (.ref b :: As) (bt_MP D tyc wc H.size)) (bt_Qv D tyc w1 (va_A wc H.size)) 0 0 (va_A wc H.size)) (n : Nat) (hG : GoodIn lw_all (wsV own index C y (ws_ y bytes maxL none)))
    (hrm : rm.cells = 0 ∧ rm.slots = 0) (hd : y.cls = C ∧ y.cls ≠ "java/lang/invoke/MethodHandle" ∧ y.cls ≠ "java/lang/invoke/VarHandle" ∧ (parseMethodDescriptor y.desc).map (fun d => d.parameters.length) = some n) (hR : rm.frames + 1 ≤ R.frames ∧ 8 + (maxL + 11) + rm.locals ≤ R.locals)
    (hK : va_K D vwCl tyc s) (hP : va_P D vwCl ws H) (hD : va_D A ws) (hS : va_S A H0 H locs) (hA : ∀ q, H0.size ≤ q → A q) (isC isR : List Nat) {wr : va_W} (hC : isC.map (fun i => ws[i]?) = wc.map some) (hRr : isR.map (fun i => ws[i]?) = wr.map some) (hnC : va_nd isC = true) (hnR : va_nd isR = true) (hdis : ∀ i ∈ isR, i ∉ isC)
    {ci q0 : Nat} {T : u_T} {N : Nat} {fs : List Value} (hc : vwCl[ci]? = some (C, T, N)) (he : wc[q0]? = some (b, .inr (ci, fs)))
    (hn : As.length = n) (hsize : ls.size = nL) (hst : st0 = As.reverse ++ .ref b :: rest) (hW : (rest.map fun v => v.category).sum ≤ 8) (hdg : decode cc pc = .ok (.invokevirtual index, 3)) (hf : cells ≤ R.cells ∧ slots ≤ R.slots)
    (kk : ∀ (H1 : Heap) (locs1 : List Loc), va_P D vwCl (wr ++ w1) H1 → va_D A (wr ++ w1) → va_S A H0 H1 locs1 → W p l e R s m args below meth c H1 locs1 cells slots Q (F0 m (pc + 3) ls rest)) : W p l e R s m args below meth c H locs cells slots Q (F0 m pc ls st0) := by
  have hPc : va_P D vwCl wc H := by
    intro k q hk
    have h1 : (isC.map (fun i => ws[i]?))[k]? = some (some q) := by rw [hC, List.getElem?_map, hk]; rfl
    rw [List.getElem?_map] at h1
    cases hi : isC[k]? with
    | none => rw [hi] at h1; cases h1
    | some i => rw [hi] at h1; exact hP i q (Option.some.inj h1)
  have hDc := hD.sub isC hnC hC
  have hFc := va_free (wc := wc) hD hS hA isC hC
  refine va_callv (va_runV (As := As) (rest := rest) (b := b) S hM (cwV n S.2.2.2.2 hG rfl hrm.1 hrm.2 hd hR) ⟨?_, ?_, ?_⟩ rfl hn hsize hst (lv_room hW) hdg hf) hS (fun q _ h => hFc q h) hFc ?_
  · intro a U g mk q
    obtain ⟨q0, q1, qP, qK, qD⟩ := q
    exact ⟨q0, q1, qP, va_K.moved (u := U) (U := U.calling g mk a) (Vm.Alike.refl U.vm) qK, qD⟩
  · exact va_recv hK hPc hc he
  · intro U hU hW
    exact ⟨rfl, by rw [hU], by rw [hU]; exact hPc, va_K.moved hW.alike hK, hDc.weaken (fun _ _ _ _ => trivial)⟩
  · intro u t H1 locs1 ht hvm hw hB hz1 hk1 hS1
    obtain ⟨hP1, hK1, hD1⟩ := hB
    rw [ht] at hP1
    obtain ⟨hP2, hD2⟩ := va_join (wr := wr) (w1 := w1) hP hD isC isR hC hRr hnR hdis hk1 hFc hP1 hD1
    exact kk H1 locs1 hP2 hD2 hS1
end BTC
/-- int[] has one class -/
theorem bt_oneA {D : va_G} {s : State} {c1 c2 : ClassId} (h : va_K D vwCl [(c1, .int), (c2, .int)] s) : c1 = c2 := by
  have h1 : s.vm.findClass ("[" ++ FieldType.int.toString) = some c1 := (h.2 0 _ rfl).2
  have h2 : s.vm.findClass ("[" ++ FieldType.int.toString) = some c2 := (h.2 1 _ rfl).2
  exact Option.some.inj (h1.symm.trans h2)
/-- int[] is there -/
theorem bt_arrK {D : va_G} {s : State} {args : Array Value} (hKc : va_K D vwCl [] s) (h : (Cond.arrayClass .int).before args s = true) : ∃ d : ClassId, va_K D vwCl [(d, .int)] s := by
  obtain ⟨cA, kA, comp, hfind, hk, hkind⟩ := Cond.arrayClass_spec h
  refine ⟨cA, hKc.1, fun k q hq => ?_⟩
  match k, hq with
  | 0, hq =>
    cases hq
    exact ⟨fun n z => ⟨fun k h => (by cases h), kA, hk, comp, hkind⟩, hfind⟩
  | k + 1, hq => simp at hq
section BTD
variable {p : Program} {l : Launch} {e : Env} {R : Room} {s : State} {m : MethodId} {args : Array Value} {below : List Frame} {meth : Method} {c : Code} {H : Heap} {locs : List Loc} {cells slots : Nat} {Q : State → Prop}
variable {cc bytes : ByteArray} {pc nL maxL index mc ms : Nat} {ls : Array Slot} {rest st0 As : List Value} {D : va_G} {tyc : List (ClassId × FieldType)} {A : Nat → Prop} {b : Nat} {ws wc : va_W} {H0 : Heap} {own : String} {y : MethodName} {rm : Room}
/-- a constructor's end, as a contract says it: new cells at addresses x -/
abbrev bt_QI {X : Type} (D : va_G) (tys : List (ClassId × FieldType)) (w1 : X → va_W) (A : Nat → Prop) : Array Value → State → Outcome → State → Prop := va_Qv (fun (_ : X) => True) (fun x t => va_P D vwCl (w1 x) t.heap ∧ va_K D vwCl tys t ∧ va_D A (w1 x)) A
/-- a constructor's call -/
theorem bt_cI {X : Type} (S : CallFix p m c cc nL s args lw_all own) {w1 : X → va_W} (hM : Met l y (ws_ y bytes maxL none) rm (va_Pc (.ref b :: As) (bt_MP D tyc wc H.size)) (bt_QI D tyc w1 (va_A wc H.size)) mc ms (va_A wc H.size)) (n : Nat) (hG : Cond.code y bytes maxL none ∈ lw_all)
    (hini : Cond.initialized y.cls ∈ lw_all) (hlk : Cond.methodLink own index y ∈ lw_all) (hin : Cond.instanceMethod y ∈ lw_all) (hy1 : y.name = "<init>")
    (hrm : rm.cells = mc ∧ rm.slots = ms) (hd : y.cls ≠ "java/lang/invoke/MethodHandle" ∧ y.cls ≠ "java/lang/invoke/VarHandle" ∧ (parseMethodDescriptor y.desc).map (fun d => d.parameters.length) = some n) (hR : rm.frames + 1 ≤ R.frames ∧ 8 + (maxL + 11) + rm.locals ≤ R.locals)
    (hK : va_K D vwCl tyc s) (hP : va_P D vwCl ws H) (hD : va_D A ws) (hS : va_S A H0 H locs) (hA : ∀ q, H0.size ≤ q → A q) (isC isR : List Nat) {wr : va_W} (hC : isC.map (fun i => ws[i]?) = wc.map some) (hRr : isR.map (fun i => ws[i]?) = wr.map some) (hnC : va_nd isC = true) (hnR : va_nd isR = true) (hdis : ∀ i ∈ isR, i ∉ isC)
    (hn : As.length = n) (hsize : ls.size = nL) (hst : st0 = As.reverse ++ .ref b :: rest) (hW : (rest.map fun v => v.category).sum ≤ 8) (hdg : decode cc pc = .ok (.invokespecial index, 3)) (hf : cells + mc ≤ R.cells ∧ slots + ms ≤ R.slots)
    (kk : ∀ (x : X) (H1 : Heap) (locs1 : List Loc), va_P D vwCl (wr ++ w1 x) H1 → va_D A (wr ++ w1 x) → va_S A H0 H1 locs1 → W p l e R s m args below meth c H1 locs1 (cells + mc) (slots + ms) Q (F0 m (pc + 3) ls rest)) : W p l e R s m args below meth c H locs cells slots Q (F0 m pc ls st0) := by
  have hPc : va_P D vwCl wc H := by
    intro k q hk
    have h1 : (isC.map (fun i => ws[i]?))[k]? = some (some q) := by rw [hC, List.getElem?_map, hk]; rfl
    rw [List.getElem?_map] at h1
    cases hi : isC[k]? with
    | none => rw [hi] at h1; cases h1
    | some i => rw [hi] at h1; exact hP i q (Option.some.inj h1)
  have hDc := hD.sub isC hnC hC
  have hFc := va_free (wc := wc) hD hS hA isC hC
  have hts := S.2.2.2.2
  refine va_callv (va_runI (As := As) (rest := rest) (b := b) S hM (cwI n hts (lw_meth hG) rfl hrm.1 hrm.2 (hts _ hini) (hts _ hlk) (hts _ hin) hy1 hd hR) ⟨?_, ?_⟩ rfl hn hsize hst (lv_room hW) hdg hf) hS (fun q _ h => hFc q h) hFc ?_
  · intro a U g mk q
    obtain ⟨q0, q1, qP, qK, qD⟩ := q
    exact ⟨q0, q1, qP, va_K.moved (u := U) (U := U.calling g mk a) (Vm.Alike.refl U.vm) qK, qD⟩
  · intro U hU hW
    exact ⟨rfl, by rw [hU], by rw [hU]; exact hPc, va_K.moved hW.alike hK, hDc.weaken (fun _ _ _ _ => trivial)⟩
  · intro x t H1 locs1 ht hvm hw hB hz1 hk1 hS1
    obtain ⟨hP1, hK1, hD1⟩ := hB
    rw [ht] at hP1
    obtain ⟨hP2, hD2⟩ := va_join (wr := wr) (w1 := w1 x) hP hD isC isR hC hRr hnR hdis hk1 hFc hP1 hD1
    exact kk x H1 locs1 hP2 hD2 hS1
/-- a static call that reads the script -/
theorem bt_cX {bs L : Nat} {xs : Nat → Int32} {r : Int32} {ret : Option FieldType} (S : CallFix p m c cc nL s args lw_all own) (hM : Met l y (ws_ y bytes maxL ret) rm (va_Pc As (fun U => va_X bs L xs U U.heap)) (QcRead r) 0 0 (fun _ => False)) (n : Nat) (hG : GoodIn lw_all (va_wsS own index y (ws_ y bytes maxL ret)))
    (hrm : rm.cells = 0 ∧ rm.slots = 0) (hd : y.cls ≠ "java/lang/invoke/MethodHandle" ∧ y.cls ≠ "java/lang/invoke/VarHandle" ∧ (parseMethodDescriptor y.desc).map (fun d => d.parameters.length) = some n) (hR : rm.frames + 1 ≤ R.frames ∧ 8 + (maxL + 11) + rm.locals ≤ R.locals)
    (hX : va_X bs L xs s H0) (hbl : bs < H0.size) (hbA : ¬ A bs) (hS : va_S A H0 H locs)
    (hn : As.length = n) (hsize : ls.size = nL) (hst : st0 = As.reverse ++ rest) (hW : (rest.map fun v => v.category).sum ≤ 8) (hdg : decode cc pc = .ok (.invokestatic index, 3)) (hf : cells ≤ R.cells ∧ slots ≤ R.slots)
    (kk : W p l e R s m args below meth c H locs cells slots Q (F0 m (pc + 3) ls (.int r :: rest))) : W p l e R s m args below meth c H locs cells slots Q (F0 m pc ls st0) := by
  refine W.callR (W.runS (g := F0 m pc ls st0) (As := As) (rest := rest) S hM (va_cwS n S.2.2.2.2 hG rfl hrm.1 hrm.2 hd hR) ⟨?_, ?_⟩ rfl hn hsize hst (lv_room hW) hdg hf) ?_
  · intro a U g mk q
    exact ⟨q.1, va_X.moved (u := U) (U := U.calling g mk a) (Vm.Alike.refl U.vm) q.2⟩
  · intro U hU hW
    exact ⟨rfl, by show va_X bs L xs U U.heap; rw [hU]; exact (hX.kept (hS.2.1 bs hbl hbA)).moved hW.alike⟩
  · exact kk
end BTD
end
section
/-! pure words: sets of bits, counts, filled arrays; what the walks need of them -/
def bt_bits (p : Nat → Bool) : Nat → Nat
  | 0 => 0
  | k + 1 => bt_bits p k + (if p k = true then 2 ^ k else 0)
def bt_cnt (p : Nat → Bool) : Nat → Nat
  | 0 => 0
  | k + 1 => bt_cnt p k + (if p k = true then 1 else 0)
def bt_pop : Nat → Nat → Nat
  | 0, _ => 0
  | f + 1, b => b % 2 + bt_pop f (b / 2)
def bt_fill (f : Nat → Int32) (v : Int32) (n : Nat) : Nat → Int32 := fun j => if j < n then v else f j
def bt_crw (b : Nat) : Bool := decide (1 < bt_pop 10 b)
def bt_fst (b k : Nat) : Bool := decide (nI b >>> (nI k &&& 31) = 0)
def bt_ask (b k : Nat) : Bool := decide (b % 2 ^ k = 0)
def bt_cl (x : Int32) : Nat := if x < 0 then 0 else if 9 < x then 9 else x.toNatClampNeg
def bt_grp (g : Int32) : Bool := !decide (g < 0) && !decide (8 ≤ g)
def bt_tree (g s : Int32) : Bool := bt_grp g && (!decide (s < -1) && !decide (16 ≤ s))
def bt_tk (t n : Int32) : Bool := !decide (n < 1) && (!decide (100 < n) && decide (t + n ≤ 100000))
theorem bt_bits_lt (p : Nat → Bool) (k : Nat) : bt_bits p k < 2 ^ k := by
  induction k with
  | zero => exact (show 0 < 2 ^ 0 by decide)
  | succ k ih =>
    show bt_bits p k + (if p k = true then 2 ^ k else 0) < 2 ^ (k + 1)
    rw [Nat.pow_succ]
    split <;> omega
theorem bt_bits_cong {p q : Nat → Bool} {n : Nat} (h : ∀ i, i < n → p i = q i) : bt_bits p n = bt_bits q n := by
  induction n with
  | zero => rfl
  | succ n ih =>
    show bt_bits p n + _ = bt_bits q n + _
    rw [ih (fun i hi => h i (by omega)), h n (by omega)]
theorem bt_cnt_cong {p q : Nat → Bool} {n : Nat} (h : ∀ i, i < n → p i = q i) : bt_cnt p n = bt_cnt q n := by
  induction n with
  | zero => rfl
  | succ n ih =>
    show bt_cnt p n + _ = bt_cnt q n + _
    rw [ih (fun i hi => h i (by omega)), h n (by omega)]
theorem bt_nor (a b : Nat) : nI a ||| nI b = nI (a ||| b) := by
  apply Int32.toBitVec_inj.1
  show BitVec.ofNat 32 a ||| BitVec.ofNat 32 b = BitVec.ofNat 32 (a ||| b)
  apply BitVec.eq_of_getLsbD_eq
  intro i hi
  simp [hi]
theorem bt_sl : ∀ n, n < 32 → ((nI n &&& 31).toBitVec.smod 32).toNat = n := by decide +kernel
theorem bt_one (k : Nat) (hk : k < 31) : (1 : Int32) <<< (nI k &&& 31) = nI (2 ^ k) := by
  have h := pk_shlN (n := 1) (nI k &&& 31) k (bt_sl k (by omega)) (by
    rw [Nat.one_mul]
    exact Nat.pow_lt_pow_right (by decide) (by omega))
  rw [Nat.one_mul] at h
  exact h
theorem bt_bits1 {p : Nat → Bool} {k : Nat} (hk : k < 31) (h : p k = true) : nI (bt_bits p k) ||| ((1 : Int32) <<< (nI k &&& 31)) = nI (bt_bits p (k + 1)) := by
  rw [bt_one k hk, bt_nor]
  congr 1
  show _ = bt_bits p k + (if p k = true then 2 ^ k else 0)
  rw [if_pos h, Nat.or_comm, Nat.add_comm]
  have h1 := Nat.two_pow_add_eq_or_of_lt (bt_bits_lt p k) 1
  rw [Nat.mul_one] at h1
  exact h1.symm
theorem bt_bits0 {p : Nat → Bool} {k : Nat} (h : p k = false) : nI (bt_bits p k) = nI (bt_bits p (k + 1)) := by
  show _ = nI (bt_bits p k + (if p k = true then 2 ^ k else 0))
  rw [h]
  rfl
theorem bt_or0 (x : Int32) : x ||| 0 = x := by
  apply Int32.toBitVec_inj.1
  show x.toBitVec ||| 0#32 = x.toBitVec
  simp
theorem bt_bits00 {p : Nat → Bool} {k : Nat} (h : p k = false) : nI (bt_bits p k) ||| 0 = nI (bt_bits p (k + 1)) := by
  rw [bt_or0, bt_bits0 h]
theorem bt_cnt1 {p : Nat → Bool} {k : Nat} (h : p k = true) : nI (bt_cnt p k) + 1 = nI (bt_cnt p (k + 1)) := by
  show _ = nI (bt_cnt p k + (if p k = true then 1 else 0))
  rw [if_pos h, nI_1]
theorem bt_add0 (x : Int32) : x + 0 = x := by
  apply Int32.toBitVec_inj.1
  show x.toBitVec + 0#32 = x.toBitVec
  simp
theorem bt_cnt0 {p : Nat → Bool} {k : Nat} (h : p k = false) : nI (bt_cnt p k) + 0 = nI (bt_cnt p (k + 1)) := by
  show _ = nI (bt_cnt p k + (if p k = true then 1 else 0))
  rw [h, bt_add0]
  rfl
theorem bt_fill_0 (f : Nat → Int32) (v : Int32) : bt_fill f v 0 = f := by
  funext j
  simp [bt_fill]
theorem bt_fill_s (f : Nat → Int32) (v : Int32) (n : Nat) : upd (bt_fill f v n) n v = bt_fill f v (n + 1) := by
  funext j
  unfold upd bt_fill
  by_cases h : j = n
  · subst h
    simp
  · have : j < n + 1 ↔ j < n := by omega
    simp [h, this]
theorem bt_pop_z (f : Nat) : bt_pop f 0 = 0 := by
  induction f with
  | zero => rfl
  | succ f ih =>
    show 0 % 2 + bt_pop f (0 / 2) = 0
    simpa using ih
theorem bt_pop_le (f b : Nat) : bt_pop f b ≤ f := by
  induction f generalizing b with
  | zero => exact Nat.le_refl _
  | succ f ih =>
    show b % 2 + bt_pop f (b / 2) ≤ f + 1
    have := ih (b / 2)
    omega
/-- two bits or more -/
theorem bt_crwX : ∀ b, b < 1024 → (nI b &&& (nI b - 1) = 0 ↔ bt_crw b = false) := by decide +kernel
theorem bt_askX {b k : Nat} (hb : b < 1024) (hk : k ≤ 9) : (nI b &&& ((1 : Int32) <<< (nI k &&& 31) - 1) = 0 ↔ bt_ask b k = true) := by
  have hp : (2 : Nat) ^ k ≤ 512 := by
    have := Nat.pow_le_pow_right (n := 2) (by decide) hk
    simpa using this
  have hp0 : 0 < (2 : Nat) ^ k := Nat.pow_pos (by decide)
  rw [bt_one k (by omega)]
  have h1 : nI (2 ^ k) - 1 = nI (2 ^ k - 1) := by
    have := nI_pred (2 ^ k - 1)
    rwa [show 2 ^ k - 1 + 1 = 2 ^ k by omega] at this
  rw [h1, pk_andN (by omega) k (pk_tn (by omega))]
  have hm : b % 2 ^ k < 2 ^ k := Nat.mod_lt _ hp0
  unfold bt_ask
  rw [decide_eq_true_iff]
  have := nI_eq (a := b % 2 ^ k) (b := 0) (by omega) (by omega)
  rw [nI_0] at this
  exact this
theorem bt_one_ne {k : Nat} (hk : k ≤ 9) : ¬ (1 : Int32) <<< (nI k &&& 31) = 0 := by
  have hp : (2 : Nat) ^ k ≤ 512 := by
    have := Nat.pow_le_pow_right (n := 2) (by decide) hk
    simpa using this
  have hp0 : 0 < (2 : Nat) ^ k := Nat.pow_pos (by decide)
  rw [bt_one k (by omega)]
  exact nI_ne0 hp0 (by omega)
theorem bt_askM {b k : Nat} (hb : b < 1024) (hk : k ≤ 9) : (nI b - nI b / ((1 : Int32) <<< (nI k &&& 31)) * ((1 : Int32) <<< (nI k &&& 31)) = 0 ↔ bt_ask b k = true) := by
  have hp : (2 : Nat) ^ k ≤ 512 := by
    have := Nat.pow_le_pow_right (n := 2) (by decide) hk
    simpa using this
  have hp0 : 0 < (2 : Nat) ^ k := Nat.pow_pos (by decide)
  rw [bt_one k (by omega), pk_rem (by omega) hp0 (by omega)]
  have hm : b % 2 ^ k < 2 ^ k := Nat.mod_lt _ hp0
  unfold bt_ask
  rw [decide_eq_true_iff]
  have := nI_eq (a := b % 2 ^ k) (b := 0) (by omega) (by omega)
  rw [nI_0] at this
  exact this
/-- places of the arrays -/
theorem bt_inG {g : Int32} (h : bt_grp g = true) : vp_in g 8 := by
  rw [vp_in_iff]
  unfold bt_grp at h
  simp only [Bool.and_eq_true, Bool.not_eq_true', decide_eq_false_iff_not, Int32.lt_iff_toInt_lt, Int32.le_iff_toInt_le] at h
  have h0 : (0 : Int32).toInt = 0 := by decide
  have h8 : (8 : Int32).toInt = 8 := by decide
  omega
theorem bt_grp_n {g : Int32} (h : bt_grp g = true) : ∃ i, i < 8 ∧ g = nI i := vp_in_of (bt_inG h) (by decide)
theorem bt_src_n {s : Int32} (h1 : ¬ s < -1) (h2 : ¬ 16 ≤ s) : ∃ i, i < 17 ∧ s = nI i - 1 := by
  have h3 : vp_in (s + 1) 17 := by
    rw [vp_in_iff]
    simp only [Int32.lt_iff_toInt_lt, Int32.le_iff_toInt_le] at h1 h2
    have h0 : (-1 : Int32).toInt = -1 := by decide
    have h8 : (16 : Int32).toInt = 16 := by decide
    have h9 : (1 : Int32).toInt = 1 := by decide
    rw [Int32.toInt_add, h9]
    have hb : (s.toInt + 1).bmod (2 ^ 32) = s.toInt + 1 := by
      apply Int.bmod_eq_of_le <;> omega
    rw [hb]
    omega
  obtain ⟨i, hi, e⟩ := vp_in_of h3 (by decide)
  refine ⟨i, hi, ?_⟩
  rw [← e]
  grind
theorem bt_in17 : ∀ i, i < 8 → ∀ j, j < 17 → ¬ (nI i * 17 + (nI j - 1) + 1 < 0 ∨ 136 ≤ (nI i * 17 + (nI j - 1) + 1).toNatClampNeg) := by decide +kernel
theorem bt_in16 : ∀ i, i < 8 → ∀ j, j < 16 → ¬ (nI i * 16 + nI j < 0 ∨ 128 ≤ (nI i * 16 + nI j).toNatClampNeg) := by decide +kernel
theorem bt_tree_s {g s : Int32} (h : bt_tree g s = true) : bt_grp g = true ∧ ¬ s < -1 ∧ ¬ 16 ≤ s := by
  unfold bt_tree at h
  simp only [Bool.and_eq_true, Bool.not_eq_true', decide_eq_false_iff_not] at h
  exact h
theorem bt_inT {g s : Int32} (h : bt_tree g s = true) : vp_in (g * 17 + s + 1) 136 := by
  obtain ⟨h1, h2, h3⟩ := bt_tree_s h
  obtain ⟨i, hi, rfl⟩ := bt_grp_n h1
  obtain ⟨j, hj, rfl⟩ := bt_src_n h2 h3
  exact bt_in17 i hi j hj
theorem bt_mulc (x y : Int32) : x * y = y * x := Int32.mul_comm x y
theorem bt_inTm {g s : Int32} (h : bt_tree g s = true) : vp_in (17 * g + s + 1) 136 := by
  rw [bt_mulc 17 g]
  exact bt_inT h
theorem bt_tree0 {g : Int32} (h : bt_grp g = true) : bt_tree g (-1) = true := by
  unfold bt_tree
  rw [h]
  decide
theorem bt_treeN {g : Int32} (h : bt_grp g = true) {i : Nat} (hi : i < 16) : bt_tree g (nI i) = true := by
  unfold bt_tree
  rw [h]
  exact (by decide +kernel : ∀ i, i < 16 → (true && (!decide (nI i < -1) && !decide (16 ≤ nI i))) = true) i hi
theorem bt_inC {g : Int32} (h : bt_grp g = true) {i : Nat} (hi : i < 16) : vp_in (g * 16 + nI i) 128 := by
  obtain ⟨j, hj, rfl⟩ := bt_grp_n h
  exact bt_in16 j hj i hi
theorem bt_inCm {g : Int32} (h : bt_grp g = true) {i : Nat} (hi : i < 16) : vp_in (16 * g + nI i) 128 := by
  rw [bt_mulc 16 g]
  exact bt_inC h hi
theorem bt_src0 {g s : Int32} (h : bt_tree g s = true) (hs : ¬ s = -1) : ∃ i, i < 16 ∧ s = nI i := by
  obtain ⟨h1, h2, h3⟩ := bt_tree_s h
  obtain ⟨j, hj, rfl⟩ := bt_src_n h2 h3
  cases j with
  | zero => exact absurd (by decide) hs
  | succ j => exact ⟨j, by omega, nI_pred j⟩
/-- what a JOIN of the shared tree tells of the sources -/
def bt_jc (told : Nat → Bool) (was : Bool) (ix : Nat → Nat) (fr : Int32) (u : Nat → Int32) : Nat → Nat → Int32
  | 0 => u
  | k + 1 => if told k = true then (if was = true ∧ ¬ bt_jc told was ix fr u k (ix k) = -1 then bt_jc told was ix fr u k else upd (bt_jc told was ix fr u k) (ix k) fr) else upd (bt_jc told was ix fr u k) (ix k) (-1)
theorem bt_jc_s {told : Nat → Bool} {was : Bool} {ix : Nat → Nat} {fr : Int32} {u : Nat → Int32} {k : Nat} : bt_jc told was ix fr u (k + 1) = if told k = true then (if was = true ∧ ¬ bt_jc told was ix fr u k (ix k) = -1 then bt_jc told was ix fr u k else upd (bt_jc told was ix fr u k) (ix k) fr) else upd (bt_jc told was ix fr u k) (ix k) (-1) := rfl
theorem bt_sw8 (w : Int32) : w = 0 ∨ w = 1 ∨ w = 2 ∨ w = 3 ∨ w = 4 ∨ w = 5 ∨ w = 6 ∨ w = 7 ∨ ((¬ w = 0 ∧ ¬ w = 1 ∧ ¬ w = 2 ∧ ¬ w = 3 ∧ ¬ w = 4 ∧ ¬ w = 5 ∧ ¬ w = 6 ∧ ¬ w = 7) ∧ (w.toInt < 0 ∨ 7 < w.toInt)) := by
  by_cases h0 : w = 0
  · simp [h0]
  by_cases h1 : w = 1
  · simp [h1]
  by_cases h2 : w = 2
  · simp [h2]
  by_cases h3 : w = 3
  · simp [h3]
  by_cases h4 : w = 4
  · simp [h4]
  by_cases h5 : w = 5
  · simp [h5]
  by_cases h6 : w = 6
  · simp [h6]
  by_cases h7 : w = 7
  · simp [h7]
  have e0 := lv_neT h0 (show (0 : Int32).toInt = 0 by decide)
  have e1 := lv_neT h1 (show (1 : Int32).toInt = 1 by decide)
  have e2 := lv_neT h2 (show (2 : Int32).toInt = 2 by decide)
  have e3 := lv_neT h3 (show (3 : Int32).toInt = 3 by decide)
  have e4 := lv_neT h4 (show (4 : Int32).toInt = 4 by decide)
  have e5 := lv_neT h5 (show (5 : Int32).toInt = 5 by decide)
  have e6 := lv_neT h6 (show (6 : Int32).toInt = 6 by decide)
  have e7 := lv_neT h7 (show (7 : Int32).toInt = 7 by decide)
  have hr : w.toInt < 0 ∨ 7 < w.toInt := by omega
  simp [h0, h1, h2, h3, h4, h5, h6, h7, hr]
theorem bt_sw12 (w : Int32) : w = 0 ∨ w = 1 ∨ w = 2 ∨ w = 3 ∨ w = 4 ∨ w = 5 ∨ w = 6 ∨ w = 7 ∨ w = 8 ∨ w = 9 ∨ w = 10 ∨ w = 11 ∨ (w.toInt < 0 ∨ 11 < w.toInt) := by
  by_cases h0 : w = 0
  · simp [h0]
  by_cases h1 : w = 1
  · simp [h1]
  by_cases h2 : w = 2
  · simp [h2]
  by_cases h3 : w = 3
  · simp [h3]
  by_cases h4 : w = 4
  · simp [h4]
  by_cases h5 : w = 5
  · simp [h5]
  by_cases h6 : w = 6
  · simp [h6]
  by_cases h7 : w = 7
  · simp [h7]
  by_cases h8 : w = 8
  · simp [h8]
  by_cases h9 : w = 9
  · simp [h9]
  by_cases h10 : w = 10
  · simp [h10]
  by_cases h11 : w = 11
  · simp [h11]
  have e0 := lv_neT h0 (show (0 : Int32).toInt = 0 by decide)
  have e1 := lv_neT h1 (show (1 : Int32).toInt = 1 by decide)
  have e2 := lv_neT h2 (show (2 : Int32).toInt = 2 by decide)
  have e3 := lv_neT h3 (show (3 : Int32).toInt = 3 by decide)
  have e4 := lv_neT h4 (show (4 : Int32).toInt = 4 by decide)
  have e5 := lv_neT h5 (show (5 : Int32).toInt = 5 by decide)
  have e6 := lv_neT h6 (show (6 : Int32).toInt = 6 by decide)
  have e7 := lv_neT h7 (show (7 : Int32).toInt = 7 by decide)
  have e8 := lv_neT h8 (show (8 : Int32).toInt = 8 by decide)
  have e9 := lv_neT h9 (show (9 : Int32).toInt = 9 by decide)
  have e10 := lv_neT h10 (show (10 : Int32).toInt = 10 by decide)
  have e11 := lv_neT h11 (show (11 : Int32).toInt = 11 by decide)
  have hr : w.toInt < 0 ∨ 11 < w.toInt := by omega
  simp [hr]
theorem bt_crwF {b : Nat} (hb : b < 1024) (h : nI b &&& (nI b - 1) = 0) : bt_crw b = false := (bt_crwX b hb).mp h
theorem bt_crwT {b : Nat} (hb : b < 1024) (h : ¬ nI b &&& (nI b - 1) = 0) : bt_crw b = true := by
  cases hc : bt_crw b with
  | true => rfl
  | false => exact absurd ((bt_crwX b hb).mpr hc) h
theorem bt_nf {b : Bool} (h : ¬ b = true) : b = false := by
  cases b with
  | true => exact absurd rfl h
  | false => rfl
theorem bt_in10 {n : Int32} (h1 : ¬ n < 0) (h2 : ¬ 10 ≤ n) : vp_in n 10 := by
  rw [vp_in_iff]
  simp only [Int32.lt_iff_toInt_lt, Int32.le_iff_toInt_le] at h1 h2
  have h0 : (0 : Int32).toInt = 0 := by decide
  have h8 : (10 : Int32).toInt = 10 := by decide
  omega
theorem bt_in10m {n : Int32} (h1 : ¬ n < 0) (h2 : ¬ 9 < n) : vp_in n 10 := by
  rw [vp_in_iff]
  simp only [Int32.lt_iff_toInt_lt] at h1 h2
  have h0 : (0 : Int32).toInt = 0 := by decide
  have h8 : (9 : Int32).toInt = 9 := by decide
  omega
theorem bt_inCs {g v : Int32} (h : bt_tree g v = true) (hs : ¬ v = -1) : vp_in (g * 16 + v) 128 := by
  obtain ⟨i, hi, rfl⟩ := bt_src0 h hs
  exact bt_inC (bt_tree_s h).1 hi
theorem bt_inCsm {g v : Int32} (h : bt_tree g v = true) (hs : ¬ v = -1) : vp_in (16 * g + v) 128 := by
  rw [bt_mulc 16 g]
  exact bt_inCs h hs
theorem bt_inB' : ∀ i, i < 136 → ¬ (17 * nI (i / 17) + (nI (i % 17) - 1) + 1 < 0 ∨ 136 ≤ (17 * nI (i / 17) + (nI (i % 17) - 1) + 1).toNatClampNeg) := by decide +kernel
theorem bt_inB {i : Nat} (h : i < 136) : vp_in (17 * nI (i / 17) + (nI (i % 17) - 1) + 1) 136 := bt_inB' i h
theorem bt_ixB : ∀ i, i < 136 → (17 * nI (i / 17) + (nI (i % 17) - 1) + 1).toNatClampNeg = i := by decide +kernel
theorem bt_cl_le (x : Int32) : bt_cl x ≤ 9 := by
  unfold bt_cl
  split
  · omega
  · split
    · omega
    · rename_i h1 h2
      have := bt_in10m h1 h2
      have h3 : x.toNatClampNeg < 10 := Nat.not_le.mp fun q => this (Or.inr q)
      omega
theorem bt_cl_eq (x : Int32) : nI (bt_cl x) = if x < 0 then 0 else if 9 < x then 9 else x := by
  unfold bt_cl
  split
  · rfl
  · split
    · rfl
    · rename_i h1 h2
      obtain ⟨i, hi, e⟩ := vp_in_of (bt_in10m h1 h2) (by decide)
      rw [e, nI_clamp (by omega)]
theorem bt_clX (x : Int32) : (if 0 < (if x < 9 then x else 9) then (if x < 9 then x else 9) else 0) = nI (bt_cl x) := by
  rw [bt_cl_eq]
  grind
section JC
variable {told : Nat → Bool} {was : Bool} {ix : Nat → Nat} {fr : Int32} {u : Nat → Int32} {k : Nat}
theorem bt_jc_no (h : told k = false) : bt_jc told was ix fr u (k + 1) = upd (bt_jc told was ix fr u k) (ix k) (-1) := by
  rw [bt_jc_s, h, if_neg (by decide)]
theorem bt_jc_keep (h : told k = true) (h1 : was = true) (h2 : ¬ bt_jc told was ix fr u k (ix k) = -1) : bt_jc told was ix fr u (k + 1) = bt_jc told was ix fr u k := by
  rw [bt_jc_s, if_pos h, if_pos ⟨h1, h2⟩]
theorem bt_jc_new1 (h : told k = true) (h1 : was = false) : bt_jc told was ix fr u (k + 1) = upd (bt_jc told was ix fr u k) (ix k) fr := by
  rw [bt_jc_s, if_pos h, if_neg (fun q => by rw [h1] at q; exact absurd q.1 (by decide))]
theorem bt_jc_new2 (h : told k = true) (h2 : bt_jc told was ix fr u k (ix k) = -1) : bt_jc told was ix fr u (k + 1) = upd (bt_jc told was ix fr u k) (ix k) fr := by
  rw [bt_jc_s, if_pos h, if_neg (fun q => q.2 h2)]
end JC
theorem bt_mjk {told : Nat → Bool} {was : Bool} {ix : Nat → Nat} {fr : Int32} {u : Nat → Int32} {k : Nat} (h : (!(was && !decide (bt_jc told was ix fr u k (ix k) = -1))) = false) (ht : told k = true) : bt_jc told was ix fr u (k + 1) = bt_jc told was ix fr u k := by
  have h2 : was = true ∧ ¬ bt_jc told was ix fr u k (ix k) = -1 := by simpa using h
  exact bt_jc_keep ht h2.1 h2.2
theorem bt_mjn {told : Nat → Bool} {was : Bool} {ix : Nat → Nat} {fr : Int32} {u : Nat → Int32} {k : Nat} (h : (!(was && !decide (bt_jc told was ix fr u k (ix k) = -1))) = true) (ht : told k = true) : bt_jc told was ix fr u (k + 1) = upd (bt_jc told was ix fr u k) (ix k) fr := by
  rw [bt_jc_s, if_pos ht, if_neg]
  intro q
  have e : (was && !decide (bt_jc told was ix fr u k (ix k) = -1)) = true := by
    rw [Bool.and_eq_true]
    exact ⟨q.1, by rw [decide_eq_false q.2]; rfl⟩
  rw [e] at h
  exact absurd h (by decide)
theorem bt_nw1 {w : Bool} {x : Int32} (h : w = false) : (1 : Int32) = bt_B (!(w && !decide (x = -1))) := by
  rw [h]
  rfl
theorem bt_nw2 {w : Bool} {x : Int32} (h : x = -1) : (1 : Int32) = bt_B (!(w && !decide (x = -1))) := by
  rw [decide_eq_true h]
  cases w <;> rfl
theorem bt_nw3 {w : Bool} {x : Int32} (h1 : w = true) (h2 : ¬ x = -1) : (0 : Int32) = bt_B (!(w && !decide (x = -1))) := by
  rw [h1, decide_eq_false h2]
  rfl
end
section
/-! what each method answers and leaves, in plain words; xs_: BranchTimes, ms_: BranchTimesModel -/
/-- BranchTimes' cells: me = k, time = t, nearTill a, membersTill b, joinedTill j, cutFrom u -/
abbrev wX (h a1 a2 a3 a4 : Nat) (d : ClassId) (k : Nat) (t : Int32) (a b j u : Nat → Int32) : va_W := [(h, .inr (0, [.int (nI k), .int t, .ref a1, .ref a2, .ref a3, .ref a4])), (a1, .inl (d, 10, .inl a)), (a2, .inl (d, 8, .inl b)), (a3, .inl (d, 136, .inl j)), (a4, .inl (d, 128, .inl u))]
/-- BranchTimesModel's cells: me = k, time = t, helloAt h, reportAt r, leftTill f, joinAt j, prunedTill q, cutFrom u -/
abbrev wM (o b1 b2 b3 b4 b5 b6 : Nat) (d : ClassId) (k : Nat) (t : Int32) (h r f j q u : Nat → Int32) : va_W := [(o, .inr (1, [.int (nI k), .int t, .ref b1, .ref b2, .ref b3, .ref b4, .ref b5, .ref b6])), (b1, .inl (d, 10, .inl h)), (b2, .inl (d, 8, .inl r)), (b3, .inl (d, 8, .inl f)), (b4, .inl (d, 136, .inl j)), (b5, .inl (d, 136, .inl q)), (b6, .inl (d, 128, .inl u))]
def bt_tickR (t n : Int32) : Int32 := if bt_tk t n = true then t + n else -1
def bt_tickT (t n : Int32) : Int32 := if bt_tk t n = true then t + n else t
-- ===== BranchTimes
def xs_near (t : Int32) (a : Nat → Int32) : Nat := bt_bits (fun i => !decide (a i ≤ t)) 10
def xs_hok (k : Nat) (n : Int32) : Bool := !decide (n < 0) && (!decide (10 ≤ n) && !decide (n = nI k))
def xs_helloA (k : Nat) (t : Int32) (a : Nat → Int32) (n : Int32) : Nat → Int32 := if xs_hok k n = true then upd a n.toNatClampNeg (t + 65) else a
def xs_reportB (t : Int32) (b : Nat → Int32) (g : Int32) : Nat → Int32 := if bt_grp g = true then upd b g.toNatClampNeg (t + 60) else b
def xs_lok (k : Nat) (t : Int32) (a b : Nat → Int32) (g : Int32) : Bool := bt_grp g && (!decide (b g.toNatClampNeg ≤ t) && bt_ask (xs_near t a) k)
def xs_leaveB (k : Nat) (t : Int32) (a b : Nat → Int32) (g : Int32) : Nat → Int32 := if xs_lok k t a b g = true then upd b g.toNatClampNeg (if t + 4 < b g.toNatClampNeg then t + 4 else b g.toNatClampNeg) else b
def xs_jd (t : Int32) (j : Nat → Int32) (g s : Int32) : Bool := !decide (j (g * 17 + s + 1).toNatClampNeg ≤ t)
def xs_fr (t : Int32) (a : Nat → Int32) : Int32 := t + (if bt_crw (xs_near t a) = true then 3 else 0)
def xs_joinJ (t : Int32) (j : Nat → Int32) (g s : Int32) : Nat → Int32 := if bt_tree g s = true then upd j (g * 17 + s + 1).toNatClampNeg (t + 70) else j
def xs_told (z : Int32) (i : Nat) : Bool := !decide (z >>> (nI i &&& 31) &&& 1 = 0)
def xs_ix (g : Int32) (i : Nat) : Nat := (g * 16 + nI i).toNatClampNeg
def xs_joinU (t : Int32) (a j u : Nat → Int32) (g s z : Int32) : Nat → Int32 := if bt_tree g s = true ∧ s = -1 then bt_jc (xs_told z) (xs_jd t j g s) (xs_ix g) (xs_fr t a) u 16 else u
def xs_pok (t : Int32) (j : Nat → Int32) (g s : Int32) : Bool := bt_tree g s && xs_jd t j g s
def xs_pruneJ (t : Int32) (a j : Nat → Int32) (g s : Int32) : Nat → Int32 := if xs_pok t j g s = true then upd j (g * 17 + s + 1).toNatClampNeg (if xs_fr t a < j (g * 17 + s + 1).toNatClampNeg then xs_fr t a else j (g * 17 + s + 1).toNatClampNeg) else j
def xs_joined (t : Int32) (j : Nat → Int32) (g s : Int32) : Int32 := if bt_tree g s = true then (if xs_jd t j g s = true then j (g * 17 + s + 1).toNatClampNeg else 0) else -1
def xs_cut (t : Int32) (j u : Nat → Int32) (g s : Int32) : Int32 := if bt_tree g s = true ∧ ¬ s = -1 then (if xs_jd t j g (-1) = true ∧ ¬ u (g * 16 + s).toNatClampNeg = -1 then u (g * 16 + s).toNatClampNeg else 0) else -1
def xs_members (t : Int32) (b : Nat → Int32) (g : Int32) : Int32 := if bt_grp g = true then (if b g.toNatClampNeg ≤ t then 0 else b g.toNatClampNeg) else -1
def xs_isCut (t : Int32) (u : Nat → Int32) (g s : Int32) : Bool := !decide (u (g * 16 + s).toNatClampNeg = -1) && !decide (t < u (g * 16 + s).toNatClampNeg)
def xs_go (k : Nat) (t : Int32) (a b j u : Nat → Int32) (g s : Int32) : Bool := (xs_jd t j g (-1) && !xs_isCut t u g s) || (xs_jd t j g s || (!decide (b g.toNatClampNeg ≤ t) && bt_fst (xs_near t a) k))
def xs_goes (k : Nat) (t : Int32) (a b j u : Nat → Int32) (g : Int32) : Int32 := if bt_grp g = true then nI (bt_bits (fun i => xs_go k t a b j u g (nI i)) 16) else -1
def xs_groups (k : Nat) (t : Int32) (a b j u : Nat → Int32) : Nat := bt_bits (fun i => !decide (xs_goes k t a b j u (nI i) = 0)) 8
def xs_branches (t : Int32) (j : Nat → Int32) : Nat := bt_cnt (fun i => !decide (j i ≤ t)) 136
def xs_look (k : Nat) (t : Int32) (a b j u : Nat → Int32) (w : Int32) : Int32 := if w = 0 then t else if w = 1 then nI (xs_near t a) else if w = 2 then bt_B (bt_fst (xs_near t a) k) else if w = 3 then bt_B (bt_ask (xs_near t a) k) else if w = 4 then bt_B (bt_crw (xs_near t a)) else if w = 5 then nI k else if w = 6 then nI (xs_groups k t a b j u) else if w = 7 then nI (xs_branches t j) else -1
-- ===== BranchTimesModel
def ms_nb (t : Int32) (h : Nat → Int32) : Nat := bt_bits (fun i => !decide (h i = -1) && !decide (h i + 65 ≤ t)) 10
def ms_hok (k : Nat) (n : Int32) : Bool := !decide (n < 0) && (!decide (9 < n) && !decide (n = nI k))
def ms_helloH (k : Nat) (t : Int32) (h : Nat → Int32) (n : Int32) : Nat → Int32 := if ms_hok k n = true then upd h n.toNatClampNeg t else h
def ms_mv (r f : Nat → Int32) (i : Nat) : Int32 := if r i + 60 ≤ f i then r i + 60 else f i
def ms_mt (t : Int32) (r f : Nat → Int32) (g : Int32) : Int32 := if r g.toNatClampNeg = -1 then 0 else if ms_mv r f g.toNatClampNeg ≤ t then 0 else ms_mv r f g.toNatClampNeg
def ms_reportR (t : Int32) (r : Nat → Int32) (g : Int32) : Nat → Int32 := if bt_grp g = true then upd r g.toNatClampNeg t else r
def ms_reportF (f : Nat → Int32) (g : Int32) : Nat → Int32 := if bt_grp g = true then upd f g.toNatClampNeg 1000000 else f
def ms_lok (k : Nat) (t : Int32) (h r f : Nat → Int32) (g : Int32) : Bool := bt_grp g && (!decide (ms_mt t r f g = 0) && bt_ask (ms_nb t h) k)
def ms_leaveF (k : Nat) (t : Int32) (h r f : Nat → Int32) (g : Int32) : Nat → Int32 := if ms_lok k t h r f g = true then upd f g.toNatClampNeg (if f g.toNatClampNeg ≤ t + 4 then f g.toNatClampNeg else t + 4) else f
def ms_members (t : Int32) (r f : Nat → Int32) (g : Int32) : Int32 := if bt_grp g = true then ms_mt t r f g else -1
def ms_tv (j q : Nat → Int32) (i : Nat) : Int32 := if j i + 70 ≤ q i then j i + 70 else q i
def ms_tl (t : Int32) (j q : Nat → Int32) (g s : Int32) : Int32 := if j (17 * g + s + 1).toNatClampNeg = -1 then 0 else if ms_tv j q (17 * g + s + 1).toNatClampNeg ≤ t then 0 else ms_tv j q (17 * g + s + 1).toNatClampNeg
def ms_was (t : Int32) (j q : Nat → Int32) (g s : Int32) : Bool := !decide (ms_tl t j q g s ≤ 0)
def ms_fr (t : Int32) (h : Nat → Int32) : Int32 := if bt_crw (ms_nb t h) = true then t + 3 else t
def ms_joinJ (t : Int32) (j : Nat → Int32) (g s : Int32) : Nat → Int32 := if bt_tree g s = true then upd j (17 * g + s + 1).toNatClampNeg t else j
def ms_joinQ (q : Nat → Int32) (g s : Int32) : Nat → Int32 := if bt_tree g s = true then upd q (17 * g + s + 1).toNatClampNeg 1000000 else q
def ms_told (z : Int32) (i : Nat) : Bool := decide (z >>> (nI i &&& 31) &&& 1 = 1)
def ms_ix (g : Int32) (i : Nat) : Nat := (16 * g + nI i).toNatClampNeg
def ms_joinU (t : Int32) (h j q u : Nat → Int32) (g s z : Int32) : Nat → Int32 := if bt_tree g s = true ∧ s = -1 then bt_jc (ms_told z) (ms_was t j q g s) (ms_ix g) (ms_fr t h) u 16 else u
def ms_pok (t : Int32) (j q : Nat → Int32) (g s : Int32) : Bool := bt_tree g s && !decide (ms_tl t j q g s = 0)
def ms_pruneQ (t : Int32) (h j q : Nat → Int32) (g s : Int32) : Nat → Int32 := if ms_pok t j q g s = true then upd q (17 * g + s + 1).toNatClampNeg (if q (17 * g + s + 1).toNatClampNeg ≤ ms_fr t h then q (17 * g + s + 1).toNatClampNeg else ms_fr t h) else q
def ms_joined (t : Int32) (j q : Nat → Int32) (g s : Int32) : Int32 := if bt_tree g s = true then ms_tl t j q g s else -1
def ms_cut (t : Int32) (j q u : Nat → Int32) (g s : Int32) : Int32 := if bt_tree g s = true ∧ ¬ s = -1 then (if ms_tl t j q g (-1) = 0 ∨ u (16 * g + s).toNatClampNeg = -1 then 0 else u (16 * g + s).toNatClampNeg) else -1
def ms_co (t : Int32) (u : Nat → Int32) (g s : Int32) : Bool := !decide (u (16 * g + s).toNatClampNeg = -1) && !decide (t < u (16 * g + s).toNatClampNeg)
def ms_own (k : Nat) (t : Int32) (h r f : Nat → Int32) (g : Int32) : Bool := !decide (ms_mt t r f g ≤ 0) && bt_fst (ms_nb t h) k
def ms_go (k : Nat) (t : Int32) (h r f j q u : Nat → Int32) (g s : Int32) : Bool := ms_own k t h r f g || (decide (0 < ms_tl t j q g s) || (!decide (ms_tl t j q g (-1) ≤ 0) && !ms_co t u g s))
def ms_goes (k : Nat) (t : Int32) (h r f j q u : Nat → Int32) (g : Int32) : Int32 := if bt_grp g = true then nI (bt_bits (fun i => ms_go k t h r f j q u g (nI i)) 16) else -1
def ms_going (k : Nat) (t : Int32) (h r f j q u : Nat → Int32) : Nat := bt_bits (fun i => !decide (ms_goes k t h r f j q u (nI i) = 0)) 8
def ms_branches (t : Int32) (j q : Nat → Int32) : Nat := bt_cnt (fun i => !decide (ms_tl t j q (nI (i / 17)) (nI (i % 17) - 1) ≤ 0)) 136
def ms_look (k : Nat) (t : Int32) (h r f j q u : Nat → Int32) (w : Int32) : Int32 := if w = 0 then t else if w = 1 then nI (ms_nb t h) else if w = 2 then bt_B (bt_fst (ms_nb t h) k) else if w = 3 then bt_B (bt_ask (ms_nb t h) k) else if w = 4 then bt_B (bt_crw (ms_nb t h)) else if w = 5 then nI k else if w = 6 then nI (ms_going k t h r f j q u) else if w = 7 then nI (ms_branches t j q) else -1
theorem xs_near_lt (t : Int32) (a : Nat → Int32) : xs_near t a < 1024 := bt_bits_lt _ 10
theorem ms_nb_lt (t : Int32) (h : Nat → Int32) : ms_nb t h < 1024 := bt_bits_lt _ 10
end
section
section XA
variable (l : Launch) (D : va_G) (h a1 a2 a3 a4 : Nat) (d : ClassId) (k : Nat) (t : Int32) (a b j u : Nat → Int32)
set_option maxHeartbeats 4000000 in
set_option maxRecDepth 100000 in
theorem rX_isGroup (l : Launch) (g : Int32) : Met l yX1_isGroup (ws_ yX1_isGroup cX1_isGroup 1 (some .boolean)) ({ frames := 0, cells := 0, slots := 0, locals := 0 } : Room) (va_Pc [.int g] (fun _ => True)) (QcRead (bt_B (bt_grp g))) 0 0 (fun _ => False) := by
  refine bt_met (by decide) (Nat.le_of_ble_eq_true rfl) ?_
  intro p e s m below meth c ls hx hb hr hlk hml hown hts hnm hl hB
  have hown : s.vm.findClass RX1 = some m.cls := hown
  have hl : lv_has ls 1 [(0, .int g)] := hl
  refine lv_iload_n hx hb dX1_isGroup_0 rfl (lv_at hl 0 rfl) ?_
  refine lv_if_lt (tgt := 14) hx hb dX1_isGroup_1 (by decide) (fun c_1 => ?_) (fun c_1 => ?_)
  · refine lv_iconst (v := 0) hx hb dX1_isGroup_14 (by decide) ?_
    exact bt_rz hx hb hr hlk (by simp [bt_B, bt_grp, c_1]) dX1_isGroup_15
  · refine lv_iload_n hx hb dX1_isGroup_4 rfl (lv_at hl 0 rfl) ?_
    refine lv_bipush (v := 8) hx hb dX1_isGroup_5 (by decide) ?_
    refine lv_icmp_ge (tgt := 14) hx hb dX1_isGroup_7 (by decide) (fun c_7 => ?_) (fun c_7 => ?_)
    · refine lv_iconst (v := 0) hx hb dX1_isGroup_14 (by decide) ?_
      exact bt_rz hx hb hr hlk (by simp [bt_B, bt_grp, c_1, c_7]) dX1_isGroup_15
    · refine lv_iconst (v := 1) hx hb dX1_isGroup_10 (by decide) ?_
      refine lv_goto (tgt := 15) hx hb dX1_isGroup_11 (by decide) ?_
      exact bt_rz hx hb hr hlk (by simp [bt_B, bt_grp, c_1, c_7]) dX1_isGroup_15
set_option maxHeartbeats 4000000 in
set_option maxRecDepth 100000 in
theorem rX_isTree (l : Launch) (g : Int32) (v : Int32) : Met l yX1_isTree (ws_ yX1_isTree cX1_isTree 2 (some .boolean)) ({ frames := 1, cells := 0, slots := 0, locals := 20 } : Room) (va_Pc [.int g, .int v] (fun _ => True)) (QcRead (bt_B (bt_tree g v))) 0 0 (fun _ => False) := by
  refine bt_met (by decide) (Nat.le_of_ble_eq_true rfl) ?_
  intro p e s m below meth c ls hx hb hr hlk hml hown hts hnm hl hB
  have hown : s.vm.findClass RX1 = some m.cls := hown
  have hl : lv_has ls 2 [(0, .int g), (1, .int v)] := hl
  refine lv_iload_n hx hb dX1_isTree_0 rfl (lv_at hl 0 rfl) ?_
  refine bt_cS (As := [.int g]) (rest := []) ⟨hx, hb, hml, hown, hts⟩ (rX_isGroup l g) 1 (lw_S q73 q74 q19 q75) ⟨rfl, rfl⟩ (by decide +kernel) ⟨Nat.le_of_ble_eq_true rfl, Nat.le_of_ble_eq_true rfl⟩ rfl hl.1 rfl (Nat.le_of_ble_eq_true rfl) dX1_isTree_1 ⟨Nat.zero_le _, Nat.zero_le _⟩ ?_
  refine lv_if_eq (tgt := 22) hx hb dX1_isTree_4 (by decide) (fun c_4 => ?_) (fun c_4 => ?_)
  · have c_4 := bt_B0 c_4
    refine lv_iconst (v := 0) hx hb dX1_isTree_22 (by decide) ?_
    exact bt_rz hx hb hr hlk (by simp [bt_B, bt_tree, c_4]) dX1_isTree_23
  · have c_4 := bt_B1 c_4
    refine lv_iload_n hx hb dX1_isTree_7 rfl (lv_at hl 1 rfl) ?_
    refine lv_iconst (v := -1) hx hb dX1_isTree_8 (by decide) ?_
    refine lv_icmp_lt (tgt := 22) hx hb dX1_isTree_9 (by decide) (fun c_9 => ?_) (fun c_9 => ?_)
    · refine lv_iconst (v := 0) hx hb dX1_isTree_22 (by decide) ?_
      exact bt_rz hx hb hr hlk (by simp [bt_B, bt_tree, c_4, c_9]) dX1_isTree_23
    · refine lv_iload_n hx hb dX1_isTree_12 rfl (lv_at hl 1 rfl) ?_
      refine lv_bipush (v := 16) hx hb dX1_isTree_13 (by decide) ?_
      refine lv_icmp_ge (tgt := 22) hx hb dX1_isTree_15 (by decide) (fun c_15 => ?_) (fun c_15 => ?_)
      · refine lv_iconst (v := 0) hx hb dX1_isTree_22 (by decide) ?_
        exact bt_rz hx hb hr hlk (by simp [bt_B, bt_tree, c_4, c_9, c_15]) dX1_isTree_23
      · refine lv_iconst (v := 1) hx hb dX1_isTree_18 (by decide) ?_
        refine lv_goto (tgt := 23) hx hb dX1_isTree_19 (by decide) ?_
        exact bt_rz hx hb hr hlk (by simp [bt_B, bt_tree, c_4, c_9, c_15]) dX1_isTree_23
set_option maxHeartbeats 4000000 in
set_option maxRecDepth 100000 in
theorem rX_near : Met l yX1_near (ws_ yX1_near cX1_near 3 (some .int)) ({ frames := 0, cells := 0, slots := 0, locals := 0 } : Room) (va_Pc [.ref h] (bt_RP D [(d, .int)] (wX h a1 a2 a3 a4 d k t a b j u))) (QcRead (nI (xs_near t a))) 0 0 (fun _ => False) := by
  refine bt_met (by decide) (Nat.le_of_ble_eq_true rfl) ?_
  intro p e s m below meth c ls hx hb hr hlk hml hown hts hnm hl hB
  obtain ⟨hP, hK⟩ := hB
  have hown : s.vm.findClass RX1 = some m.cls := hown
  have hl : lv_has ls 3 [(0, .ref h)] := hl
  refine lv_iconst (v := 0) hx hb dX1_near_0 (by decide) ?_
  refine lv_istore_n (lv' := [(1, .int 0), (0, .ref h)]) hx hb dX1_near_1 rfl hl (by decide) rfl (fun ls hl => ?_)
  refine lv_iconst (v := 0) hx hb dX1_near_2 (by decide) ?_
  refine lv_istore_n (lv' := [(2, .int 0), (1, .int 0), (0, .ref h)]) hx hb dX1_near_3 rfl hl (by decide) rfl (fun ls hl => ?_)
  refine bt_loop 10 (fun i ls => lv_has ls 3 [(0, .ref h), (1, .int (nI (bt_bits (fun i => !decide (a i ≤ t)) i))), (2, .int (nI i))]) ?_ ?_ 10 0 ls (by decide) (lv_sub hl [2, 1, 0] rfl)
  · intro ls hl
    have hl : lv_has ls 3 [(0, .ref h), (1, .int (nI (bt_bits (fun i => !decide (a i ≤ t)) 10))), (2, .int (nI 10))] := hl
    refine lv_iload_n hx hb dX1_near_4 rfl (lv_at hl 2 rfl) ?_
    refine lv_bipush (v := 10) hx hb dX1_near_5 (by decide) ?_
    refine lv_icmp_ge (tgt := 39) hx hb dX1_near_7 (by decide) (fun _ => ?_) (fun c_7 => absurd (by decide) c_7)
    refine lv_iload_n hx hb dX1_near_39 rfl (lv_at hl 1 rfl) ?_
    exact bt_ri hx hb hr hlk (rfl) dX1_near_40
  · intro i ls hi hl ih
    have hl : lv_has ls 3 [(0, .ref h), (1, .int (nI (bt_bits (fun i => !decide (a i ≤ t)) i))), (2, .int (nI i))] := hl
    refine lv_iload_n hx hb dX1_near_4 rfl (lv_at hl 2 rfl) ?_
    refine lv_bipush (v := 10) hx hb dX1_near_5 (by decide) ?_
    refine lv_icmp_ge (tgt := 39) hx hb dX1_near_7 (by decide) (fun c_7 => absurd c_7 (nI_ge hi (by decide))) (fun _ => ?_)
    refine lv_iload_n hx hb dX1_near_10 rfl (lv_at hl 1 rfl) ?_
    refine lv_aload_n hx hb dX1_near_11 rfl (lv_at hl 0 rfl) ?_
    refine va_get (D := D) (ci := 0) (v := .int t) (C := RX1) (T := TX1) (N := 6) hx hb hts in_X1 hown hK hP 0 rfl rfl 1 (by decide) (hts _ q41) (fun _ h9 => h9) rfl dX1_near_12 ?_
    refine lv_aload_n hx hb dX1_near_15 rfl (lv_at hl 0 rfl) ?_
    refine va_get (D := D) (ci := 0) (v := .ref a1) (C := RX1) (T := TX1) (N := 6) hx hb hts in_X1 hown hK hP 0 rfl rfl 2 (by decide) (hts _ q42) (fun _ h9 => h9) rfl dX1_near_16 ?_
    refine lv_iload_n hx hb dX1_near_19 rfl (lv_at hl 2 rfl) ?_
    refine bt_ild hx hb hK hP 1 0 rfl rfl hi (by decide) dX1_near_20 ?_
    refine lv_icmp_ge (tgt := 30) hx hb dX1_near_21 (by decide) (fun c_21 => ?_) (fun c_21 => ?_)
    · refine lv_iconst (v := 0) hx hb dX1_near_30 (by decide) ?_
      refine lv_ior hx hb dX1_near_31 ?_
      refine bt_top (y := nI (bt_bits (fun i => !decide (a i ≤ t)) (i + 1))) (bt_bits00 (by simp [c_21])) ?_
      refine lv_istore_n (lv' := [(1, .int (nI (bt_bits (fun i => !decide (a i ≤ t)) (i + 1)))), (0, .ref h), (2, .int (nI i))]) hx hb dX1_near_32 rfl hl (by decide) rfl (fun ls hl => ?_)
      refine lv_iinc (v := nI (i + 1)) (lv' := [(2, .int (nI (i + 1))), (1, .int (nI (bt_bits (fun i => !decide (a i ≤ t)) (i + 1)))), (0, .ref h)]) hx hb dX1_near_33 hl (k := 2) rfl (nI_1 i) (by decide) rfl (fun ls hl => ?_)
      refine lv_goto (tgt := 4) hx hb dX1_near_36 (by decide) ?_
      have hl2 := lv_sub (l' := [(0, .ref h), (1, .int (nI (bt_bits (fun i => !decide (a i ≤ t)) (i + 1)))), (2, .int (nI (i + 1)))]) hl [2, 1, 0] rfl
      exact ih ls hl2
    · refine lv_iconst (v := 1) hx hb dX1_near_24 (by decide) ?_
      refine lv_iload_n hx hb dX1_near_25 rfl (lv_at hl 2 rfl) ?_
      refine lv_ishl hx hb dX1_near_26 ?_
      refine lv_goto (tgt := 31) hx hb dX1_near_27 (by decide) ?_
      refine lv_ior hx hb dX1_near_31 ?_
      refine bt_top (y := nI (bt_bits (fun i => !decide (a i ≤ t)) (i + 1))) (bt_bits1 (by omega) (by simp [c_21])) ?_
      refine lv_istore_n (lv' := [(1, .int (nI (bt_bits (fun i => !decide (a i ≤ t)) (i + 1)))), (0, .ref h), (2, .int (nI i))]) hx hb dX1_near_32 rfl hl (by decide) rfl (fun ls hl => ?_)
      refine lv_iinc (v := nI (i + 1)) (lv' := [(2, .int (nI (i + 1))), (1, .int (nI (bt_bits (fun i => !decide (a i ≤ t)) (i + 1)))), (0, .ref h)]) hx hb dX1_near_33 hl (k := 2) rfl (nI_1 i) (by decide) rfl (fun ls hl => ?_)
      refine lv_goto (tgt := 4) hx hb dX1_near_36 (by decide) ?_
      have hl2 := lv_sub (l' := [(0, .ref h), (1, .int (nI (bt_bits (fun i => !decide (a i ≤ t)) (i + 1)))), (2, .int (nI (i + 1)))]) hl [2, 1, 0] rfl
      exact ih ls hl2
set_option maxHeartbeats 4000000 in
set_option maxRecDepth 100000 in
theorem rX_isCrowded : Met l yX1_isCrowded (ws_ yX1_isCrowded cX1_isCrowded 2 (some .boolean)) ({ frames := 1, cells := 0, slots := 0, locals := 22 } : Room) (va_Pc [.ref h] (bt_RP D [(d, .int)] (wX h a1 a2 a3 a4 d k t a b j u))) (QcRead (bt_B (bt_crw (xs_near t a)))) 0 0 (fun _ => False) := by
  refine bt_met (by decide) (Nat.le_of_ble_eq_true rfl) ?_
  intro p e s m below meth c ls hx hb hr hlk hml hown hts hnm hl hB
  obtain ⟨hP, hK⟩ := hB
  have hown : s.vm.findClass RX1 = some m.cls := hown
  have hl : lv_has ls 2 [(0, .ref h)] := hl
  refine lv_aload_n hx hb dX1_isCrowded_0 rfl (lv_at hl 0 rfl) ?_
  refine bt_cV (As := []) (rest := []) (b := h) (ci := 0) (q0 := 0) ⟨hx, hb, hml, hown, hts⟩ (rX_near l D h a1 a2 a3 a4 d k t a b j u  ) 0 (lw_V q84 q86 qs1 q19 q87) ⟨rfl, rfl⟩ (by decide +kernel) ⟨Nat.le_of_ble_eq_true rfl, Nat.le_of_ble_eq_true rfl⟩ hK hP rfl rfl rfl hl.1 rfl (Nat.le_of_ble_eq_true rfl) dX1_isCrowded_1 ⟨Nat.zero_le _, Nat.zero_le _⟩ ?_
  refine lv_istore_n (lv' := [(1, .int (nI (xs_near t a))), (0, .ref h)]) hx hb dX1_isCrowded_4 rfl hl (by decide) rfl (fun ls hl => ?_)
  refine lv_iload_n hx hb dX1_isCrowded_5 rfl (lv_at hl 0 rfl) ?_
  refine lv_iload_n hx hb dX1_isCrowded_6 rfl (lv_at hl 0 rfl) ?_
  refine lv_iconst (v := 1) hx hb dX1_isCrowded_7 (by decide) ?_
  refine lv_isub hx hb dX1_isCrowded_8 ?_
  refine lv_iand hx hb dX1_isCrowded_9 ?_
  refine lv_if_eq (tgt := 17) hx hb dX1_isCrowded_10 (by decide) (fun c_10 => ?_) (fun c_10 => ?_)
  · have c_10 := bt_crwF (xs_near_lt t a) c_10
    refine lv_iconst (v := 0) hx hb dX1_isCrowded_17 (by decide) ?_
    exact bt_rz hx hb hr hlk (by simp [bt_B, c_10]) dX1_isCrowded_18
  · have c_10 := bt_crwT (xs_near_lt t a) c_10
    refine lv_iconst (v := 1) hx hb dX1_isCrowded_13 (by decide) ?_
    refine lv_goto (tgt := 18) hx hb dX1_isCrowded_14 (by decide) ?_
    exact bt_rz hx hb hr hlk (by simp [bt_B, c_10]) dX1_isCrowded_18
set_option maxHeartbeats 4000000 in
set_option maxRecDepth 100000 in
theorem rX_isFirst : Met l yX1_isFirst (ws_ yX1_isFirst cX1_isFirst 1 (some .boolean)) ({ frames := 1, cells := 0, slots := 0, locals := 22 } : Room) (va_Pc [.ref h] (bt_RP D [(d, .int)] (wX h a1 a2 a3 a4 d k t a b j u))) (QcRead (bt_B (bt_fst (xs_near t a) k))) 0 0 (fun _ => False) := by
  refine bt_met (by decide) (Nat.le_of_ble_eq_true rfl) ?_
  intro p e s m below meth c ls hx hb hr hlk hml hown hts hnm hl hB
  obtain ⟨hP, hK⟩ := hB
  have hown : s.vm.findClass RX1 = some m.cls := hown
  have hl : lv_has ls 1 [(0, .ref h)] := hl
  refine lv_aload_n hx hb dX1_isFirst_0 rfl (lv_at hl 0 rfl) ?_
  refine bt_cV (As := []) (rest := []) (b := h) (ci := 0) (q0 := 0) ⟨hx, hb, hml, hown, hts⟩ (rX_near l D h a1 a2 a3 a4 d k t a b j u  ) 0 (lw_V q84 q86 qs1 q19 q87) ⟨rfl, rfl⟩ (by decide +kernel) ⟨Nat.le_of_ble_eq_true rfl, Nat.le_of_ble_eq_true rfl⟩ hK hP rfl rfl rfl hl.1 rfl (Nat.le_of_ble_eq_true rfl) dX1_isFirst_1 ⟨Nat.zero_le _, Nat.zero_le _⟩ ?_
  refine lv_aload_n hx hb dX1_isFirst_4 rfl (lv_at hl 0 rfl) ?_
  refine va_get (D := D) (ci := 0) (v := .int (nI k)) (C := RX1) (T := TX1) (N := 6) hx hb hts in_X1 hown hK hP 0 rfl rfl 0 (by decide) (hts _ q40) (fun _ h9 => h9) rfl dX1_isFirst_5 ?_
  refine lv_ishr hx hb dX1_isFirst_8 ?_
  refine lv_if_ne (tgt := 16) hx hb dX1_isFirst_9 (by decide) (fun c_9 => ?_) (fun c_9 => ?_)
  · refine lv_iconst (v := 0) hx hb dX1_isFirst_16 (by decide) ?_
    exact bt_rz hx hb hr hlk (by simp [bt_B, bt_fst, c_9]) dX1_isFirst_17
  · refine lv_iconst (v := 1) hx hb dX1_isFirst_12 (by decide) ?_
    refine lv_goto (tgt := 17) hx hb dX1_isFirst_13 (by decide) ?_
    exact bt_rz hx hb hr hlk (by simp [bt_B, bt_fst, c_9]) dX1_isFirst_17
set_option maxHeartbeats 4000000 in
set_option maxRecDepth 100000 in
theorem rX_isAsking (hk : k ≤ 9) : Met l yX1_isAsking (ws_ yX1_isAsking cX1_isAsking 1 (some .boolean)) ({ frames := 1, cells := 0, slots := 0, locals := 22 } : Room) (va_Pc [.ref h] (bt_RP D [(d, .int)] (wX h a1 a2 a3 a4 d k t a b j u))) (QcRead (bt_B (bt_ask (xs_near t a) k))) 0 0 (fun _ => False) := by
  refine bt_met (by decide) (Nat.le_of_ble_eq_true rfl) ?_
  intro p e s m below meth c ls hx hb hr hlk hml hown hts hnm hl hB
  obtain ⟨hP, hK⟩ := hB
  have hown : s.vm.findClass RX1 = some m.cls := hown
  have hl : lv_has ls 1 [(0, .ref h)] := hl
  refine lv_aload_n hx hb dX1_isAsking_0 rfl (lv_at hl 0 rfl) ?_
  refine bt_cV (As := []) (rest := []) (b := h) (ci := 0) (q0 := 0) ⟨hx, hb, hml, hown, hts⟩ (rX_near l D h a1 a2 a3 a4 d k t a b j u  ) 0 (lw_V q84 q86 qs1 q19 q87) ⟨rfl, rfl⟩ (by decide +kernel) ⟨Nat.le_of_ble_eq_true rfl, Nat.le_of_ble_eq_true rfl⟩ hK hP rfl rfl rfl hl.1 rfl (Nat.le_of_ble_eq_true rfl) dX1_isAsking_1 ⟨Nat.zero_le _, Nat.zero_le _⟩ ?_
  refine lv_iconst (v := 1) hx hb dX1_isAsking_4 (by decide) ?_
  refine lv_aload_n hx hb dX1_isAsking_5 rfl (lv_at hl 0 rfl) ?_
  refine va_get (D := D) (ci := 0) (v := .int (nI k)) (C := RX1) (T := TX1) (N := 6) hx hb hts in_X1 hown hK hP 0 rfl rfl 0 (by decide) (hts _ q40) (fun _ h9 => h9) rfl dX1_isAsking_6 ?_
  refine lv_ishl hx hb dX1_isAsking_9 ?_
  refine lv_iconst (v := 1) hx hb dX1_isAsking_10 (by decide) ?_
  refine lv_isub hx hb dX1_isAsking_11 ?_
  refine lv_iand hx hb dX1_isAsking_12 ?_
  refine lv_if_ne (tgt := 20) hx hb dX1_isAsking_13 (by decide) (fun c_13 => ?_) (fun c_13 => ?_)
  · have c_13 := bt_nf (fun q => c_13 ((bt_askX (xs_near_lt t a) hk).mpr q))
    refine lv_iconst (v := 0) hx hb dX1_isAsking_20 (by decide) ?_
    exact bt_rz hx hb hr hlk (by simp [bt_B, c_13]) dX1_isAsking_21
  · have c_13 := (bt_askX (xs_near_lt t a) hk).mp c_13
    refine lv_iconst (v := 1) hx hb dX1_isAsking_16 (by decide) ?_
    refine lv_goto (tgt := 21) hx hb dX1_isAsking_17 (by decide) ?_
    exact bt_rz hx hb hr hlk (by simp [bt_B, c_13]) dX1_isAsking_21
set_option maxHeartbeats 4000000 in
set_option maxRecDepth 100000 in
theorem rX_isJoined (g : Int32) (v : Int32) (hI : vp_in (g * 17 + v + 1) 136) : Met l yX1_isJoined (ws_ yX1_isJoined cX1_isJoined 3 (some .boolean)) ({ frames := 0, cells := 0, slots := 0, locals := 0 } : Room) (va_Pc [.ref h, .int g, .int v] (bt_RP D [(d, .int)] (wX h a1 a2 a3 a4 d k t a b j u))) (QcRead (bt_B (xs_jd t j g v))) 0 0 (fun _ => False) := by
  refine bt_met (by decide) (Nat.le_of_ble_eq_true rfl) ?_
  intro p e s m below meth c ls hx hb hr hlk hml hown hts hnm hl hB
  obtain ⟨hP, hK⟩ := hB
  have hown : s.vm.findClass RX1 = some m.cls := hown
  have hl : lv_has ls 3 [(0, .ref h), (1, .int g), (2, .int v)] := hl
  refine lv_aload_n hx hb dX1_isJoined_0 rfl (lv_at hl 0 rfl) ?_
  refine va_get (D := D) (ci := 0) (v := .int t) (C := RX1) (T := TX1) (N := 6) hx hb hts in_X1 hown hK hP 0 rfl rfl 1 (by decide) (hts _ q41) (fun _ h9 => h9) rfl dX1_isJoined_1 ?_
  refine lv_aload_n hx hb dX1_isJoined_4 rfl (lv_at hl 0 rfl) ?_
  refine va_get (D := D) (ci := 0) (v := .ref a3) (C := RX1) (T := TX1) (N := 6) hx hb hts in_X1 hown hK hP 0 rfl rfl 4 (by decide) (hts _ q44) (fun _ h9 => h9) rfl dX1_isJoined_5 ?_
  refine lv_iload_n hx hb dX1_isJoined_8 rfl (lv_at hl 1 rfl) ?_
  refine lv_bipush (v := 17) hx hb dX1_isJoined_9 (by decide) ?_
  refine lv_imul hx hb dX1_isJoined_11 ?_
  refine lv_iload_n hx hb dX1_isJoined_12 rfl (lv_at hl 2 rfl) ?_
  refine lv_iadd hx hb dX1_isJoined_13 ?_
  refine lv_iconst (v := 1) hx hb dX1_isJoined_14 (by decide) ?_
  refine lv_iadd hx hb dX1_isJoined_15 ?_
  refine va_iald hx hb hK hP 3 0 rfl rfl hI dX1_isJoined_16 ?_
  refine lv_icmp_ge (tgt := 24) hx hb dX1_isJoined_17 (by decide) (fun c_17 => ?_) (fun c_17 => ?_)
  · refine lv_iconst (v := 0) hx hb dX1_isJoined_24 (by decide) ?_
    exact bt_rz hx hb hr hlk (by simp [bt_B, xs_jd, c_17]) dX1_isJoined_25
  · refine lv_iconst (v := 1) hx hb dX1_isJoined_20 (by decide) ?_
    refine lv_goto (tgt := 25) hx hb dX1_isJoined_21 (by decide) ?_
    exact bt_rz hx hb hr hlk (by simp [bt_B, xs_jd, c_17]) dX1_isJoined_25
end XA
end
section
section XB
variable (l : Launch) (D : va_G) (h a1 a2 a3 a4 : Nat) (d : ClassId) (k : Nat) (t : Int32) (a b j u : Nat → Int32)
set_option maxHeartbeats 4000000 in
set_option maxRecDepth 100000 in
theorem wX_tick (n : Int32) (sz : Nat) : Met l yX1_tick (ws_ yX1_tick cX1_tick 2 (some .int)) ({ frames := 0, cells := 0, slots := 0, locals := 0 } : Room) (va_Pc [.ref h, .int n] (bt_MP D [(d, .int)] (wX h a1 a2 a3 a4 d k t a b j u) sz)) (bt_Qi (bt_tickR t n) D [(d, .int)] (wX h a1 a2 a3 a4 d k (bt_tickT t n) a b j u) (va_A (wX h a1 a2 a3 a4 d k t a b j u) sz)) 0 0 (va_A (wX h a1 a2 a3 a4 d k t a b j u) sz) := by
  refine bt_metM (Qc := fun A => bt_Qi (bt_tickR t n) D [(d, .int)] (wX h a1 a2 a3 a4 d k (bt_tickT t n) a b j u) A) (by decide) (Nat.le_of_ble_eq_true rfl) ?_
  intro p e s m below meth c ls A hx hb hr hlk hml hown hts hnm hl hP hK hD hS hA
  have hown : s.vm.findClass RX1 = some m.cls := hown
  have hl : lv_has ls 2 [(0, .ref h), (1, .int n)] := hl
  refine lv_iload_n hx hb dX1_tick_0 rfl (lv_at hl 1 rfl) ?_
  refine lv_iconst (v := 1) hx hb dX1_tick_1 (by decide) ?_
  refine lv_icmp_lt (tgt := 22) hx hb dX1_tick_2 (by decide) (fun c_2 => ?_) (fun c_2 => ?_)
  · refine lv_iconst (v := -1) hx hb dX1_tick_22 (by decide) ?_
    have ew_t : bt_tickT t n = t := by simp [bt_tickR, bt_tickT, bt_tk, c_2]
    exact bt_wi hx hb hr hlk hP hK hD hS (by simp [bt_tickR, bt_tickT, bt_tk, c_2]) (by rw [ew_t]) dX1_tick_23
  · refine lv_iload_n hx hb dX1_tick_5 rfl (lv_at hl 1 rfl) ?_
    refine lv_bipush (v := 100) hx hb dX1_tick_6 (by decide) ?_
    refine lv_icmp_gt (tgt := 22) hx hb dX1_tick_8 (by decide) (fun c_8 => ?_) (fun c_8 => ?_)
    · refine lv_iconst (v := -1) hx hb dX1_tick_22 (by decide) ?_
      have ew_t : bt_tickT t n = t := by simp [bt_tickR, bt_tickT, bt_tk, c_2, c_8]
      exact bt_wi hx hb hr hlk hP hK hD hS (by simp [bt_tickR, bt_tickT, bt_tk, c_2, c_8]) (by rw [ew_t]) dX1_tick_23
    · refine lv_aload_n hx hb dX1_tick_11 rfl (lv_at hl 0 rfl) ?_
      refine va_get (D := D) (ci := 0) (v := .int t) (C := RX1) (T := TX1) (N := 6) hx hb hts in_X1 hown hK hP 0 rfl rfl 1 (by decide) (hts _ q41) (fun _ h9 => h9) rfl dX1_tick_12 ?_
      refine lv_iload_n hx hb dX1_tick_15 rfl (lv_at hl 1 rfl) ?_
      refine lv_iadd hx hb dX1_tick_16 ?_
      refine lv_ldc hx hb hown (hts _ q64) dX1_tick_17 ?_
      refine lv_icmp_le (tgt := 24) hx hb dX1_tick_19 (by decide) (fun c_19 => ?_) (fun c_19 => ?_)
      · refine lv_aload_n hx hb dX1_tick_24 rfl (lv_at hl 0 rfl) ?_
        refine lv_dup hx hb dX1_tick_25 rfl ?_
        refine va_get (D := D) (ci := 0) (v := .int t) (C := RX1) (T := TX1) (N := 6) hx hb hts in_X1 hown hK hP 0 rfl rfl 1 (by decide) (hts _ q41) (fun _ h9 => h9) rfl dX1_tick_26 ?_
        refine lv_iload_n hx hb dX1_tick_29 rfl (lv_at hl 1 rfl) ?_
        refine lv_iadd hx hb dX1_tick_30 ?_
        refine va_put (D := D) (ci := 0) (v := .int (t + n)) (ty := .int) (C := RX1) (T := TX1) (N := 6) hx hb hts in_X1 tyX1 tyX1_ok nmX1 hown hK hP hD hS 0 rfl rfl 1 (by decide) (hts _ q41) (fun _ h9 => h9) rfl (by decide +kernel) rfl rfl (Nat.le_of_ble_eq_true rfl) dX1_tick_31 (fun H locs hP hD hS => ?_)
        have hP : va_P D vwCl (wX h a1 a2 a3 a4 d k (t + n) a b j u) H := hP
        have hD : va_D A (wX h a1 a2 a3 a4 d k (t + n) a b j u) := hD
        refine lv_aload_n hx hb dX1_tick_34 rfl (lv_at hl 0 rfl) ?_
        refine va_get (D := D) (ci := 0) (v := .int (t + n)) (C := RX1) (T := TX1) (N := 6) hx hb hts in_X1 hown hK hP 0 rfl rfl 1 (by decide) (hts _ q41) (fun _ h9 => h9) rfl dX1_tick_35 ?_
        have ew_t : bt_tickT t n = t + n := by simp [bt_tickR, bt_tickT, bt_tk, c_2, c_8, c_19]
        exact bt_wi hx hb hr hlk hP hK hD hS (by simp [bt_tickR, bt_tickT, bt_tk, c_2, c_8, c_19]) (by rw [ew_t]) dX1_tick_38
      · refine lv_iconst (v := -1) hx hb dX1_tick_22 (by decide) ?_
        have ew_t : bt_tickT t n = t := by simp [bt_tickR, bt_tickT, bt_tk, c_2, c_8, c_19]
        exact bt_wi hx hb hr hlk hP hK hD hS (by simp [bt_tickR, bt_tickT, bt_tk, c_2, c_8, c_19]) (by rw [ew_t]) dX1_tick_23
set_option maxHeartbeats 4000000 in
set_option maxRecDepth 100000 in
theorem wX_hello (n : Int32) (sz : Nat) : Met l yX1_hello (ws_ yX1_hello cX1_hello 2 (some .boolean)) ({ frames := 0, cells := 0, slots := 0, locals := 0 } : Room) (va_Pc [.ref h, .int n] (bt_MP D [(d, .int)] (wX h a1 a2 a3 a4 d k t a b j u) sz)) (bt_Qi (bt_B (xs_hok k n)) D [(d, .int)] (wX h a1 a2 a3 a4 d k t (xs_helloA k t a n) b j u) (va_A (wX h a1 a2 a3 a4 d k t a b j u) sz)) 0 0 (va_A (wX h a1 a2 a3 a4 d k t a b j u) sz) := by
  refine bt_metM (Qc := fun A => bt_Qi (bt_B (xs_hok k n)) D [(d, .int)] (wX h a1 a2 a3 a4 d k t (xs_helloA k t a n) b j u) A) (by decide) (Nat.le_of_ble_eq_true rfl) ?_
  intro p e s m below meth c ls A hx hb hr hlk hml hown hts hnm hl hP hK hD hS hA
  have hown : s.vm.findClass RX1 = some m.cls := hown
  have hl : lv_has ls 2 [(0, .ref h), (1, .int n)] := hl
  refine lv_iload_n hx hb dX1_hello_0 rfl (lv_at hl 1 rfl) ?_
  refine lv_if_lt (tgt := 18) hx hb dX1_hello_1 (by decide) (fun c_1 => ?_) (fun c_1 => ?_)
  · refine lv_iconst (v := 0) hx hb dX1_hello_18 (by decide) ?_
    have ew_a : xs_helloA k t a n = a := by simp [bt_B, xs_helloA, xs_hok, c_1]
    exact bt_wz hx hb hr hlk hP hK hD hS (by simp [bt_B, xs_helloA, xs_hok, c_1]) (by rw [ew_a]) dX1_hello_19
  · refine lv_iload_n hx hb dX1_hello_4 rfl (lv_at hl 1 rfl) ?_
    refine lv_bipush (v := 10) hx hb dX1_hello_5 (by decide) ?_
    refine lv_icmp_ge (tgt := 18) hx hb dX1_hello_7 (by decide) (fun c_7 => ?_) (fun c_7 => ?_)
    · refine lv_iconst (v := 0) hx hb dX1_hello_18 (by decide) ?_
      have ew_a : xs_helloA k t a n = a := by simp [bt_B, xs_helloA, xs_hok, c_1, c_7]
      exact bt_wz hx hb hr hlk hP hK hD hS (by simp [bt_B, xs_helloA, xs_hok, c_1, c_7]) (by rw [ew_a]) dX1_hello_19
    · refine lv_iload_n hx hb dX1_hello_10 rfl (lv_at hl 1 rfl) ?_
      refine lv_aload_n hx hb dX1_hello_11 rfl (lv_at hl 0 rfl) ?_
      refine va_get (D := D) (ci := 0) (v := .int (nI k)) (C := RX1) (T := TX1) (N := 6) hx hb hts in_X1 hown hK hP 0 rfl rfl 0 (by decide) (hts _ q40) (fun _ h9 => h9) rfl dX1_hello_12 ?_
      refine lv_icmp_ne (tgt := 20) hx hb dX1_hello_15 (by decide) (fun c_15 => ?_) (fun c_15 => ?_)
      · refine lv_aload_n hx hb dX1_hello_20 rfl (lv_at hl 0 rfl) ?_
        refine va_get (D := D) (ci := 0) (v := .ref a1) (C := RX1) (T := TX1) (N := 6) hx hb hts in_X1 hown hK hP 0 rfl rfl 2 (by decide) (hts _ q42) (fun _ h9 => h9) rfl dX1_hello_21 ?_
        refine lv_iload_n hx hb dX1_hello_24 rfl (lv_at hl 1 rfl) ?_
        refine lv_aload_n hx hb dX1_hello_25 rfl (lv_at hl 0 rfl) ?_
        refine va_get (D := D) (ci := 0) (v := .int t) (C := RX1) (T := TX1) (N := 6) hx hb hts in_X1 hown hK hP 0 rfl rfl 1 (by decide) (hts _ q41) (fun _ h9 => h9) rfl dX1_hello_26 ?_
        refine lv_bipush (v := 65) hx hb dX1_hello_29 (by decide) ?_
        refine lv_iadd hx hb dX1_hello_31 ?_
        refine va_iast hx hb hK hP hD hS 1 0 rfl rfl (bt_in10 c_1 c_7) dX1_hello_32 (fun H locs hP hD hS => ?_)
        have hP : va_P D vwCl (wX h a1 a2 a3 a4 d k t (upd a n.toNatClampNeg (t + 65)) b j u) H := hP
        have hD : va_D A (wX h a1 a2 a3 a4 d k t (upd a n.toNatClampNeg (t + 65)) b j u) := hD
        refine lv_iconst (v := 1) hx hb dX1_hello_33 (by decide) ?_
        have ew_a : xs_helloA k t a n = upd a n.toNatClampNeg (t + 65) := by simp [bt_B, xs_helloA, xs_hok, c_1, c_7, c_15]
        exact bt_wz hx hb hr hlk hP hK hD hS (by simp [bt_B, xs_helloA, xs_hok, c_1, c_7, c_15]) (by rw [ew_a]) dX1_hello_34
      · refine lv_iconst (v := 0) hx hb dX1_hello_18 (by decide) ?_
        have ew_a : xs_helloA k t a n = a := by simp [bt_B, xs_helloA, xs_hok, c_1, c_7, c_15]
        exact bt_wz hx hb hr hlk hP hK hD hS (by simp [bt_B, xs_helloA, xs_hok, c_1, c_7, c_15]) (by rw [ew_a]) dX1_hello_19
set_option maxHeartbeats 4000000 in
set_option maxRecDepth 100000 in
theorem wX_report (g : Int32) (sz : Nat) : Met l yX1_report (ws_ yX1_report cX1_report 2 (some .boolean)) ({ frames := 1, cells := 0, slots := 0, locals := 20 } : Room) (va_Pc [.ref h, .int g] (bt_MP D [(d, .int)] (wX h a1 a2 a3 a4 d k t a b j u) sz)) (bt_Qi (bt_B (bt_grp g)) D [(d, .int)] (wX h a1 a2 a3 a4 d k t a (xs_reportB t b g) j u) (va_A (wX h a1 a2 a3 a4 d k t a b j u) sz)) 0 0 (va_A (wX h a1 a2 a3 a4 d k t a b j u) sz) := by
  refine bt_metM (Qc := fun A => bt_Qi (bt_B (bt_grp g)) D [(d, .int)] (wX h a1 a2 a3 a4 d k t a (xs_reportB t b g) j u) A) (by decide) (Nat.le_of_ble_eq_true rfl) ?_
  intro p e s m below meth c ls A hx hb hr hlk hml hown hts hnm hl hP hK hD hS hA
  have hown : s.vm.findClass RX1 = some m.cls := hown
  have hl : lv_has ls 2 [(0, .ref h), (1, .int g)] := hl
  refine lv_iload_n hx hb dX1_report_0 rfl (lv_at hl 1 rfl) ?_
  refine bt_cS (As := [.int g]) (rest := []) ⟨hx, hb, hml, hown, hts⟩ (rX_isGroup l g) 1 (lw_S q73 q74 q19 q75) ⟨rfl, rfl⟩ (by decide +kernel) ⟨Nat.le_of_ble_eq_true rfl, Nat.le_of_ble_eq_true rfl⟩ rfl hl.1 rfl (Nat.le_of_ble_eq_true rfl) dX1_report_1 ⟨Nat.zero_le _, Nat.zero_le _⟩ ?_
  refine lv_if_ne (tgt := 9) hx hb dX1_report_4 (by decide) (fun c_4 => ?_) (fun c_4 => ?_)
  · have c_4 := bt_B1 c_4
    refine lv_aload_n hx hb dX1_report_9 rfl (lv_at hl 0 rfl) ?_
    refine va_get (D := D) (ci := 0) (v := .ref a2) (C := RX1) (T := TX1) (N := 6) hx hb hts in_X1 hown hK hP 0 rfl rfl 3 (by decide) (hts _ q43) (fun _ h9 => h9) rfl dX1_report_10 ?_
    refine lv_iload_n hx hb dX1_report_13 rfl (lv_at hl 1 rfl) ?_
    refine lv_aload_n hx hb dX1_report_14 rfl (lv_at hl 0 rfl) ?_
    refine va_get (D := D) (ci := 0) (v := .int t) (C := RX1) (T := TX1) (N := 6) hx hb hts in_X1 hown hK hP 0 rfl rfl 1 (by decide) (hts _ q41) (fun _ h9 => h9) rfl dX1_report_15 ?_
    refine lv_bipush (v := 60) hx hb dX1_report_18 (by decide) ?_
    refine lv_iadd hx hb dX1_report_20 ?_
    refine va_iast hx hb hK hP hD hS 2 0 rfl rfl (bt_inG c_4) dX1_report_21 (fun H locs hP hD hS => ?_)
    have hP : va_P D vwCl (wX h a1 a2 a3 a4 d k t a (upd b g.toNatClampNeg (t + 60)) j u) H := hP
    have hD : va_D A (wX h a1 a2 a3 a4 d k t a (upd b g.toNatClampNeg (t + 60)) j u) := hD
    refine lv_iconst (v := 1) hx hb dX1_report_22 (by decide) ?_
    have ew_b : xs_reportB t b g = upd b g.toNatClampNeg (t + 60) := by simp [bt_B, xs_reportB, c_4]
    exact bt_wz hx hb hr hlk hP hK hD hS (by simp [bt_B, xs_reportB, c_4]) (by rw [ew_b]) dX1_report_23
  · have c_4 := bt_B0 c_4
    refine lv_iconst (v := 0) hx hb dX1_report_7 (by decide) ?_
    have ew_b : xs_reportB t b g = b := by simp [bt_B, xs_reportB, c_4]
    exact bt_wz hx hb hr hlk hP hK hD hS (by simp [bt_B, xs_reportB, c_4]) (by rw [ew_b]) dX1_report_8
set_option maxHeartbeats 4000000 in
set_option maxRecDepth 100000 in
theorem wX_leave (g : Int32) (sz : Nat) (hk : k ≤ 9) : Met l yX1_leave (ws_ yX1_leave cX1_leave 2 (some .boolean)) ({ frames := 2, cells := 0, slots := 0, locals := 42 } : Room) (va_Pc [.ref h, .int g] (bt_MP D [(d, .int)] (wX h a1 a2 a3 a4 d k t a b j u) sz)) (bt_Qi (bt_B (xs_lok k t a b g)) D [(d, .int)] (wX h a1 a2 a3 a4 d k t a (xs_leaveB k t a b g) j u) (va_A (wX h a1 a2 a3 a4 d k t a b j u) sz)) 0 0 (va_A (wX h a1 a2 a3 a4 d k t a b j u) sz) := by
  refine bt_metM (Qc := fun A => bt_Qi (bt_B (xs_lok k t a b g)) D [(d, .int)] (wX h a1 a2 a3 a4 d k t a (xs_leaveB k t a b g) j u) A) (by decide) (Nat.le_of_ble_eq_true rfl) ?_
  intro p e s m below meth c ls A hx hb hr hlk hml hown hts hnm hl hP hK hD hS hA
  have hown : s.vm.findClass RX1 = some m.cls := hown
  have hl : lv_has ls 2 [(0, .ref h), (1, .int g)] := hl
  refine lv_iload_n hx hb dX1_leave_0 rfl (lv_at hl 1 rfl) ?_
  refine bt_cS (As := [.int g]) (rest := []) ⟨hx, hb, hml, hown, hts⟩ (rX_isGroup l g) 1 (lw_S q73 q74 q19 q75) ⟨rfl, rfl⟩ (by decide +kernel) ⟨Nat.le_of_ble_eq_true rfl, Nat.le_of_ble_eq_true rfl⟩ rfl hl.1 rfl (Nat.le_of_ble_eq_true rfl) dX1_leave_1 ⟨Nat.zero_le _, Nat.zero_le _⟩ ?_
  refine lv_if_eq (tgt := 27) hx hb dX1_leave_4 (by decide) (fun c_4 => ?_) (fun c_4 => ?_)
  · have c_4 := bt_B0 c_4
    refine lv_iconst (v := 0) hx hb dX1_leave_27 (by decide) ?_
    have ew_b : xs_leaveB k t a b g = b := by simp [bt_B, xs_leaveB, xs_lok, c_4]
    exact bt_wz hx hb hr hlk hP hK hD hS (by simp [bt_B, xs_leaveB, xs_lok, c_4]) (by rw [ew_b]) dX1_leave_28
  · have c_4 := bt_B1 c_4
    refine lv_aload_n hx hb dX1_leave_7 rfl (lv_at hl 0 rfl) ?_
    refine va_get (D := D) (ci := 0) (v := .int t) (C := RX1) (T := TX1) (N := 6) hx hb hts in_X1 hown hK hP 0 rfl rfl 1 (by decide) (hts _ q41) (fun _ h9 => h9) rfl dX1_leave_8 ?_
    refine lv_aload_n hx hb dX1_leave_11 rfl (lv_at hl 0 rfl) ?_
    refine va_get (D := D) (ci := 0) (v := .ref a2) (C := RX1) (T := TX1) (N := 6) hx hb hts in_X1 hown hK hP 0 rfl rfl 3 (by decide) (hts _ q43) (fun _ h9 => h9) rfl dX1_leave_12 ?_
    refine lv_iload_n hx hb dX1_leave_15 rfl (lv_at hl 1 rfl) ?_
    refine va_iald hx hb hK hP 2 0 rfl rfl (bt_inG c_4) dX1_leave_16 ?_
    refine lv_icmp_ge (tgt := 27) hx hb dX1_leave_17 (by decide) (fun c_17 => ?_) (fun c_17 => ?_)
    · refine lv_iconst (v := 0) hx hb dX1_leave_27 (by decide) ?_
      have ew_b : xs_leaveB k t a b g = b := by simp [bt_B, xs_leaveB, xs_lok, c_4, c_17]
      exact bt_wz hx hb hr hlk hP hK hD hS (by simp [bt_B, xs_leaveB, xs_lok, c_4, c_17]) (by rw [ew_b]) dX1_leave_28
    · refine lv_aload_n hx hb dX1_leave_20 rfl (lv_at hl 0 rfl) ?_
      refine bt_cV (As := []) (rest := []) (b := h) (ci := 0) (q0 := 0) ⟨hx, hb, hml, hown, hts⟩ (rX_isAsking l D h a1 a2 a3 a4 d k t a b j u  hk) 0 (lw_V q80 q82 qs0 q19 q83) ⟨rfl, rfl⟩ (by decide +kernel) ⟨Nat.le_of_ble_eq_true rfl, Nat.le_of_ble_eq_true rfl⟩ hK hP rfl rfl rfl hl.1 rfl (Nat.le_of_ble_eq_true rfl) dX1_leave_21 ⟨Nat.zero_le _, Nat.zero_le _⟩ ?_
      refine lv_if_ne (tgt := 29) hx hb dX1_leave_24 (by decide) (fun c_24 => ?_) (fun c_24 => ?_)
      · have c_24 := bt_B1 c_24
        refine lv_aload_n hx hb dX1_leave_29 rfl (lv_at hl 0 rfl) ?_
        refine va_get (D := D) (ci := 0) (v := .ref a2) (C := RX1) (T := TX1) (N := 6) hx hb hts in_X1 hown hK hP 0 rfl rfl 3 (by decide) (hts _ q43) (fun _ h9 => h9) rfl dX1_leave_30 ?_
        refine lv_iload_n hx hb dX1_leave_33 rfl (lv_at hl 1 rfl) ?_
        refine lv_aload_n hx hb dX1_leave_34 rfl (lv_at hl 0 rfl) ?_
        refine va_get (D := D) (ci := 0) (v := .ref a2) (C := RX1) (T := TX1) (N := 6) hx hb hts in_X1 hown hK hP 0 rfl rfl 3 (by decide) (hts _ q43) (fun _ h9 => h9) rfl dX1_leave_35 ?_
        refine lv_iload_n hx hb dX1_leave_38 rfl (lv_at hl 1 rfl) ?_
        refine va_iald hx hb hK hP 2 0 rfl rfl (bt_inG c_4) dX1_leave_39 ?_
        refine lv_aload_n hx hb dX1_leave_40 rfl (lv_at hl 0 rfl) ?_
        refine va_get (D := D) (ci := 0) (v := .int t) (C := RX1) (T := TX1) (N := 6) hx hb hts in_X1 hown hK hP 0 rfl rfl 1 (by decide) (hts _ q41) (fun _ h9 => h9) rfl dX1_leave_41 ?_
        refine lv_iconst (v := 4) hx hb dX1_leave_44 (by decide) ?_
        refine lv_iadd hx hb dX1_leave_45 ?_
        refine va_mmin hx hb (hml.trans hl.1.symm) hown (hts _ q30) (hts _ q31) (hts _ q20) (hts _ q32) (Nat.le_of_ble_eq_true rfl) (Nat.le_of_ble_eq_true rfl) (Nat.zero_le _) (Nat.zero_le _) dX1_leave_46 ?_
        refine va_iast hx hb hK hP hD hS 2 0 rfl rfl (bt_inG c_4) dX1_leave_49 (fun H locs hP hD hS => ?_)
        have hP : va_P D vwCl (wX h a1 a2 a3 a4 d k t a (upd b g.toNatClampNeg (if (t + 4) < (b g.toNatClampNeg) then (t + 4) else (b g.toNatClampNeg))) j u) H := hP
        have hD : va_D A (wX h a1 a2 a3 a4 d k t a (upd b g.toNatClampNeg (if (t + 4) < (b g.toNatClampNeg) then (t + 4) else (b g.toNatClampNeg))) j u) := hD
        refine lv_iconst (v := 1) hx hb dX1_leave_50 (by decide) ?_
        have ew_b : xs_leaveB k t a b g = upd b g.toNatClampNeg (if (t + 4) < (b g.toNatClampNeg) then (t + 4) else (b g.toNatClampNeg)) := by simp [bt_B, xs_leaveB, xs_lok, c_4, c_17, c_24]
        exact bt_wz hx hb hr hlk hP hK hD hS (by simp [bt_B, xs_leaveB, xs_lok, c_4, c_17, c_24]) (by rw [ew_b]) dX1_leave_51
      · have c_24 := bt_B0 c_24
        refine lv_iconst (v := 0) hx hb dX1_leave_27 (by decide) ?_
        have ew_b : xs_leaveB k t a b g = b := by simp [bt_B, xs_leaveB, xs_lok, c_4, c_17, c_24]
        exact bt_wz hx hb hr hlk hP hK hD hS (by simp [bt_B, xs_leaveB, xs_lok, c_4, c_17, c_24]) (by rw [ew_b]) dX1_leave_28
end XB
end
section
section XC
variable (l : Launch) (D : va_G) (h a1 a2 a3 a4 : Nat) (d : ClassId) (k : Nat) (t : Int32) (a b j u : Nat → Int32)
set_option maxHeartbeats 4000000 in
set_option maxRecDepth 100000 in
theorem wX_join (g : Int32) (v : Int32) (z : Int32) (sz : Nat) : Met l yX1_join (ws_ yX1_join cX1_join 8 (some .boolean)) ({ frames := 2, cells := 0, slots := 0, locals := 43 } : Room) (va_Pc [.ref h, .int g, .int v, .int z] (bt_MP D [(d, .int)] (wX h a1 a2 a3 a4 d k t a b j u) sz)) (bt_Qi (bt_B (bt_tree g v)) D [(d, .int)] (wX h a1 a2 a3 a4 d k t a b (xs_joinJ t j g v) (xs_joinU t a j u g v z)) (va_A (wX h a1 a2 a3 a4 d k t a b j u) sz)) 0 0 (va_A (wX h a1 a2 a3 a4 d k t a b j u) sz) := by
  refine bt_metM (Qc := fun A => bt_Qi (bt_B (bt_tree g v)) D [(d, .int)] (wX h a1 a2 a3 a4 d k t a b (xs_joinJ t j g v) (xs_joinU t a j u g v z)) A) (by decide) (Nat.le_of_ble_eq_true rfl) ?_
  intro p e s m below meth c ls A hx hb hr hlk hml hown hts hnm hl hP hK hD hS hA
  have hown : s.vm.findClass RX1 = some m.cls := hown
  have hl : lv_has ls 8 [(0, .ref h), (1, .int g), (2, .int v), (3, .int z)] := hl
  refine lv_iload_n hx hb dX1_join_0 rfl (lv_at hl 1 rfl) ?_
  refine lv_iload_n hx hb dX1_join_1 rfl (lv_at hl 2 rfl) ?_
  refine bt_cS (As := [.int g, .int v]) (rest := []) ⟨hx, hb, hml, hown, hts⟩ (rX_isTree l g v) 2 (lw_S q92 q93 q19 q94) ⟨rfl, rfl⟩ (by decide +kernel) ⟨Nat.le_of_ble_eq_true rfl, Nat.le_of_ble_eq_true rfl⟩ rfl hl.1 rfl (Nat.le_of_ble_eq_true rfl) dX1_join_2 ⟨Nat.zero_le _, Nat.zero_le _⟩ ?_
  refine lv_if_ne (tgt := 10) hx hb dX1_join_5 (by decide) (fun c_5 => ?_) (fun c_5 => ?_)
  · have c_5 := bt_B1 c_5
    refine lv_aload_n hx hb dX1_join_10 rfl (lv_at hl 0 rfl) ?_
    refine lv_iload_n hx hb dX1_join_11 rfl (lv_at hl 1 rfl) ?_
    refine lv_iload_n hx hb dX1_join_12 rfl (lv_at hl 2 rfl) ?_
    refine bt_cV (As := [.int g, .int v]) (rest := []) (b := h) (ci := 0) (q0 := 0) ⟨hx, hb, hml, hown, hts⟩ (rX_isJoined l D h a1 a2 a3 a4 d k t a b j u g v (bt_inT c_5)) 2 (lw_V q95 q97 qs2 q19 q98) ⟨rfl, rfl⟩ (by decide +kernel) ⟨Nat.le_of_ble_eq_true rfl, Nat.le_of_ble_eq_true rfl⟩ hK hP rfl rfl rfl hl.1 rfl (Nat.le_of_ble_eq_true rfl) dX1_join_13 ⟨Nat.zero_le _, Nat.zero_le _⟩ ?_
    refine lv_istore (lv' := [(4, .int (bt_B (xs_jd t j g v))), (0, .ref h), (1, .int g), (2, .int v), (3, .int z)]) hx hb dX1_join_16 hl (by decide) rfl (fun ls hl => ?_)
    refine lv_aload_n hx hb dX1_join_18 rfl (lv_at hl 1 rfl) ?_
    refine va_get (D := D) (ci := 0) (v := .ref a3) (C := RX1) (T := TX1) (N := 6) hx hb hts in_X1 hown hK hP 0 rfl rfl 4 (by decide) (hts _ q44) (fun _ h9 => h9) rfl dX1_join_19 ?_
    refine lv_iload_n hx hb dX1_join_22 rfl (lv_at hl 2 rfl) ?_
    refine lv_bipush (v := 17) hx hb dX1_join_23 (by decide) ?_
    refine lv_imul hx hb dX1_join_25 ?_
    refine lv_iload_n hx hb dX1_join_26 rfl (lv_at hl 3 rfl) ?_
    refine lv_iadd hx hb dX1_join_27 ?_
    refine lv_iconst (v := 1) hx hb dX1_join_28 (by decide) ?_
    refine lv_iadd hx hb dX1_join_29 ?_
    refine lv_aload_n hx hb dX1_join_30 rfl (lv_at hl 1 rfl) ?_
    refine va_get (D := D) (ci := 0) (v := .int t) (C := RX1) (T := TX1) (N := 6) hx hb hts in_X1 hown hK hP 0 rfl rfl 1 (by decide) (hts _ q41) (fun _ h9 => h9) rfl dX1_join_31 ?_
    refine lv_bipush (v := 70) hx hb dX1_join_34 (by decide) ?_
    refine lv_iadd hx hb dX1_join_36 ?_
    refine va_iast hx hb hK hP hD hS 3 0 rfl rfl (bt_inT c_5) dX1_join_37 (fun H locs hP hD hS => ?_)
    have hP : va_P D vwCl (wX h a1 a2 a3 a4 d k t a b (upd j (((g * 17) + v) + 1).toNatClampNeg (t + 70)) u) H := hP
    have hD : va_D A (wX h a1 a2 a3 a4 d k t a b (upd j (((g * 17) + v) + 1).toNatClampNeg (t + 70)) u) := hD
    refine lv_iload_n hx hb dX1_join_38 rfl (lv_at hl 3 rfl) ?_
    refine lv_iconst (v := -1) hx hb dX1_join_39 (by decide) ?_
    refine lv_icmp_eq (tgt := 45) hx hb dX1_join_40 (by decide) (fun c_40 => ?_) (fun c_40 => ?_)
    · refine bt_cut (g2 := F0 m 61 ls [.int (if bt_crw (xs_near t a) = true then 3 else 0), .int t]) ?_ (fun K => ?_)
      · refine lv_iadd hx hb dX1_join_61 ?_
        refine bt_top (y := xs_fr t a) (rfl) ?_
        refine lv_istore (lv' := [(5, .int (xs_fr t a)), (4, .int (bt_B (xs_jd t j g v))), (0, .ref h), (1, .int g), (2, .int v), (3, .int z)]) hx hb dX1_join_62 hl (by decide) rfl (fun ls hl => ?_)
        refine lv_iconst (v := 0) hx hb dX1_join_64 (by decide) ?_
        refine lv_istore (lv' := [(6, .int 0), (5, .int (xs_fr t a)), (4, .int (bt_B (xs_jd t j g v))), (0, .ref h), (1, .int g), (2, .int v), (3, .int z)]) hx hb dX1_join_65 hl (by decide) rfl (fun ls hl => ?_)
        refine bt_loopH 16 (fun i ls H locs => lv_has ls 8 [(0, .ref h), (1, .int g), (2, .int v), (3, .int z), (4, .int (bt_B (xs_jd t j g v))), (5, .int (xs_fr t a)), (6, .int (nI i))] ∧ va_P D vwCl (wX h a1 a2 a3 a4 d k t a b (upd j (((g * 17) + v) + 1).toNatClampNeg (t + 70)) (bt_jc (xs_told z) (xs_jd t j g v) (xs_ix g) (xs_fr t a) u i)) H ∧ va_D A (wX h a1 a2 a3 a4 d k t a b (upd j (((g * 17) + v) + 1).toNatClampNeg (t + 70)) (bt_jc (xs_told z) (xs_jd t j g v) (xs_ix g) (xs_fr t a) u i)) ∧ va_S A s.heap H locs) ?_ ?_ 16 0 ls _ _ (by decide) ⟨lv_sub hl [3, 4, 5, 6, 2, 1, 0] rfl, hP, hD, hS⟩
        · intro ls H locs hI
          obtain ⟨hl, hP, hD, hS⟩ := hI
          have hl : lv_has ls 8 [(0, .ref h), (1, .int g), (2, .int v), (3, .int z), (4, .int (bt_B (xs_jd t j g v))), (5, .int (xs_fr t a)), (6, .int (nI 16))] := hl
          have hP : va_P D vwCl (wX h a1 a2 a3 a4 d k t a b (upd j (((g * 17) + v) + 1).toNatClampNeg (t + 70)) (bt_jc (xs_told z) (xs_jd t j g v) (xs_ix g) (xs_fr t a) u 16)) H := hP
          have hD : va_D A (wX h a1 a2 a3 a4 d k t a b (upd j (((g * 17) + v) + 1).toNatClampNeg (t + 70)) (bt_jc (xs_told z) (xs_jd t j g v) (xs_ix g) (xs_fr t a) u 16)) := hD
          refine lv_iload hx hb dX1_join_67 (lv_at hl 6 rfl) ?_
          refine lv_bipush (v := 16) hx hb dX1_join_69 (by decide) ?_
          refine lv_icmp_ge (tgt := 134) hx hb dX1_join_71 (by decide) (fun _ => ?_) (fun c_71 => absurd (by decide) c_71)
          refine lv_iconst (v := 1) hx hb dX1_join_134 (by decide) ?_
          have ew_j : xs_joinJ t j g v = upd j (((g * 17) + v) + 1).toNatClampNeg (t + 70) := by unfold xs_joinJ; rw [if_pos c_5]
          have ew_u : xs_joinU t a j u g v z = bt_jc (xs_told z) (xs_jd t j g v) (xs_ix g) (xs_fr t a) u 16 := by unfold xs_joinU; rw [if_pos ⟨c_5, c_40⟩]
          exact bt_wz hx hb hr hlk hP hK hD hS (by simp [bt_B, c_5]) (by rw [ew_j, ew_u]) dX1_join_135
        · intro i ls H locs hi hI ih
          obtain ⟨hl, hP, hD, hS⟩ := hI
          have hl : lv_has ls 8 [(0, .ref h), (1, .int g), (2, .int v), (3, .int z), (4, .int (bt_B (xs_jd t j g v))), (5, .int (xs_fr t a)), (6, .int (nI i))] := hl
          have hP : va_P D vwCl (wX h a1 a2 a3 a4 d k t a b (upd j (((g * 17) + v) + 1).toNatClampNeg (t + 70)) (bt_jc (xs_told z) (xs_jd t j g v) (xs_ix g) (xs_fr t a) u i)) H := hP
          have hD : va_D A (wX h a1 a2 a3 a4 d k t a b (upd j (((g * 17) + v) + 1).toNatClampNeg (t + 70)) (bt_jc (xs_told z) (xs_jd t j g v) (xs_ix g) (xs_fr t a) u i)) := hD
          refine lv_iload hx hb dX1_join_67 (lv_at hl 6 rfl) ?_
          refine lv_bipush (v := 16) hx hb dX1_join_69 (by decide) ?_
          refine lv_icmp_ge (tgt := 134) hx hb dX1_join_71 (by decide) (fun c_71 => absurd c_71 (nI_ge hi (by decide))) (fun _ => ?_)
          refine lv_iload_n hx hb dX1_join_74 rfl (lv_at hl 1 rfl) ?_
          refine lv_bipush (v := 16) hx hb dX1_join_75 (by decide) ?_
          refine lv_imul hx hb dX1_join_77 ?_
          refine lv_iload hx hb dX1_join_78 (lv_at hl 6 rfl) ?_
          refine lv_iadd hx hb dX1_join_80 ?_
          refine lv_istore (lv' := [(7, .int ((g * 16) + (nI i))), (0, .ref h), (1, .int g), (2, .int v), (3, .int z), (4, .int (bt_B (xs_jd t j g v))), (5, .int (xs_fr t a)), (6, .int (nI i))]) hx hb dX1_join_81 hl (by decide) rfl (fun ls hl => ?_)
          refine lv_iload_n hx hb dX1_join_83 rfl (lv_at hl 4 rfl) ?_
          refine lv_iload hx hb dX1_join_84 (lv_at hl 7 rfl) ?_
          refine lv_ishr hx hb dX1_join_86 ?_
          refine lv_iconst (v := 1) hx hb dX1_join_87 (by decide) ?_
          refine lv_iand hx hb dX1_join_88 ?_
          refine lv_if_ne (tgt := 103) hx hb dX1_join_89 (by decide) (fun c_89 => ?_) (fun c_89 => ?_)
          · refine lv_iload hx hb dX1_join_103 (lv_at hl 5 rfl) ?_
            refine lv_if_eq (tgt := 119) hx hb dX1_join_105 (by decide) (fun c_105 => ?_) (fun c_105 => ?_)
            · have c_105 := bt_B0 c_105
              refine lv_aload_n hx hb dX1_join_119 rfl (lv_at hl 1 rfl) ?_
              refine va_get (D := D) (ci := 0) (v := .ref a4) (C := RX1) (T := TX1) (N := 6) hx hb hts in_X1 hown hK hP 0 rfl rfl 5 (by decide) (hts _ q45) (fun _ h9 => h9) rfl dX1_join_120 ?_
              refine lv_iload hx hb dX1_join_123 (lv_at hl 0 rfl) ?_
              refine lv_iload hx hb dX1_join_125 (lv_at hl 6 rfl) ?_
              refine va_iast hx hb hK hP hD hS 4 0 rfl rfl (bt_inC (bt_tree_s c_5).1 hi) dX1_join_127 (fun H locs hP hD hS => ?_)
              have hP : va_P D vwCl (wX h a1 a2 a3 a4 d k t a b (upd j (((g * 17) + v) + 1).toNatClampNeg (t + 70)) (upd (bt_jc (xs_told z) (xs_jd t j g v) (xs_ix g) (xs_fr t a) u i) ((g * 16) + (nI i)).toNatClampNeg (xs_fr t a))) H := hP
              have hD : va_D A (wX h a1 a2 a3 a4 d k t a b (upd j (((g * 17) + v) + 1).toNatClampNeg (t + 70)) (upd (bt_jc (xs_told z) (xs_jd t j g v) (xs_ix g) (xs_fr t a) u i) ((g * 16) + (nI i)).toNatClampNeg (xs_fr t a))) := hD
              refine lv_iinc (v := nI (i + 1)) (lv' := [(6, .int (nI (i + 1))), (7, .int ((g * 16) + (nI i))), (0, .ref h), (1, .int g), (2, .int v), (3, .int z), (4, .int (bt_B (xs_jd t j g v))), (5, .int (xs_fr t a))]) hx hb dX1_join_128 hl (k := 7) rfl (nI_1 i) (by decide) rfl (fun ls hl => ?_)
              refine lv_goto (tgt := 67) hx hb dX1_join_131 (by decide) ?_
              have hl2 := lv_sub (l' := [(0, .ref h), (1, .int g), (2, .int v), (3, .int z), (4, .int (bt_B (xs_jd t j g v))), (5, .int (xs_fr t a)), (6, .int (nI (i + 1)))]) hl [2, 3, 4, 5, 6, 7, 0] rfl
              have ew_u : bt_jc (xs_told z) (xs_jd t j g v) (xs_ix g) (xs_fr t a) u (i + 1) = upd (bt_jc (xs_told z) (xs_jd t j g v) (xs_ix g) (xs_fr t a) u i) ((g * 16) + (nI i)).toNatClampNeg (xs_fr t a) := bt_jc_new1 (by simp [xs_told, c_89]) c_105
              exact ih ls _ _ ⟨hl2, by rw [ew_u]; exact hP, by rw [ew_u]; exact hD, hS⟩
            · have c_105 := bt_B1 c_105
              refine lv_aload_n hx hb dX1_join_108 rfl (lv_at hl 1 rfl) ?_
              refine va_get (D := D) (ci := 0) (v := .ref a4) (C := RX1) (T := TX1) (N := 6) hx hb hts in_X1 hown hK hP 0 rfl rfl 5 (by decide) (hts _ q45) (fun _ h9 => h9) rfl dX1_join_109 ?_
              refine lv_iload hx hb dX1_join_112 (lv_at hl 0 rfl) ?_
              refine va_iald hx hb hK hP 4 0 rfl rfl (bt_inC (bt_tree_s c_5).1 hi) dX1_join_114 ?_
              refine lv_iconst (v := -1) hx hb dX1_join_115 (by decide) ?_
              refine lv_icmp_ne (tgt := 128) hx hb dX1_join_116 (by decide) (fun c_116 => ?_) (fun c_116 => ?_)
              · refine lv_iinc (v := nI (i + 1)) (lv' := [(6, .int (nI (i + 1))), (7, .int ((g * 16) + (nI i))), (0, .ref h), (1, .int g), (2, .int v), (3, .int z), (4, .int (bt_B (xs_jd t j g v))), (5, .int (xs_fr t a))]) hx hb dX1_join_128 hl (k := 7) rfl (nI_1 i) (by decide) rfl (fun ls hl => ?_)
                refine lv_goto (tgt := 67) hx hb dX1_join_131 (by decide) ?_
                have hl2 := lv_sub (l' := [(0, .ref h), (1, .int g), (2, .int v), (3, .int z), (4, .int (bt_B (xs_jd t j g v))), (5, .int (xs_fr t a)), (6, .int (nI (i + 1)))]) hl [2, 3, 4, 5, 6, 7, 0] rfl
                have ew_u : bt_jc (xs_told z) (xs_jd t j g v) (xs_ix g) (xs_fr t a) u (i + 1) = bt_jc (xs_told z) (xs_jd t j g v) (xs_ix g) (xs_fr t a) u i := bt_jc_keep (by simp [xs_told, c_89]) c_105 c_116
                exact ih ls _ _ ⟨hl2, by rw [ew_u]; exact hP, by rw [ew_u]; exact hD, hS⟩
              · refine lv_aload_n hx hb dX1_join_119 rfl (lv_at hl 1 rfl) ?_
                refine va_get (D := D) (ci := 0) (v := .ref a4) (C := RX1) (T := TX1) (N := 6) hx hb hts in_X1 hown hK hP 0 rfl rfl 5 (by decide) (hts _ q45) (fun _ h9 => h9) rfl dX1_join_120 ?_
                refine lv_iload hx hb dX1_join_123 (lv_at hl 0 rfl) ?_
                refine lv_iload hx hb dX1_join_125 (lv_at hl 6 rfl) ?_
                refine va_iast hx hb hK hP hD hS 4 0 rfl rfl (bt_inC (bt_tree_s c_5).1 hi) dX1_join_127 (fun H locs hP hD hS => ?_)
                have hP : va_P D vwCl (wX h a1 a2 a3 a4 d k t a b (upd j (((g * 17) + v) + 1).toNatClampNeg (t + 70)) (upd (bt_jc (xs_told z) (xs_jd t j g v) (xs_ix g) (xs_fr t a) u i) ((g * 16) + (nI i)).toNatClampNeg (xs_fr t a))) H := hP
                have hD : va_D A (wX h a1 a2 a3 a4 d k t a b (upd j (((g * 17) + v) + 1).toNatClampNeg (t + 70)) (upd (bt_jc (xs_told z) (xs_jd t j g v) (xs_ix g) (xs_fr t a) u i) ((g * 16) + (nI i)).toNatClampNeg (xs_fr t a))) := hD
                refine lv_iinc (v := nI (i + 1)) (lv' := [(6, .int (nI (i + 1))), (7, .int ((g * 16) + (nI i))), (0, .ref h), (1, .int g), (2, .int v), (3, .int z), (4, .int (bt_B (xs_jd t j g v))), (5, .int (xs_fr t a))]) hx hb dX1_join_128 hl (k := 7) rfl (nI_1 i) (by decide) rfl (fun ls hl => ?_)
                refine lv_goto (tgt := 67) hx hb dX1_join_131 (by decide) ?_
                have hl2 := lv_sub (l' := [(0, .ref h), (1, .int g), (2, .int v), (3, .int z), (4, .int (bt_B (xs_jd t j g v))), (5, .int (xs_fr t a)), (6, .int (nI (i + 1)))]) hl [2, 3, 4, 5, 6, 7, 0] rfl
                have ew_u : bt_jc (xs_told z) (xs_jd t j g v) (xs_ix g) (xs_fr t a) u (i + 1) = upd (bt_jc (xs_told z) (xs_jd t j g v) (xs_ix g) (xs_fr t a) u i) ((g * 16) + (nI i)).toNatClampNeg (xs_fr t a) := bt_jc_new2 (by simp [xs_told, c_89]) c_116
                exact ih ls _ _ ⟨hl2, by rw [ew_u]; exact hP, by rw [ew_u]; exact hD, hS⟩
          · refine lv_aload_n hx hb dX1_join_92 rfl (lv_at hl 1 rfl) ?_
            refine va_get (D := D) (ci := 0) (v := .ref a4) (C := RX1) (T := TX1) (N := 6) hx hb hts in_X1 hown hK hP 0 rfl rfl 5 (by decide) (hts _ q45) (fun _ h9 => h9) rfl dX1_join_93 ?_
            refine lv_iload hx hb dX1_join_96 (lv_at hl 0 rfl) ?_
            refine lv_iconst (v := -1) hx hb dX1_join_98 (by decide) ?_
            refine va_iast hx hb hK hP hD hS 4 0 rfl rfl (bt_inC (bt_tree_s c_5).1 hi) dX1_join_99 (fun H locs hP hD hS => ?_)
            have hP : va_P D vwCl (wX h a1 a2 a3 a4 d k t a b (upd j (((g * 17) + v) + 1).toNatClampNeg (t + 70)) (upd (bt_jc (xs_told z) (xs_jd t j g v) (xs_ix g) (xs_fr t a) u i) ((g * 16) + (nI i)).toNatClampNeg (-1))) H := hP
            have hD : va_D A (wX h a1 a2 a3 a4 d k t a b (upd j (((g * 17) + v) + 1).toNatClampNeg (t + 70)) (upd (bt_jc (xs_told z) (xs_jd t j g v) (xs_ix g) (xs_fr t a) u i) ((g * 16) + (nI i)).toNatClampNeg (-1))) := hD
            refine lv_goto (tgt := 128) hx hb dX1_join_100 (by decide) ?_
            refine lv_iinc (v := nI (i + 1)) (lv' := [(6, .int (nI (i + 1))), (7, .int ((g * 16) + (nI i))), (0, .ref h), (1, .int g), (2, .int v), (3, .int z), (4, .int (bt_B (xs_jd t j g v))), (5, .int (xs_fr t a))]) hx hb dX1_join_128 hl (k := 7) rfl (nI_1 i) (by decide) rfl (fun ls hl => ?_)
            refine lv_goto (tgt := 67) hx hb dX1_join_131 (by decide) ?_
            have hl2 := lv_sub (l' := [(0, .ref h), (1, .int g), (2, .int v), (3, .int z), (4, .int (bt_B (xs_jd t j g v))), (5, .int (xs_fr t a)), (6, .int (nI (i + 1)))]) hl [2, 3, 4, 5, 6, 7, 0] rfl
            have ew_u : bt_jc (xs_told z) (xs_jd t j g v) (xs_ix g) (xs_fr t a) u (i + 1) = upd (bt_jc (xs_told z) (xs_jd t j g v) (xs_ix g) (xs_fr t a) u i) ((g * 16) + (nI i)).toNatClampNeg (-1) := bt_jc_no (by simp [xs_told, c_89])
            exact ih ls _ _ ⟨hl2, by rw [ew_u]; exact hP, by rw [ew_u]; exact hD, hS⟩
      · refine lv_aload_n hx hb dX1_join_45 rfl (lv_at hl 1 rfl) ?_
        refine va_get (D := D) (ci := 0) (v := .int t) (C := RX1) (T := TX1) (N := 6) hx hb hts in_X1 hown hK hP 0 rfl rfl 1 (by decide) (hts _ q41) (fun _ h9 => h9) rfl dX1_join_46 ?_
        refine lv_aload_n hx hb dX1_join_49 rfl (lv_at hl 1 rfl) ?_
        refine bt_cV (As := []) (rest := [.int t]) (b := h) (ci := 0) (q0 := 0) ⟨hx, hb, hml, hown, hts⟩ (rX_isCrowded l D h a1 a2 a3 a4 d k t a b (upd j (((g * 17) + v) + 1).toNatClampNeg (t + 70)) u  ) 0 (lw_V q99 q101 qs3 q19 q102) ⟨rfl, rfl⟩ (by decide +kernel) ⟨Nat.le_of_ble_eq_true rfl, Nat.le_of_ble_eq_true rfl⟩ hK hP rfl rfl rfl hl.1 rfl (Nat.le_of_ble_eq_true rfl) dX1_join_50 ⟨Nat.zero_le _, Nat.zero_le _⟩ ?_
        refine lv_if_eq (tgt := 60) hx hb dX1_join_53 (by decide) (fun c_53 => ?_) (fun c_53 => ?_)
        · have c_53 := bt_B0 c_53
          refine lv_iconst (v := 0) hx hb dX1_join_60 (by decide) ?_
          exact bt_top (y := if bt_crw (xs_near t a) = true then 3 else 0) (by simp [bt_B, xs_joinJ, xs_joinU, c_5, c_40, c_53]) K
        · have c_53 := bt_B1 c_53
          refine lv_iconst (v := 3) hx hb dX1_join_56 (by decide) ?_
          refine lv_goto (tgt := 61) hx hb dX1_join_57 (by decide) ?_
          exact bt_top (y := if bt_crw (xs_near t a) = true then 3 else 0) (by simp [bt_B, xs_joinJ, xs_joinU, c_5, c_40, c_53]) K
    · refine lv_iconst (v := 1) hx hb dX1_join_43 (by decide) ?_
      have ew_j : xs_joinJ t j g v = upd j (((g * 17) + v) + 1).toNatClampNeg (t + 70) := by simp [bt_B, xs_joinJ, xs_joinU, c_5, c_40]
      have ew_u : xs_joinU t a j u g v z = u := by simp [bt_B, xs_joinJ, xs_joinU, c_5, c_40]
      exact bt_wz hx hb hr hlk hP hK hD hS (by simp [bt_B, xs_joinJ, xs_joinU, c_5, c_40]) (by rw [ew_j, ew_u]) dX1_join_44
  · have c_5 := bt_B0 c_5
    refine lv_iconst (v := 0) hx hb dX1_join_8 (by decide) ?_
    have ew_j : xs_joinJ t j g v = j := by simp [bt_B, xs_joinJ, xs_joinU, c_5]
    have ew_u : xs_joinU t a j u g v z = u := by simp [bt_B, xs_joinJ, xs_joinU, c_5]
    exact bt_wz hx hb hr hlk hP hK hD hS (by simp [bt_B, xs_joinJ, xs_joinU, c_5]) (by rw [ew_j, ew_u]) dX1_join_9
set_option maxHeartbeats 4000000 in
set_option maxRecDepth 100000 in
theorem wX_prune (g : Int32) (v : Int32) (sz : Nat) : Met l yX1_prune (ws_ yX1_prune cX1_prune 4 (some .boolean)) ({ frames := 2, cells := 0, slots := 0, locals := 43 } : Room) (va_Pc [.ref h, .int g, .int v] (bt_MP D [(d, .int)] (wX h a1 a2 a3 a4 d k t a b j u) sz)) (bt_Qi (bt_B (xs_pok t j g v)) D [(d, .int)] (wX h a1 a2 a3 a4 d k t a b (xs_pruneJ t a j g v) u) (va_A (wX h a1 a2 a3 a4 d k t a b j u) sz)) 0 0 (va_A (wX h a1 a2 a3 a4 d k t a b j u) sz) := by
  refine bt_metM (Qc := fun A => bt_Qi (bt_B (xs_pok t j g v)) D [(d, .int)] (wX h a1 a2 a3 a4 d k t a b (xs_pruneJ t a j g v) u) A) (by decide) (Nat.le_of_ble_eq_true rfl) ?_
  intro p e s m below meth c ls A hx hb hr hlk hml hown hts hnm hl hP hK hD hS hA
  have hown : s.vm.findClass RX1 = some m.cls := hown
  have hl : lv_has ls 4 [(0, .ref h), (1, .int g), (2, .int v)] := hl
  refine lv_iload_n hx hb dX1_prune_0 rfl (lv_at hl 1 rfl) ?_
  refine lv_iload_n hx hb dX1_prune_1 rfl (lv_at hl 2 rfl) ?_
  refine bt_cS (As := [.int g, .int v]) (rest := []) ⟨hx, hb, hml, hown, hts⟩ (rX_isTree l g v) 2 (lw_S q92 q93 q19 q94) ⟨rfl, rfl⟩ (by decide +kernel) ⟨Nat.le_of_ble_eq_true rfl, Nat.le_of_ble_eq_true rfl⟩ rfl hl.1 rfl (Nat.le_of_ble_eq_true rfl) dX1_prune_2 ⟨Nat.zero_le _, Nat.zero_le _⟩ ?_
  refine lv_if_eq (tgt := 17) hx hb dX1_prune_5 (by decide) (fun c_5 => ?_) (fun c_5 => ?_)
  · have c_5 := bt_B0 c_5
    refine lv_iconst (v := 0) hx hb dX1_prune_17 (by decide) ?_
    have ew_j : xs_pruneJ t a j g v = j := by simp [bt_B, xs_pok, xs_pruneJ, c_5]
    exact bt_wz hx hb hr hlk hP hK hD hS (by simp [bt_B, xs_pok, xs_pruneJ, c_5]) (by rw [ew_j]) dX1_prune_18
  · have c_5 := bt_B1 c_5
    refine lv_aload_n hx hb dX1_prune_8 rfl (lv_at hl 0 rfl) ?_
    refine lv_iload_n hx hb dX1_prune_9 rfl (lv_at hl 1 rfl) ?_
    refine lv_iload_n hx hb dX1_prune_10 rfl (lv_at hl 2 rfl) ?_
    refine bt_cV (As := [.int g, .int v]) (rest := []) (b := h) (ci := 0) (q0 := 0) ⟨hx, hb, hml, hown, hts⟩ (rX_isJoined l D h a1 a2 a3 a4 d k t a b j u g v (bt_inT c_5)) 2 (lw_V q95 q97 qs2 q19 q98) ⟨rfl, rfl⟩ (by decide +kernel) ⟨Nat.le_of_ble_eq_true rfl, Nat.le_of_ble_eq_true rfl⟩ hK hP rfl rfl rfl hl.1 rfl (Nat.le_of_ble_eq_true rfl) dX1_prune_11 ⟨Nat.zero_le _, Nat.zero_le _⟩ ?_
    refine lv_if_ne (tgt := 19) hx hb dX1_prune_14 (by decide) (fun c_14 => ?_) (fun c_14 => ?_)
    · have c_14 := bt_B1 c_14
      refine lv_iload_n hx hb dX1_prune_19 rfl (lv_at hl 1 rfl) ?_
      refine lv_bipush (v := 17) hx hb dX1_prune_20 (by decide) ?_
      refine lv_imul hx hb dX1_prune_22 ?_
      refine lv_iload_n hx hb dX1_prune_23 rfl (lv_at hl 2 rfl) ?_
      refine lv_iadd hx hb dX1_prune_24 ?_
      refine lv_iconst (v := 1) hx hb dX1_prune_25 (by decide) ?_
      refine lv_iadd hx hb dX1_prune_26 ?_
      refine lv_istore_n (lv' := [(3, .int (((g * 17) + v) + 1)), (0, .ref h), (1, .int g), (2, .int v)]) hx hb dX1_prune_27 rfl hl (by decide) rfl (fun ls hl => ?_)
      refine lv_aload_n hx hb dX1_prune_28 rfl (lv_at hl 1 rfl) ?_
      refine va_get (D := D) (ci := 0) (v := .ref a3) (C := RX1) (T := TX1) (N := 6) hx hb hts in_X1 hown hK hP 0 rfl rfl 4 (by decide) (hts _ q44) (fun _ h9 => h9) rfl dX1_prune_29 ?_
      refine lv_iload_n hx hb dX1_prune_32 rfl (lv_at hl 0 rfl) ?_
      refine lv_aload_n hx hb dX1_prune_33 rfl (lv_at hl 1 rfl) ?_
      refine va_get (D := D) (ci := 0) (v := .ref a3) (C := RX1) (T := TX1) (N := 6) hx hb hts in_X1 hown hK hP 0 rfl rfl 4 (by decide) (hts _ q44) (fun _ h9 => h9) rfl dX1_prune_34 ?_
      refine lv_iload_n hx hb dX1_prune_37 rfl (lv_at hl 0 rfl) ?_
      refine va_iald hx hb hK hP 3 0 rfl rfl (bt_inT c_5) dX1_prune_38 ?_
      refine lv_aload_n hx hb dX1_prune_39 rfl (lv_at hl 1 rfl) ?_
      refine va_get (D := D) (ci := 0) (v := .int t) (C := RX1) (T := TX1) (N := 6) hx hb hts in_X1 hown hK hP 0 rfl rfl 1 (by decide) (hts _ q41) (fun _ h9 => h9) rfl dX1_prune_40 ?_
      refine bt_cut (g2 := F0 m 55 ls [.int (if bt_crw (xs_near t a) = true then 3 else 0), .int t, .int (j (((g * 17) + v) + 1).toNatClampNeg), .int (((g * 17) + v) + 1), .ref a3]) ?_ (fun K => ?_)
      · refine lv_iadd hx hb dX1_prune_55 ?_
        refine bt_top (y := xs_fr t a) (rfl) ?_
        refine va_mmin hx hb (hml.trans hl.1.symm) hown (hts _ q30) (hts _ q31) (hts _ q20) (hts _ q32) (Nat.le_of_ble_eq_true rfl) (Nat.le_of_ble_eq_true rfl) (Nat.zero_le _) (Nat.zero_le _) dX1_prune_56 ?_
        refine va_iast hx hb hK hP hD hS 3 0 rfl rfl (bt_inT c_5) dX1_prune_59 (fun H locs hP hD hS => ?_)
        have hP : va_P D vwCl (wX h a1 a2 a3 a4 d k t a b (upd j (((g * 17) + v) + 1).toNatClampNeg (if (xs_fr t a) < (j (((g * 17) + v) + 1).toNatClampNeg) then (xs_fr t a) else (j (((g * 17) + v) + 1).toNatClampNeg))) u) H := hP
        have hD : va_D A (wX h a1 a2 a3 a4 d k t a b (upd j (((g * 17) + v) + 1).toNatClampNeg (if (xs_fr t a) < (j (((g * 17) + v) + 1).toNatClampNeg) then (xs_fr t a) else (j (((g * 17) + v) + 1).toNatClampNeg))) u) := hD
        refine lv_iconst (v := 1) hx hb dX1_prune_60 (by decide) ?_
        have ew_j : xs_pruneJ t a j g v = upd j (((g * 17) + v) + 1).toNatClampNeg (if (xs_fr t a) < (j (((g * 17) + v) + 1).toNatClampNeg) then (xs_fr t a) else (j (((g * 17) + v) + 1).toNatClampNeg)) := by unfold xs_pruneJ xs_pok; rw [c_5, c_14]; rfl
        exact bt_wz hx hb hr hlk hP hK hD hS (by simp [bt_B, xs_pok, xs_pruneJ, c_5, c_14]) (by rw [ew_j]) dX1_prune_61
      · refine lv_aload_n hx hb dX1_prune_43 rfl (lv_at hl 1 rfl) ?_
        refine bt_cV (As := []) (rest := [.int t, .int (j (((g * 17) + v) + 1).toNatClampNeg), .int (((g * 17) + v) + 1), .ref a3]) (b := h) (ci := 0) (q0 := 0) ⟨hx, hb, hml, hown, hts⟩ (rX_isCrowded l D h a1 a2 a3 a4 d k t a b j u  ) 0 (lw_V q99 q101 qs3 q19 q102) ⟨rfl, rfl⟩ (by decide +kernel) ⟨Nat.le_of_ble_eq_true rfl, Nat.le_of_ble_eq_true rfl⟩ hK hP rfl rfl rfl hl.1 rfl (Nat.le_of_ble_eq_true rfl) dX1_prune_44 ⟨Nat.zero_le _, Nat.zero_le _⟩ ?_
        refine lv_if_eq (tgt := 54) hx hb dX1_prune_47 (by decide) (fun c_47 => ?_) (fun c_47 => ?_)
        · have c_47 := bt_B0 c_47
          refine lv_iconst (v := 0) hx hb dX1_prune_54 (by decide) ?_
          exact bt_top (y := if bt_crw (xs_near t a) = true then 3 else 0) (by simp [bt_B, xs_pok, xs_pruneJ, c_5, c_14, c_47]) K
        · have c_47 := bt_B1 c_47
          refine lv_iconst (v := 3) hx hb dX1_prune_50 (by decide) ?_
          refine lv_goto (tgt := 55) hx hb dX1_prune_51 (by decide) ?_
          exact bt_top (y := if bt_crw (xs_near t a) = true then 3 else 0) (by simp [bt_B, xs_pok, xs_pruneJ, c_5, c_14, c_47]) K
    · have c_14 := bt_B0 c_14
      refine lv_iconst (v := 0) hx hb dX1_prune_17 (by decide) ?_
      have ew_j : xs_pruneJ t a j g v = j := by simp [bt_B, xs_pok, xs_pruneJ, c_5, c_14]
      exact bt_wz hx hb hr hlk hP hK hD hS (by simp [bt_B, xs_pok, xs_pruneJ, c_5, c_14]) (by rw [ew_j]) dX1_prune_18
set_option maxHeartbeats 4000000 in
set_option maxRecDepth 100000 in
theorem wX_forget (sz : Nat) : Met l yX1_forget (ws_ yX1_forget cX1_forget 2 none) ({ frames := 0, cells := 0, slots := 0, locals := 0 } : Room) (va_Pc [.ref h] (bt_MP D [(d, .int)] (wX h a1 a2 a3 a4 d k t a b j u) sz)) (bt_Qv D [(d, .int)] (wX h a1 a2 a3 a4 d k t (bt_fill a 0 10) (bt_fill b 0 8) (bt_fill j 0 136) (bt_fill u (-1) 128)) (va_A (wX h a1 a2 a3 a4 d k t a b j u) sz)) 0 0 (va_A (wX h a1 a2 a3 a4 d k t a b j u) sz) := by
  refine bt_metM (Qc := fun A => bt_Qv D [(d, .int)] (wX h a1 a2 a3 a4 d k t (bt_fill a 0 10) (bt_fill b 0 8) (bt_fill j 0 136) (bt_fill u (-1) 128)) A) (by decide) (Nat.le_of_ble_eq_true rfl) ?_
  intro p e s m below meth c ls A hx hb hr hlk hml hown hts hnm hl hP hK hD hS hA
  have hown : s.vm.findClass RX1 = some m.cls := hown
  have hl : lv_has ls 2 [(0, .ref h)] := hl
  refine lv_iconst (v := 0) hx hb dX1_forget_0 (by decide) ?_
  refine lv_istore_n (lv' := [(1, .int 0), (0, .ref h)]) hx hb dX1_forget_1 rfl hl (by decide) rfl (fun ls hl => ?_)
  refine bt_loopH 10 (fun i ls H locs => lv_has ls 2 [(0, .ref h), (1, .int (nI i))] ∧ va_P D vwCl (wX h a1 a2 a3 a4 d k t (bt_fill a 0 i) b j u) H ∧ va_D A (wX h a1 a2 a3 a4 d k t (bt_fill a 0 i) b j u) ∧ va_S A s.heap H locs) ?_ ?_ 10 0 ls _ _ (by decide) ⟨lv_sub hl [1, 0] rfl, by rw [bt_fill_0]; exact hP, by rw [bt_fill_0]; exact hD, hS⟩
  · intro ls H locs hI
    obtain ⟨hl, hP, hD, hS⟩ := hI
    have hl : lv_has ls 2 [(0, .ref h), (1, .int (nI 10))] := hl
    have hP : va_P D vwCl (wX h a1 a2 a3 a4 d k t (bt_fill a 0 10) b j u) H := hP
    have hD : va_D A (wX h a1 a2 a3 a4 d k t (bt_fill a 0 10) b j u) := hD
    refine lv_iload_n hx hb dX1_forget_2 rfl (lv_at hl 1 rfl) ?_
    refine lv_bipush (v := 10) hx hb dX1_forget_3 (by decide) ?_
    refine lv_icmp_ge (tgt := 21) hx hb dX1_forget_5 (by decide) (fun _ => ?_) (fun c_5 => absurd (by decide) c_5)
    refine lv_iconst (v := 0) hx hb dX1_forget_21 (by decide) ?_
    refine lv_istore_n (lv' := [(1, .int 0), (0, .ref h)]) hx hb dX1_forget_22 rfl hl (by decide) rfl (fun ls hl => ?_)
    refine bt_loopH 8 (fun i ls H locs => lv_has ls 2 [(0, .ref h), (1, .int (nI i))] ∧ va_P D vwCl (wX h a1 a2 a3 a4 d k t (bt_fill a 0 10) (bt_fill b 0 i) j u) H ∧ va_D A (wX h a1 a2 a3 a4 d k t (bt_fill a 0 10) (bt_fill b 0 i) j u) ∧ va_S A s.heap H locs) ?_ ?_ 8 0 ls _ _ (by decide) ⟨lv_sub hl [1, 0] rfl, by rw [bt_fill_0]; exact hP, by rw [bt_fill_0]; exact hD, hS⟩
    · intro ls H locs hI
      obtain ⟨hl, hP, hD, hS⟩ := hI
      have hl : lv_has ls 2 [(0, .ref h), (1, .int (nI 8))] := hl
      have hP : va_P D vwCl (wX h a1 a2 a3 a4 d k t (bt_fill a 0 10) (bt_fill b 0 8) j u) H := hP
      have hD : va_D A (wX h a1 a2 a3 a4 d k t (bt_fill a 0 10) (bt_fill b 0 8) j u) := hD
      refine lv_iload_n hx hb dX1_forget_23 rfl (lv_at hl 1 rfl) ?_
      refine lv_bipush (v := 8) hx hb dX1_forget_24 (by decide) ?_
      refine lv_icmp_ge (tgt := 42) hx hb dX1_forget_26 (by decide) (fun _ => ?_) (fun c_26 => absurd (by decide) c_26)
      refine lv_iconst (v := 0) hx hb dX1_forget_42 (by decide) ?_
      refine lv_istore_n (lv' := [(1, .int 0), (0, .ref h)]) hx hb dX1_forget_43 rfl hl (by decide) rfl (fun ls hl => ?_)
      refine bt_loopH 136 (fun i ls H locs => lv_has ls 2 [(0, .ref h), (1, .int (nI i))] ∧ va_P D vwCl (wX h a1 a2 a3 a4 d k t (bt_fill a 0 10) (bt_fill b 0 8) (bt_fill j 0 i) u) H ∧ va_D A (wX h a1 a2 a3 a4 d k t (bt_fill a 0 10) (bt_fill b 0 8) (bt_fill j 0 i) u) ∧ va_S A s.heap H locs) ?_ ?_ 136 0 ls _ _ (by decide) ⟨lv_sub hl [1, 0] rfl, by rw [bt_fill_0]; exact hP, by rw [bt_fill_0]; exact hD, hS⟩
      · intro ls H locs hI
        obtain ⟨hl, hP, hD, hS⟩ := hI
        have hl : lv_has ls 2 [(0, .ref h), (1, .int (nI 136))] := hl
        have hP : va_P D vwCl (wX h a1 a2 a3 a4 d k t (bt_fill a 0 10) (bt_fill b 0 8) (bt_fill j 0 136) u) H := hP
        have hD : va_D A (wX h a1 a2 a3 a4 d k t (bt_fill a 0 10) (bt_fill b 0 8) (bt_fill j 0 136) u) := hD
        refine lv_iload_n hx hb dX1_forget_44 rfl (lv_at hl 1 rfl) ?_
        refine lv_sipush (v := 136) hx hb dX1_forget_45 (by decide) ?_
        refine lv_icmp_ge (tgt := 64) hx hb dX1_forget_48 (by decide) (fun _ => ?_) (fun c_48 => absurd (by decide) c_48)
        refine lv_iconst (v := 0) hx hb dX1_forget_64 (by decide) ?_
        refine lv_istore_n (lv' := [(1, .int 0), (0, .ref h)]) hx hb dX1_forget_65 rfl hl (by decide) rfl (fun ls hl => ?_)
        refine bt_loopH 128 (fun i ls H locs => lv_has ls 2 [(0, .ref h), (1, .int (nI i))] ∧ va_P D vwCl (wX h a1 a2 a3 a4 d k t (bt_fill a 0 10) (bt_fill b 0 8) (bt_fill j 0 136) (bt_fill u (-1) i)) H ∧ va_D A (wX h a1 a2 a3 a4 d k t (bt_fill a 0 10) (bt_fill b 0 8) (bt_fill j 0 136) (bt_fill u (-1) i)) ∧ va_S A s.heap H locs) ?_ ?_ 128 0 ls _ _ (by decide) ⟨lv_sub hl [1, 0] rfl, by rw [bt_fill_0]; exact hP, by rw [bt_fill_0]; exact hD, hS⟩
        · intro ls H locs hI
          obtain ⟨hl, hP, hD, hS⟩ := hI
          have hl : lv_has ls 2 [(0, .ref h), (1, .int (nI 128))] := hl
          have hP : va_P D vwCl (wX h a1 a2 a3 a4 d k t (bt_fill a 0 10) (bt_fill b 0 8) (bt_fill j 0 136) (bt_fill u (-1) 128)) H := hP
          have hD : va_D A (wX h a1 a2 a3 a4 d k t (bt_fill a 0 10) (bt_fill b 0 8) (bt_fill j 0 136) (bt_fill u (-1) 128)) := hD
          refine lv_iload_n hx hb dX1_forget_66 rfl (lv_at hl 1 rfl) ?_
          refine lv_sipush (v := 128) hx hb dX1_forget_67 (by decide) ?_
          refine lv_icmp_ge (tgt := 86) hx hb dX1_forget_70 (by decide) (fun _ => ?_) (fun c_70 => absurd (by decide) c_70)
          exact bt_wv hx hb hr hlk hP hK hD hS (rfl) dX1_forget_86
        · intro i ls H locs hi hI ih
          obtain ⟨hl, hP, hD, hS⟩ := hI
          have hl : lv_has ls 2 [(0, .ref h), (1, .int (nI i))] := hl
          have hP : va_P D vwCl (wX h a1 a2 a3 a4 d k t (bt_fill a 0 10) (bt_fill b 0 8) (bt_fill j 0 136) (bt_fill u (-1) i)) H := hP
          have hD : va_D A (wX h a1 a2 a3 a4 d k t (bt_fill a 0 10) (bt_fill b 0 8) (bt_fill j 0 136) (bt_fill u (-1) i)) := hD
          refine lv_iload_n hx hb dX1_forget_66 rfl (lv_at hl 1 rfl) ?_
          refine lv_sipush (v := 128) hx hb dX1_forget_67 (by decide) ?_
          refine lv_icmp_ge (tgt := 86) hx hb dX1_forget_70 (by decide) (fun c_70 => absurd c_70 (nI_ge hi (by decide))) (fun _ => ?_)
          refine lv_aload_n hx hb dX1_forget_73 rfl (lv_at hl 0 rfl) ?_
          refine va_get (D := D) (ci := 0) (v := .ref a4) (C := RX1) (T := TX1) (N := 6) hx hb hts in_X1 hown hK hP 0 rfl rfl 5 (by decide) (hts _ q45) (fun _ h9 => h9) rfl dX1_forget_74 ?_
          refine lv_iload_n hx hb dX1_forget_77 rfl (lv_at hl 1 rfl) ?_
          refine lv_iconst (v := -1) hx hb dX1_forget_78 (by decide) ?_
          refine bt_ist hx hb hK hP hD hS 4 0 rfl rfl hi (by decide) dX1_forget_79 (fun H locs hP hD hS => ?_)
          have hP : va_P D vwCl (wX h a1 a2 a3 a4 d k t (bt_fill a 0 10) (bt_fill b 0 8) (bt_fill j 0 136) (upd (bt_fill u (-1) i) i (-1))) H := hP
          have hD : va_D A (wX h a1 a2 a3 a4 d k t (bt_fill a 0 10) (bt_fill b 0 8) (bt_fill j 0 136) (upd (bt_fill u (-1) i) i (-1))) := hD
          refine lv_iinc (v := nI (i + 1)) (lv' := [(1, .int (nI (i + 1))), (0, .ref h)]) hx hb dX1_forget_80 hl (k := 1) rfl (nI_1 i) (by decide) rfl (fun ls hl => ?_)
          refine lv_goto (tgt := 66) hx hb dX1_forget_83 (by decide) ?_
          have hl2 := lv_sub (l' := [(0, .ref h), (1, .int (nI (i + 1)))]) hl [1, 0] rfl
          have ew_u : bt_fill u (-1) (i + 1) = upd (bt_fill u (-1) i) i (-1) := (bt_fill_s _ _ _).symm
          exact ih ls _ _ ⟨hl2, by rw [ew_u]; exact hP, by rw [ew_u]; exact hD, hS⟩
      · intro i ls H locs hi hI ih
        obtain ⟨hl, hP, hD, hS⟩ := hI
        have hl : lv_has ls 2 [(0, .ref h), (1, .int (nI i))] := hl
        have hP : va_P D vwCl (wX h a1 a2 a3 a4 d k t (bt_fill a 0 10) (bt_fill b 0 8) (bt_fill j 0 i) u) H := hP
        have hD : va_D A (wX h a1 a2 a3 a4 d k t (bt_fill a 0 10) (bt_fill b 0 8) (bt_fill j 0 i) u) := hD
        refine lv_iload_n hx hb dX1_forget_44 rfl (lv_at hl 1 rfl) ?_
        refine lv_sipush (v := 136) hx hb dX1_forget_45 (by decide) ?_
        refine lv_icmp_ge (tgt := 64) hx hb dX1_forget_48 (by decide) (fun c_48 => absurd c_48 (nI_ge hi (by decide))) (fun _ => ?_)
        refine lv_aload_n hx hb dX1_forget_51 rfl (lv_at hl 0 rfl) ?_
        refine va_get (D := D) (ci := 0) (v := .ref a3) (C := RX1) (T := TX1) (N := 6) hx hb hts in_X1 hown hK hP 0 rfl rfl 4 (by decide) (hts _ q44) (fun _ h9 => h9) rfl dX1_forget_52 ?_
        refine lv_iload_n hx hb dX1_forget_55 rfl (lv_at hl 1 rfl) ?_
        refine lv_iconst (v := 0) hx hb dX1_forget_56 (by decide) ?_
        refine bt_ist hx hb hK hP hD hS 3 0 rfl rfl hi (by decide) dX1_forget_57 (fun H locs hP hD hS => ?_)
        have hP : va_P D vwCl (wX h a1 a2 a3 a4 d k t (bt_fill a 0 10) (bt_fill b 0 8) (upd (bt_fill j 0 i) i 0) u) H := hP
        have hD : va_D A (wX h a1 a2 a3 a4 d k t (bt_fill a 0 10) (bt_fill b 0 8) (upd (bt_fill j 0 i) i 0) u) := hD
        refine lv_iinc (v := nI (i + 1)) (lv' := [(1, .int (nI (i + 1))), (0, .ref h)]) hx hb dX1_forget_58 hl (k := 1) rfl (nI_1 i) (by decide) rfl (fun ls hl => ?_)
        refine lv_goto (tgt := 44) hx hb dX1_forget_61 (by decide) ?_
        have hl2 := lv_sub (l' := [(0, .ref h), (1, .int (nI (i + 1)))]) hl [1, 0] rfl
        have ew_j : bt_fill j 0 (i + 1) = upd (bt_fill j 0 i) i 0 := (bt_fill_s _ _ _).symm
        exact ih ls _ _ ⟨hl2, by rw [ew_j]; exact hP, by rw [ew_j]; exact hD, hS⟩
    · intro i ls H locs hi hI ih
      obtain ⟨hl, hP, hD, hS⟩ := hI
      have hl : lv_has ls 2 [(0, .ref h), (1, .int (nI i))] := hl
      have hP : va_P D vwCl (wX h a1 a2 a3 a4 d k t (bt_fill a 0 10) (bt_fill b 0 i) j u) H := hP
      have hD : va_D A (wX h a1 a2 a3 a4 d k t (bt_fill a 0 10) (bt_fill b 0 i) j u) := hD
      refine lv_iload_n hx hb dX1_forget_23 rfl (lv_at hl 1 rfl) ?_
      refine lv_bipush (v := 8) hx hb dX1_forget_24 (by decide) ?_
      refine lv_icmp_ge (tgt := 42) hx hb dX1_forget_26 (by decide) (fun c_26 => absurd c_26 (nI_ge hi (by decide))) (fun _ => ?_)
      refine lv_aload_n hx hb dX1_forget_29 rfl (lv_at hl 0 rfl) ?_
      refine va_get (D := D) (ci := 0) (v := .ref a2) (C := RX1) (T := TX1) (N := 6) hx hb hts in_X1 hown hK hP 0 rfl rfl 3 (by decide) (hts _ q43) (fun _ h9 => h9) rfl dX1_forget_30 ?_
      refine lv_iload_n hx hb dX1_forget_33 rfl (lv_at hl 1 rfl) ?_
      refine lv_iconst (v := 0) hx hb dX1_forget_34 (by decide) ?_
      refine bt_ist hx hb hK hP hD hS 2 0 rfl rfl hi (by decide) dX1_forget_35 (fun H locs hP hD hS => ?_)
      have hP : va_P D vwCl (wX h a1 a2 a3 a4 d k t (bt_fill a 0 10) (upd (bt_fill b 0 i) i 0) j u) H := hP
      have hD : va_D A (wX h a1 a2 a3 a4 d k t (bt_fill a 0 10) (upd (bt_fill b 0 i) i 0) j u) := hD
      refine lv_iinc (v := nI (i + 1)) (lv' := [(1, .int (nI (i + 1))), (0, .ref h)]) hx hb dX1_forget_36 hl (k := 1) rfl (nI_1 i) (by decide) rfl (fun ls hl => ?_)
      refine lv_goto (tgt := 23) hx hb dX1_forget_39 (by decide) ?_
      have hl2 := lv_sub (l' := [(0, .ref h), (1, .int (nI (i + 1)))]) hl [1, 0] rfl
      have ew_b : bt_fill b 0 (i + 1) = upd (bt_fill b 0 i) i 0 := (bt_fill_s _ _ _).symm
      exact ih ls _ _ ⟨hl2, by rw [ew_b]; exact hP, by rw [ew_b]; exact hD, hS⟩
  · intro i ls H locs hi hI ih
    obtain ⟨hl, hP, hD, hS⟩ := hI
    have hl : lv_has ls 2 [(0, .ref h), (1, .int (nI i))] := hl
    have hP : va_P D vwCl (wX h a1 a2 a3 a4 d k t (bt_fill a 0 i) b j u) H := hP
    have hD : va_D A (wX h a1 a2 a3 a4 d k t (bt_fill a 0 i) b j u) := hD
    refine lv_iload_n hx hb dX1_forget_2 rfl (lv_at hl 1 rfl) ?_
    refine lv_bipush (v := 10) hx hb dX1_forget_3 (by decide) ?_
    refine lv_icmp_ge (tgt := 21) hx hb dX1_forget_5 (by decide) (fun c_5 => absurd c_5 (nI_ge hi (by decide))) (fun _ => ?_)
    refine lv_aload_n hx hb dX1_forget_8 rfl (lv_at hl 0 rfl) ?_
    refine va_get (D := D) (ci := 0) (v := .ref a1) (C := RX1) (T := TX1) (N := 6) hx hb hts in_X1 hown hK hP 0 rfl rfl 2 (by decide) (hts _ q42) (fun _ h9 => h9) rfl dX1_forget_9 ?_
    refine lv_iload_n hx hb dX1_forget_12 rfl (lv_at hl 1 rfl) ?_
    refine lv_iconst (v := 0) hx hb dX1_forget_13 (by decide) ?_
    refine bt_ist hx hb hK hP hD hS 1 0 rfl rfl hi (by decide) dX1_forget_14 (fun H locs hP hD hS => ?_)
    have hP : va_P D vwCl (wX h a1 a2 a3 a4 d k t (upd (bt_fill a 0 i) i 0) b j u) H := hP
    have hD : va_D A (wX h a1 a2 a3 a4 d k t (upd (bt_fill a 0 i) i 0) b j u) := hD
    refine lv_iinc (v := nI (i + 1)) (lv' := [(1, .int (nI (i + 1))), (0, .ref h)]) hx hb dX1_forget_15 hl (k := 1) rfl (nI_1 i) (by decide) rfl (fun ls hl => ?_)
    refine lv_goto (tgt := 2) hx hb dX1_forget_18 (by decide) ?_
    have hl2 := lv_sub (l' := [(0, .ref h), (1, .int (nI (i + 1)))]) hl [1, 0] rfl
    have ew_a : bt_fill a 0 (i + 1) = upd (bt_fill a 0 i) i 0 := (bt_fill_s _ _ _).symm
    exact ih ls _ _ ⟨hl2, by rw [ew_a]; exact hP, by rw [ew_a]; exact hD, hS⟩
end XC
end
section
section XD
variable (l : Launch) (D : va_G) (h a1 a2 a3 a4 : Nat) (d : ClassId) (k : Nat) (t : Int32) (a b j u : Nat → Int32)
set_option maxHeartbeats 4000000 in
set_option maxRecDepth 100000 in
theorem rX_joined (g : Int32) (v : Int32) : Met l yX1_joined (ws_ yX1_joined cX1_joined 3 (some .int)) ({ frames := 2, cells := 0, slots := 0, locals := 41 } : Room) (va_Pc [.ref h, .int g, .int v] (bt_RP D [(d, .int)] (wX h a1 a2 a3 a4 d k t a b j u))) (QcRead (xs_joined t j g v)) 0 0 (fun _ => False) := by
  refine bt_met (by decide) (Nat.le_of_ble_eq_true rfl) ?_
  intro p e s m below meth c ls hx hb hr hlk hml hown hts hnm hl hB
  obtain ⟨hP, hK⟩ := hB
  have hown : s.vm.findClass RX1 = some m.cls := hown
  have hl : lv_has ls 3 [(0, .ref h), (1, .int g), (2, .int v)] := hl
  refine lv_iload_n hx hb dX1_joined_0 rfl (lv_at hl 1 rfl) ?_
  refine lv_iload_n hx hb dX1_joined_1 rfl (lv_at hl 2 rfl) ?_
  refine bt_cS (As := [.int g, .int v]) (rest := []) ⟨hx, hb, hml, hown, hts⟩ (rX_isTree l g v) 2 (lw_S q92 q93 q19 q94) ⟨rfl, rfl⟩ (by decide +kernel) ⟨Nat.le_of_ble_eq_true rfl, Nat.le_of_ble_eq_true rfl⟩ rfl hl.1 rfl (Nat.le_of_ble_eq_true rfl) dX1_joined_2 ⟨Nat.zero_le _, Nat.zero_le _⟩ ?_
  refine lv_if_ne (tgt := 10) hx hb dX1_joined_5 (by decide) (fun c_5 => ?_) (fun c_5 => ?_)
  · have c_5 := bt_B1 c_5
    refine lv_aload_n hx hb dX1_joined_10 rfl (lv_at hl 0 rfl) ?_
    refine lv_iload_n hx hb dX1_joined_11 rfl (lv_at hl 1 rfl) ?_
    refine lv_iload_n hx hb dX1_joined_12 rfl (lv_at hl 2 rfl) ?_
    refine bt_cV (As := [.int g, .int v]) (rest := []) (b := h) (ci := 0) (q0 := 0) ⟨hx, hb, hml, hown, hts⟩ (rX_isJoined l D h a1 a2 a3 a4 d k t a b j u g v (bt_inT c_5)) 2 (lw_V q95 q97 qs2 q19 q98) ⟨rfl, rfl⟩ (by decide +kernel) ⟨Nat.le_of_ble_eq_true rfl, Nat.le_of_ble_eq_true rfl⟩ hK hP rfl rfl rfl hl.1 rfl (Nat.le_of_ble_eq_true rfl) dX1_joined_13 ⟨Nat.zero_le _, Nat.zero_le _⟩ ?_
    refine lv_if_eq (tgt := 35) hx hb dX1_joined_16 (by decide) (fun c_16 => ?_) (fun c_16 => ?_)
    · have c_16 := bt_B0 c_16
      refine lv_iconst (v := 0) hx hb dX1_joined_35 (by decide) ?_
      exact bt_ri hx hb hr hlk (by simp [xs_joined, c_5, c_16]) dX1_joined_36
    · have c_16 := bt_B1 c_16
      refine lv_aload_n hx hb dX1_joined_19 rfl (lv_at hl 0 rfl) ?_
      refine va_get (D := D) (ci := 0) (v := .ref a3) (C := RX1) (T := TX1) (N := 6) hx hb hts in_X1 hown hK hP 0 rfl rfl 4 (by decide) (hts _ q44) (fun _ h9 => h9) rfl dX1_joined_20 ?_
      refine lv_iload_n hx hb dX1_joined_23 rfl (lv_at hl 1 rfl) ?_
      refine lv_bipush (v := 17) hx hb dX1_joined_24 (by decide) ?_
      refine lv_imul hx hb dX1_joined_26 ?_
      refine lv_iload_n hx hb dX1_joined_27 rfl (lv_at hl 2 rfl) ?_
      refine lv_iadd hx hb dX1_joined_28 ?_
      refine lv_iconst (v := 1) hx hb dX1_joined_29 (by decide) ?_
      refine lv_iadd hx hb dX1_joined_30 ?_
      refine va_iald hx hb hK hP 3 0 rfl rfl (bt_inT c_5) dX1_joined_31 ?_
      refine lv_goto (tgt := 36) hx hb dX1_joined_32 (by decide) ?_
      exact bt_ri hx hb hr hlk (by simp [xs_joined, c_5, c_16]) dX1_joined_36
  · have c_5 := bt_B0 c_5
    refine lv_iconst (v := -1) hx hb dX1_joined_8 (by decide) ?_
    exact bt_ri hx hb hr hlk (by simp [xs_joined, c_5]) dX1_joined_9
set_option maxHeartbeats 4000000 in
set_option maxRecDepth 100000 in
theorem rX_cut (g : Int32) (v : Int32) : Met l yX1_cut (ws_ yX1_cut cX1_cut 4 (some .int)) ({ frames := 2, cells := 0, slots := 0, locals := 41 } : Room) (va_Pc [.ref h, .int g, .int v] (bt_RP D [(d, .int)] (wX h a1 a2 a3 a4 d k t a b j u))) (QcRead (xs_cut t j u g v)) 0 0 (fun _ => False) := by
  refine bt_met (by decide) (Nat.le_of_ble_eq_true rfl) ?_
  intro p e s m below meth c ls hx hb hr hlk hml hown hts hnm hl hB
  obtain ⟨hP, hK⟩ := hB
  have hown : s.vm.findClass RX1 = some m.cls := hown
  have hl : lv_has ls 4 [(0, .ref h), (1, .int g), (2, .int v)] := hl
  refine lv_iload_n hx hb dX1_cut_0 rfl (lv_at hl 1 rfl) ?_
  refine lv_iload_n hx hb dX1_cut_1 rfl (lv_at hl 2 rfl) ?_
  refine bt_cS (As := [.int g, .int v]) (rest := []) ⟨hx, hb, hml, hown, hts⟩ (rX_isTree l g v) 2 (lw_S q92 q93 q19 q94) ⟨rfl, rfl⟩ (by decide +kernel) ⟨Nat.le_of_ble_eq_true rfl, Nat.le_of_ble_eq_true rfl⟩ rfl hl.1 rfl (Nat.le_of_ble_eq_true rfl) dX1_cut_2 ⟨Nat.zero_le _, Nat.zero_le _⟩ ?_
  refine lv_if_eq (tgt := 13) hx hb dX1_cut_5 (by decide) (fun c_5 => ?_) (fun c_5 => ?_)
  · have c_5 := bt_B0 c_5
    refine lv_iconst (v := -1) hx hb dX1_cut_13 (by decide) ?_
    exact bt_ri hx hb hr hlk (by simp [xs_cut, c_5]) dX1_cut_14
  · have c_5 := bt_B1 c_5
    refine lv_iload_n hx hb dX1_cut_8 rfl (lv_at hl 2 rfl) ?_
    refine lv_iconst (v := -1) hx hb dX1_cut_9 (by decide) ?_
    refine lv_icmp_ne (tgt := 15) hx hb dX1_cut_10 (by decide) (fun c_10 => ?_) (fun c_10 => ?_)
    · refine lv_aload_n hx hb dX1_cut_15 rfl (lv_at hl 0 rfl) ?_
      refine va_get (D := D) (ci := 0) (v := .ref a4) (C := RX1) (T := TX1) (N := 6) hx hb hts in_X1 hown hK hP 0 rfl rfl 5 (by decide) (hts _ q45) (fun _ h9 => h9) rfl dX1_cut_16 ?_
      refine lv_iload_n hx hb dX1_cut_19 rfl (lv_at hl 1 rfl) ?_
      refine lv_bipush (v := 16) hx hb dX1_cut_20 (by decide) ?_
      refine lv_imul hx hb dX1_cut_22 ?_
      refine lv_iload_n hx hb dX1_cut_23 rfl (lv_at hl 2 rfl) ?_
      refine lv_iadd hx hb dX1_cut_24 ?_
      refine va_iald hx hb hK hP 4 0 rfl rfl (bt_inCs c_5 c_10) dX1_cut_25 ?_
      refine lv_istore_n (lv' := [(3, .int (u ((g * 16) + v).toNatClampNeg)), (0, .ref h), (1, .int g), (2, .int v)]) hx hb dX1_cut_26 rfl hl (by decide) rfl (fun ls hl => ?_)
      refine lv_aload_n hx hb dX1_cut_27 rfl (lv_at hl 1 rfl) ?_
      refine lv_iload_n hx hb dX1_cut_28 rfl (lv_at hl 2 rfl) ?_
      refine lv_iconst (v := -1) hx hb dX1_cut_29 (by decide) ?_
      refine bt_cV (As := [.int g, .int (-1)]) (rest := []) (b := h) (ci := 0) (q0 := 0) ⟨hx, hb, hml, hown, hts⟩ (rX_isJoined l D h a1 a2 a3 a4 d k t a b j u g (-1) (bt_inT (bt_tree0 (bt_tree_s c_5).1))) 2 (lw_V q95 q97 qs2 q19 q98) ⟨rfl, rfl⟩ (by decide +kernel) ⟨Nat.le_of_ble_eq_true rfl, Nat.le_of_ble_eq_true rfl⟩ hK hP rfl rfl rfl hl.1 rfl (Nat.le_of_ble_eq_true rfl) dX1_cut_30 ⟨Nat.zero_le _, Nat.zero_le _⟩ ?_
      refine lv_if_eq (tgt := 45) hx hb dX1_cut_33 (by decide) (fun c_33 => ?_) (fun c_33 => ?_)
      · have c_33 := bt_B0 c_33
        refine lv_iconst (v := 0) hx hb dX1_cut_45 (by decide) ?_
        exact bt_ri hx hb hr hlk (by simp [xs_cut, c_5, c_10, c_33]) dX1_cut_46
      · have c_33 := bt_B1 c_33
        refine lv_iload_n hx hb dX1_cut_36 rfl (lv_at hl 0 rfl) ?_
        refine lv_iconst (v := -1) hx hb dX1_cut_37 (by decide) ?_
        refine lv_icmp_eq (tgt := 45) hx hb dX1_cut_38 (by decide) (fun c_38 => ?_) (fun c_38 => ?_)
        · refine lv_iconst (v := 0) hx hb dX1_cut_45 (by decide) ?_
          exact bt_ri hx hb hr hlk (by simp [xs_cut, c_5, c_10, c_33, c_38]) dX1_cut_46
        · refine lv_iload_n hx hb dX1_cut_41 rfl (lv_at hl 0 rfl) ?_
          refine lv_goto (tgt := 46) hx hb dX1_cut_42 (by decide) ?_
          exact bt_ri hx hb hr hlk (by simp [xs_cut, c_5, c_10, c_33, c_38]) dX1_cut_46
    · refine lv_iconst (v := -1) hx hb dX1_cut_13 (by decide) ?_
      exact bt_ri hx hb hr hlk (by simp [xs_cut, c_5, c_10]) dX1_cut_14
set_option maxHeartbeats 4000000 in
set_option maxRecDepth 100000 in
theorem rX_members (g : Int32) : Met l yX1_members (ws_ yX1_members cX1_members 2 (some .int)) ({ frames := 1, cells := 0, slots := 0, locals := 20 } : Room) (va_Pc [.ref h, .int g] (bt_RP D [(d, .int)] (wX h a1 a2 a3 a4 d k t a b j u))) (QcRead (xs_members t b g)) 0 0 (fun _ => False) := by
  refine bt_met (by decide) (Nat.le_of_ble_eq_true rfl) ?_
  intro p e s m below meth c ls hx hb hr hlk hml hown hts hnm hl hB
  obtain ⟨hP, hK⟩ := hB
  have hown : s.vm.findClass RX1 = some m.cls := hown
  have hl : lv_has ls 2 [(0, .ref h), (1, .int g)] := hl
  refine lv_iload_n hx hb dX1_members_0 rfl (lv_at hl 1 rfl) ?_
  refine bt_cS (As := [.int g]) (rest := []) ⟨hx, hb, hml, hown, hts⟩ (rX_isGroup l g) 1 (lw_S q73 q74 q19 q75) ⟨rfl, rfl⟩ (by decide +kernel) ⟨Nat.le_of_ble_eq_true rfl, Nat.le_of_ble_eq_true rfl⟩ rfl hl.1 rfl (Nat.le_of_ble_eq_true rfl) dX1_members_1 ⟨Nat.zero_le _, Nat.zero_le _⟩ ?_
  refine lv_if_ne (tgt := 9) hx hb dX1_members_4 (by decide) (fun c_4 => ?_) (fun c_4 => ?_)
  · have c_4 := bt_B1 c_4
    refine lv_aload_n hx hb dX1_members_9 rfl (lv_at hl 0 rfl) ?_
    refine va_get (D := D) (ci := 0) (v := .int t) (C := RX1) (T := TX1) (N := 6) hx hb hts in_X1 hown hK hP 0 rfl rfl 1 (by decide) (hts _ q41) (fun _ h9 => h9) rfl dX1_members_10 ?_
    refine lv_aload_n hx hb dX1_members_13 rfl (lv_at hl 0 rfl) ?_
    refine va_get (D := D) (ci := 0) (v := .ref a2) (C := RX1) (T := TX1) (N := 6) hx hb hts in_X1 hown hK hP 0 rfl rfl 3 (by decide) (hts _ q43) (fun _ h9 => h9) rfl dX1_members_14 ?_
    refine lv_iload_n hx hb dX1_members_17 rfl (lv_at hl 1 rfl) ?_
    refine va_iald hx hb hK hP 2 0 rfl rfl (bt_inG c_4) dX1_members_18 ?_
    refine lv_icmp_ge (tgt := 31) hx hb dX1_members_19 (by decide) (fun c_19 => ?_) (fun c_19 => ?_)
    · refine lv_iconst (v := 0) hx hb dX1_members_31 (by decide) ?_
      exact bt_ri hx hb hr hlk (by simp [xs_members, c_4, c_19]) dX1_members_32
    · refine lv_aload_n hx hb dX1_members_22 rfl (lv_at hl 0 rfl) ?_
      refine va_get (D := D) (ci := 0) (v := .ref a2) (C := RX1) (T := TX1) (N := 6) hx hb hts in_X1 hown hK hP 0 rfl rfl 3 (by decide) (hts _ q43) (fun _ h9 => h9) rfl dX1_members_23 ?_
      refine lv_iload_n hx hb dX1_members_26 rfl (lv_at hl 1 rfl) ?_
      refine va_iald hx hb hK hP 2 0 rfl rfl (bt_inG c_4) dX1_members_27 ?_
      refine lv_goto (tgt := 32) hx hb dX1_members_28 (by decide) ?_
      exact bt_ri hx hb hr hlk (by simp [xs_members, c_4, c_19]) dX1_members_32
  · have c_4 := bt_B0 c_4
    refine lv_iconst (v := -1) hx hb dX1_members_7 (by decide) ?_
    exact bt_ri hx hb hr hlk (by simp [xs_members, c_4]) dX1_members_8
set_option maxHeartbeats 4000000 in
set_option maxRecDepth 100000 in
theorem rX_goesOn (g : Int32) (v : Int32) (hg : bt_grp g = true) (hT : bt_tree g v = true) (hC : vp_in (g * 16 + v) 128) : Met l yX1_goesOn (ws_ yX1_goesOn cX1_goesOn 5 (some .boolean)) ({ frames := 2, cells := 0, slots := 0, locals := 42 } : Room) (va_Pc [.ref h, .int g, .int v] (bt_RP D [(d, .int)] (wX h a1 a2 a3 a4 d k t a b j u))) (QcRead (bt_B (xs_go k t a b j u g v))) 0 0 (fun _ => False) := by
  refine bt_met (by decide) (Nat.le_of_ble_eq_true rfl) ?_
  intro p e s m below meth c ls hx hb hr hlk hml hown hts hnm hl hB
  obtain ⟨hP, hK⟩ := hB
  have hown : s.vm.findClass RX1 = some m.cls := hown
  have hl : lv_has ls 5 [(0, .ref h), (1, .int g), (2, .int v)] := hl
  refine lv_aload_n hx hb dX1_goesOn_0 rfl (lv_at hl 0 rfl) ?_
  refine va_get (D := D) (ci := 0) (v := .ref a4) (C := RX1) (T := TX1) (N := 6) hx hb hts in_X1 hown hK hP 0 rfl rfl 5 (by decide) (hts _ q45) (fun _ h9 => h9) rfl dX1_goesOn_1 ?_
  refine lv_iload_n hx hb dX1_goesOn_4 rfl (lv_at hl 1 rfl) ?_
  refine lv_bipush (v := 16) hx hb dX1_goesOn_5 (by decide) ?_
  refine lv_imul hx hb dX1_goesOn_7 ?_
  refine lv_iload_n hx hb dX1_goesOn_8 rfl (lv_at hl 2 rfl) ?_
  refine lv_iadd hx hb dX1_goesOn_9 ?_
  refine va_iald hx hb hK hP 4 0 rfl rfl hC dX1_goesOn_10 ?_
  refine lv_istore_n (lv' := [(3, .int (u ((g * 16) + v).toNatClampNeg)), (0, .ref h), (1, .int g), (2, .int v)]) hx hb dX1_goesOn_11 rfl hl (by decide) rfl (fun ls hl => ?_)
  refine bt_cut (g2 := F0 m 30 ls [.int (bt_B (xs_isCut t u g v))]) ?_ (fun K => ?_)
  · refine lv_istore (lv' := [(4, .int (bt_B (xs_isCut t u g v))), (3, .int (u ((g * 16) + v).toNatClampNeg)), (0, .ref h), (1, .int g), (2, .int v)]) hx hb dX1_goesOn_30 hl (by decide) rfl (fun ls hl => ?_)
    refine bt_cut (g2 := F0 m 80 ls [.int (bt_B (xs_go k t a b j u g v))]) ?_ (fun K => ?_)
    · exact bt_rz hx hb hr hlk (rfl) dX1_goesOn_80
    · refine lv_aload_n hx hb dX1_goesOn_32 rfl (lv_at hl 2 rfl) ?_
      refine lv_iload_n hx hb dX1_goesOn_33 rfl (lv_at hl 3 rfl) ?_
      refine lv_iconst (v := -1) hx hb dX1_goesOn_34 (by decide) ?_
      refine bt_cV (As := [.int g, .int (-1)]) (rest := []) (b := h) (ci := 0) (q0 := 0) ⟨hx, hb, hml, hown, hts⟩ (rX_isJoined l D h a1 a2 a3 a4 d k t a b j u g (-1) (bt_inT (bt_tree0 hg))) 2 (lw_V q95 q97 qs2 q19 q98) ⟨rfl, rfl⟩ (by decide +kernel) ⟨Nat.le_of_ble_eq_true rfl, Nat.le_of_ble_eq_true rfl⟩ hK hP rfl rfl rfl hl.1 rfl (Nat.le_of_ble_eq_true rfl) dX1_goesOn_35 ⟨Nat.zero_le _, Nat.zero_le _⟩ ?_
      refine lv_if_eq (tgt := 46) hx hb dX1_goesOn_38 (by decide) (fun c_38 => ?_) (fun c_38 => ?_)
      · have c_38 := bt_B0 c_38
        refine lv_aload_n hx hb dX1_goesOn_46 rfl (lv_at hl 2 rfl) ?_
        refine lv_iload_n hx hb dX1_goesOn_47 rfl (lv_at hl 3 rfl) ?_
        refine lv_iload_n hx hb dX1_goesOn_48 rfl (lv_at hl 4 rfl) ?_
        refine bt_cV (As := [.int g, .int v]) (rest := []) (b := h) (ci := 0) (q0 := 0) ⟨hx, hb, hml, hown, hts⟩ (rX_isJoined l D h a1 a2 a3 a4 d k t a b j u g v (bt_inT hT)) 2 (lw_V q95 q97 qs2 q19 q98) ⟨rfl, rfl⟩ (by decide +kernel) ⟨Nat.le_of_ble_eq_true rfl, Nat.le_of_ble_eq_true rfl⟩ hK hP rfl rfl rfl hl.1 rfl (Nat.le_of_ble_eq_true rfl) dX1_goesOn_49 ⟨Nat.zero_le _, Nat.zero_le _⟩ ?_
        refine lv_if_ne (tgt := 75) hx hb dX1_goesOn_52 (by decide) (fun c_52 => ?_) (fun c_52 => ?_)
        · have c_52 := bt_B1 c_52
          refine lv_iconst (v := 1) hx hb dX1_goesOn_75 (by decide) ?_
          refine lv_goto (tgt := 80) hx hb dX1_goesOn_76 (by decide) ?_
          exact bt_top (y := bt_B (xs_go k t a b j u g v)) (by simp [bt_B, xs_go, c_38, c_52]) K
        · have c_52 := bt_B0 c_52
          refine lv_aload_n hx hb dX1_goesOn_55 rfl (lv_at hl 2 rfl) ?_
          refine va_get (D := D) (ci := 0) (v := .int t) (C := RX1) (T := TX1) (N := 6) hx hb hts in_X1 hown hK hP 0 rfl rfl 1 (by decide) (hts _ q41) (fun _ h9 => h9) rfl dX1_goesOn_56 ?_
          refine lv_aload_n hx hb dX1_goesOn_59 rfl (lv_at hl 2 rfl) ?_
          refine va_get (D := D) (ci := 0) (v := .ref a2) (C := RX1) (T := TX1) (N := 6) hx hb hts in_X1 hown hK hP 0 rfl rfl 3 (by decide) (hts _ q43) (fun _ h9 => h9) rfl dX1_goesOn_60 ?_
          refine lv_iload_n hx hb dX1_goesOn_63 rfl (lv_at hl 3 rfl) ?_
          refine va_iald hx hb hK hP 2 0 rfl rfl (bt_inG hg) dX1_goesOn_64 ?_
          refine lv_icmp_ge (tgt := 79) hx hb dX1_goesOn_65 (by decide) (fun c_65 => ?_) (fun c_65 => ?_)
          · refine lv_iconst (v := 0) hx hb dX1_goesOn_79 (by decide) ?_
            exact bt_top (y := bt_B (xs_go k t a b j u g v)) (by simp [bt_B, xs_go, c_38, c_52, c_65]) K
          · refine lv_aload_n hx hb dX1_goesOn_68 rfl (lv_at hl 2 rfl) ?_
            refine bt_cV (As := []) (rest := []) (b := h) (ci := 0) (q0 := 0) ⟨hx, hb, hml, hown, hts⟩ (rX_isFirst l D h a1 a2 a3 a4 d k t a b j u  ) 0 (lw_V q128 q130 qs5 q19 q131) ⟨rfl, rfl⟩ (by decide +kernel) ⟨Nat.le_of_ble_eq_true rfl, Nat.le_of_ble_eq_true rfl⟩ hK hP rfl rfl rfl hl.1 rfl (Nat.le_of_ble_eq_true rfl) dX1_goesOn_69 ⟨Nat.zero_le _, Nat.zero_le _⟩ ?_
            refine lv_if_eq (tgt := 79) hx hb dX1_goesOn_72 (by decide) (fun c_72 => ?_) (fun c_72 => ?_)
            · have c_72 := bt_B0 c_72
              refine lv_iconst (v := 0) hx hb dX1_goesOn_79 (by decide) ?_
              exact bt_top (y := bt_B (xs_go k t a b j u g v)) (by simp [bt_B, xs_go, c_38, c_52, c_65, c_72]) K
            · have c_72 := bt_B1 c_72
              refine lv_iconst (v := 1) hx hb dX1_goesOn_75 (by decide) ?_
              refine lv_goto (tgt := 80) hx hb dX1_goesOn_76 (by decide) ?_
              exact bt_top (y := bt_B (xs_go k t a b j u g v)) (by simp [bt_B, xs_go, c_38, c_52, c_65, c_72]) K
      · have c_38 := bt_B1 c_38
        refine lv_iload hx hb dX1_goesOn_41 (lv_at hl 0 rfl) ?_
        refine lv_if_eq (tgt := 75) hx hb dX1_goesOn_43 (by decide) (fun c_43 => ?_) (fun c_43 => ?_)
        · have c_43 := bt_B0 c_43
          refine lv_iconst (v := 1) hx hb dX1_goesOn_75 (by decide) ?_
          refine lv_goto (tgt := 80) hx hb dX1_goesOn_76 (by decide) ?_
          exact bt_top (y := bt_B (xs_go k t a b j u g v)) (by simp [bt_B, xs_go, c_38, c_43]) K
        · have c_43 := bt_B1 c_43
          refine lv_aload_n hx hb dX1_goesOn_46 rfl (lv_at hl 2 rfl) ?_
          refine lv_iload_n hx hb dX1_goesOn_47 rfl (lv_at hl 3 rfl) ?_
          refine lv_iload_n hx hb dX1_goesOn_48 rfl (lv_at hl 4 rfl) ?_
          refine bt_cV (As := [.int g, .int v]) (rest := []) (b := h) (ci := 0) (q0 := 0) ⟨hx, hb, hml, hown, hts⟩ (rX_isJoined l D h a1 a2 a3 a4 d k t a b j u g v (bt_inT hT)) 2 (lw_V q95 q97 qs2 q19 q98) ⟨rfl, rfl⟩ (by decide +kernel) ⟨Nat.le_of_ble_eq_true rfl, Nat.le_of_ble_eq_true rfl⟩ hK hP rfl rfl rfl hl.1 rfl (Nat.le_of_ble_eq_true rfl) dX1_goesOn_49 ⟨Nat.zero_le _, Nat.zero_le _⟩ ?_
          refine lv_if_ne (tgt := 75) hx hb dX1_goesOn_52 (by decide) (fun c_52 => ?_) (fun c_52 => ?_)
          · have c_52 := bt_B1 c_52
            refine lv_iconst (v := 1) hx hb dX1_goesOn_75 (by decide) ?_
            refine lv_goto (tgt := 80) hx hb dX1_goesOn_76 (by decide) ?_
            exact bt_top (y := bt_B (xs_go k t a b j u g v)) (by simp [bt_B, xs_go, c_38, c_43, c_52]) K
          · have c_52 := bt_B0 c_52
            refine lv_aload_n hx hb dX1_goesOn_55 rfl (lv_at hl 2 rfl) ?_
            refine va_get (D := D) (ci := 0) (v := .int t) (C := RX1) (T := TX1) (N := 6) hx hb hts in_X1 hown hK hP 0 rfl rfl 1 (by decide) (hts _ q41) (fun _ h9 => h9) rfl dX1_goesOn_56 ?_
            refine lv_aload_n hx hb dX1_goesOn_59 rfl (lv_at hl 2 rfl) ?_
            refine va_get (D := D) (ci := 0) (v := .ref a2) (C := RX1) (T := TX1) (N := 6) hx hb hts in_X1 hown hK hP 0 rfl rfl 3 (by decide) (hts _ q43) (fun _ h9 => h9) rfl dX1_goesOn_60 ?_
            refine lv_iload_n hx hb dX1_goesOn_63 rfl (lv_at hl 3 rfl) ?_
            refine va_iald hx hb hK hP 2 0 rfl rfl (bt_inG hg) dX1_goesOn_64 ?_
            refine lv_icmp_ge (tgt := 79) hx hb dX1_goesOn_65 (by decide) (fun c_65 => ?_) (fun c_65 => ?_)
            · refine lv_iconst (v := 0) hx hb dX1_goesOn_79 (by decide) ?_
              exact bt_top (y := bt_B (xs_go k t a b j u g v)) (by simp [bt_B, xs_go, c_38, c_43, c_52, c_65]) K
            · refine lv_aload_n hx hb dX1_goesOn_68 rfl (lv_at hl 2 rfl) ?_
              refine bt_cV (As := []) (rest := []) (b := h) (ci := 0) (q0 := 0) ⟨hx, hb, hml, hown, hts⟩ (rX_isFirst l D h a1 a2 a3 a4 d k t a b j u  ) 0 (lw_V q128 q130 qs5 q19 q131) ⟨rfl, rfl⟩ (by decide +kernel) ⟨Nat.le_of_ble_eq_true rfl, Nat.le_of_ble_eq_true rfl⟩ hK hP rfl rfl rfl hl.1 rfl (Nat.le_of_ble_eq_true rfl) dX1_goesOn_69 ⟨Nat.zero_le _, Nat.zero_le _⟩ ?_
              refine lv_if_eq (tgt := 79) hx hb dX1_goesOn_72 (by decide) (fun c_72 => ?_) (fun c_72 => ?_)
              · have c_72 := bt_B0 c_72
                refine lv_iconst (v := 0) hx hb dX1_goesOn_79 (by decide) ?_
                exact bt_top (y := bt_B (xs_go k t a b j u g v)) (by simp [bt_B, xs_go, c_38, c_43, c_52, c_65, c_72]) K
              · have c_72 := bt_B1 c_72
                refine lv_iconst (v := 1) hx hb dX1_goesOn_75 (by decide) ?_
                refine lv_goto (tgt := 80) hx hb dX1_goesOn_76 (by decide) ?_
                exact bt_top (y := bt_B (xs_go k t a b j u g v)) (by simp [bt_B, xs_go, c_38, c_43, c_52, c_65, c_72]) K
  · refine lv_iload_n hx hb dX1_goesOn_12 rfl (lv_at hl 0 rfl) ?_
    refine lv_iconst (v := -1) hx hb dX1_goesOn_13 (by decide) ?_
    refine lv_icmp_eq (tgt := 29) hx hb dX1_goesOn_14 (by decide) (fun c_14 => ?_) (fun c_14 => ?_)
    · refine lv_iconst (v := 0) hx hb dX1_goesOn_29 (by decide) ?_
      exact bt_top (y := bt_B (xs_isCut t u g v)) (by simp [bt_B, xs_isCut, c_14]) K
    · refine lv_aload_n hx hb dX1_goesOn_17 rfl (lv_at hl 1 rfl) ?_
      refine va_get (D := D) (ci := 0) (v := .int t) (C := RX1) (T := TX1) (N := 6) hx hb hts in_X1 hown hK hP 0 rfl rfl 1 (by decide) (hts _ q41) (fun _ h9 => h9) rfl dX1_goesOn_18 ?_
      refine lv_iload_n hx hb dX1_goesOn_21 rfl (lv_at hl 0 rfl) ?_
      refine lv_icmp_lt (tgt := 29) hx hb dX1_goesOn_22 (by decide) (fun c_22 => ?_) (fun c_22 => ?_)
      · refine lv_iconst (v := 0) hx hb dX1_goesOn_29 (by decide) ?_
        exact bt_top (y := bt_B (xs_isCut t u g v)) (by simp [bt_B, xs_isCut, c_14, c_22]) K
      · refine lv_iconst (v := 1) hx hb dX1_goesOn_25 (by decide) ?_
        refine lv_goto (tgt := 30) hx hb dX1_goesOn_26 (by decide) ?_
        exact bt_top (y := bt_B (xs_isCut t u g v)) (by simp [bt_B, xs_isCut, c_14, c_22]) K
set_option maxHeartbeats 4000000 in
set_option maxRecDepth 100000 in
theorem rX_goes (g : Int32) : Met l yX1_goes (ws_ yX1_goes cX1_goes 4 (some .int)) ({ frames := 3, cells := 0, slots := 0, locals := 66 } : Room) (va_Pc [.ref h, .int g] (bt_RP D [(d, .int)] (wX h a1 a2 a3 a4 d k t a b j u))) (QcRead (xs_goes k t a b j u g)) 0 0 (fun _ => False) := by
  refine bt_met (by decide) (Nat.le_of_ble_eq_true rfl) ?_
  intro p e s m below meth c ls hx hb hr hlk hml hown hts hnm hl hB
  obtain ⟨hP, hK⟩ := hB
  have hown : s.vm.findClass RX1 = some m.cls := hown
  have hl : lv_has ls 4 [(0, .ref h), (1, .int g)] := hl
  refine lv_iload_n hx hb dX1_goes_0 rfl (lv_at hl 1 rfl) ?_
  refine bt_cS (As := [.int g]) (rest := []) ⟨hx, hb, hml, hown, hts⟩ (rX_isGroup l g) 1 (lw_S q73 q74 q19 q75) ⟨rfl, rfl⟩ (by decide +kernel) ⟨Nat.le_of_ble_eq_true rfl, Nat.le_of_ble_eq_true rfl⟩ rfl hl.1 rfl (Nat.le_of_ble_eq_true rfl) dX1_goes_1 ⟨Nat.zero_le _, Nat.zero_le _⟩ ?_
  refine lv_if_ne (tgt := 9) hx hb dX1_goes_4 (by decide) (fun c_4 => ?_) (fun c_4 => ?_)
  · have c_4 := bt_B1 c_4
    refine lv_iconst (v := 0) hx hb dX1_goes_9 (by decide) ?_
    refine lv_istore_n (lv' := [(2, .int 0), (0, .ref h), (1, .int g)]) hx hb dX1_goes_10 rfl hl (by decide) rfl (fun ls hl => ?_)
    refine lv_iconst (v := 0) hx hb dX1_goes_11 (by decide) ?_
    refine lv_istore_n (lv' := [(3, .int 0), (2, .int 0), (0, .ref h), (1, .int g)]) hx hb dX1_goes_12 rfl hl (by decide) rfl (fun ls hl => ?_)
    refine bt_loop 16 (fun i ls => lv_has ls 4 [(0, .ref h), (1, .int g), (2, .int (nI (bt_bits (fun i => xs_go k t a b j u g (nI i)) i))), (3, .int (nI i))]) ?_ ?_ 16 0 ls (by decide) (lv_sub hl [2, 3, 1, 0] rfl)
    · intro ls hl
      have hl : lv_has ls 4 [(0, .ref h), (1, .int g), (2, .int (nI (bt_bits (fun i => xs_go k t a b j u g (nI i)) 16))), (3, .int (nI 16))] := hl
      refine lv_iload_n hx hb dX1_goes_13 rfl (lv_at hl 3 rfl) ?_
      refine lv_bipush (v := 16) hx hb dX1_goes_14 (by decide) ?_
      refine lv_icmp_ge (tgt := 44) hx hb dX1_goes_16 (by decide) (fun _ => ?_) (fun c_16 => absurd (by decide) c_16)
      refine lv_iload_n hx hb dX1_goes_44 rfl (lv_at hl 2 rfl) ?_
      exact bt_ri hx hb hr hlk (by unfold xs_goes; rw [if_pos c_4]) dX1_goes_45
    · intro i ls hi hl ih
      have hl : lv_has ls 4 [(0, .ref h), (1, .int g), (2, .int (nI (bt_bits (fun i => xs_go k t a b j u g (nI i)) i))), (3, .int (nI i))] := hl
      refine lv_iload_n hx hb dX1_goes_13 rfl (lv_at hl 3 rfl) ?_
      refine lv_bipush (v := 16) hx hb dX1_goes_14 (by decide) ?_
      refine lv_icmp_ge (tgt := 44) hx hb dX1_goes_16 (by decide) (fun c_16 => absurd c_16 (nI_ge hi (by decide))) (fun _ => ?_)
      refine lv_iload_n hx hb dX1_goes_19 rfl (lv_at hl 2 rfl) ?_
      refine lv_aload_n hx hb dX1_goes_20 rfl (lv_at hl 0 rfl) ?_
      refine lv_iload_n hx hb dX1_goes_21 rfl (lv_at hl 1 rfl) ?_
      refine lv_iload_n hx hb dX1_goes_22 rfl (lv_at hl 3 rfl) ?_
      refine bt_cV (As := [.int g, .int (nI i)]) (rest := [.int (nI (bt_bits (fun i => xs_go k t a b j u g (nI i)) i))]) (b := h) (ci := 0) (q0 := 0) ⟨hx, hb, hml, hown, hts⟩ (rX_goesOn l D h a1 a2 a3 a4 d k t a b j u g (nI i) c_4 (bt_treeN c_4 hi) (bt_inC c_4 hi)) 2 (lw_V q124 q126 qs4 q19 q127) ⟨rfl, rfl⟩ (by decide +kernel) ⟨Nat.le_of_ble_eq_true rfl, Nat.le_of_ble_eq_true rfl⟩ hK hP rfl rfl rfl hl.1 rfl (Nat.le_of_ble_eq_true rfl) dX1_goes_23 ⟨Nat.zero_le _, Nat.zero_le _⟩ ?_
      refine lv_if_eq (tgt := 35) hx hb dX1_goes_26 (by decide) (fun c_26 => ?_) (fun c_26 => ?_)
      · have c_26 := bt_B0 c_26
        refine lv_iconst (v := 0) hx hb dX1_goes_35 (by decide) ?_
        refine lv_ior hx hb dX1_goes_36 ?_
        refine bt_top (y := nI (bt_bits (fun i => xs_go k t a b j u g (nI i)) (i + 1))) (bt_bits00 (c_26)) ?_
        refine lv_istore_n (lv' := [(2, .int (nI (bt_bits (fun i => xs_go k t a b j u g (nI i)) (i + 1)))), (0, .ref h), (1, .int g), (3, .int (nI i))]) hx hb dX1_goes_37 rfl hl (by decide) rfl (fun ls hl => ?_)
        refine lv_iinc (v := nI (i + 1)) (lv' := [(3, .int (nI (i + 1))), (2, .int (nI (bt_bits (fun i => xs_go k t a b j u g (nI i)) (i + 1)))), (0, .ref h), (1, .int g)]) hx hb dX1_goes_38 hl (k := 3) rfl (nI_1 i) (by decide) rfl (fun ls hl => ?_)
        refine lv_goto (tgt := 13) hx hb dX1_goes_41 (by decide) ?_
        have hl2 := lv_sub (l' := [(0, .ref h), (1, .int g), (2, .int (nI (bt_bits (fun i => xs_go k t a b j u g (nI i)) (i + 1)))), (3, .int (nI (i + 1)))]) hl [2, 3, 1, 0] rfl
        exact ih ls hl2
      · have c_26 := bt_B1 c_26
        refine lv_iconst (v := 1) hx hb dX1_goes_29 (by decide) ?_
        refine lv_iload_n hx hb dX1_goes_30 rfl (lv_at hl 3 rfl) ?_
        refine lv_ishl hx hb dX1_goes_31 ?_
        refine lv_goto (tgt := 36) hx hb dX1_goes_32 (by decide) ?_
        refine lv_ior hx hb dX1_goes_36 ?_
        refine bt_top (y := nI (bt_bits (fun i => xs_go k t a b j u g (nI i)) (i + 1))) (bt_bits1 (by omega) (c_26)) ?_
        refine lv_istore_n (lv' := [(2, .int (nI (bt_bits (fun i => xs_go k t a b j u g (nI i)) (i + 1)))), (0, .ref h), (1, .int g), (3, .int (nI i))]) hx hb dX1_goes_37 rfl hl (by decide) rfl (fun ls hl => ?_)
        refine lv_iinc (v := nI (i + 1)) (lv' := [(3, .int (nI (i + 1))), (2, .int (nI (bt_bits (fun i => xs_go k t a b j u g (nI i)) (i + 1)))), (0, .ref h), (1, .int g)]) hx hb dX1_goes_38 hl (k := 3) rfl (nI_1 i) (by decide) rfl (fun ls hl => ?_)
        refine lv_goto (tgt := 13) hx hb dX1_goes_41 (by decide) ?_
        have hl2 := lv_sub (l' := [(0, .ref h), (1, .int g), (2, .int (nI (bt_bits (fun i => xs_go k t a b j u g (nI i)) (i + 1)))), (3, .int (nI (i + 1)))]) hl [2, 3, 1, 0] rfl
        exact ih ls hl2
  · have c_4 := bt_B0 c_4
    refine lv_iconst (v := -1) hx hb dX1_goes_7 (by decide) ?_
    exact bt_ri hx hb hr hlk (by simp [xs_goes, c_4]) dX1_goes_8
set_option maxHeartbeats 4000000 in
set_option maxRecDepth 100000 in
theorem rX_groups : Met l yX1_groups (ws_ yX1_groups cX1_groups 3 (some .int)) ({ frames := 4, cells := 0, slots := 0, locals := 89 } : Room) (va_Pc [.ref h] (bt_RP D [(d, .int)] (wX h a1 a2 a3 a4 d k t a b j u))) (QcRead (nI (xs_groups k t a b j u))) 0 0 (fun _ => False) := by
  refine bt_met (by decide) (Nat.le_of_ble_eq_true rfl) ?_
  intro p e s m below meth c ls hx hb hr hlk hml hown hts hnm hl hB
  obtain ⟨hP, hK⟩ := hB
  have hown : s.vm.findClass RX1 = some m.cls := hown
  have hl : lv_has ls 3 [(0, .ref h)] := hl
  refine lv_iconst (v := 0) hx hb dX1_groups_0 (by decide) ?_
  refine lv_istore_n (lv' := [(1, .int 0), (0, .ref h)]) hx hb dX1_groups_1 rfl hl (by decide) rfl (fun ls hl => ?_)
  refine lv_iconst (v := 0) hx hb dX1_groups_2 (by decide) ?_
  refine lv_istore_n (lv' := [(2, .int 0), (1, .int 0), (0, .ref h)]) hx hb dX1_groups_3 rfl hl (by decide) rfl (fun ls hl => ?_)
  refine bt_loop 8 (fun i ls => lv_has ls 3 [(0, .ref h), (1, .int (nI (bt_bits (fun i => !decide (xs_goes k t a b j u (nI i) = 0)) i))), (2, .int (nI i))]) ?_ ?_ 8 0 ls (by decide) (lv_sub hl [2, 1, 0] rfl)
  · intro ls hl
    have hl : lv_has ls 3 [(0, .ref h), (1, .int (nI (bt_bits (fun i => !decide (xs_goes k t a b j u (nI i) = 0)) 8))), (2, .int (nI 8))] := hl
    refine lv_iload_n hx hb dX1_groups_4 rfl (lv_at hl 2 rfl) ?_
    refine lv_bipush (v := 8) hx hb dX1_groups_5 (by decide) ?_
    refine lv_icmp_ge (tgt := 34) hx hb dX1_groups_7 (by decide) (fun _ => ?_) (fun c_7 => absurd (by decide) c_7)
    refine lv_iload_n hx hb dX1_groups_34 rfl (lv_at hl 1 rfl) ?_
    exact bt_ri hx hb hr hlk (rfl) dX1_groups_35
  · intro i ls hi hl ih
    have hl : lv_has ls 3 [(0, .ref h), (1, .int (nI (bt_bits (fun i => !decide (xs_goes k t a b j u (nI i) = 0)) i))), (2, .int (nI i))] := hl
    refine lv_iload_n hx hb dX1_groups_4 rfl (lv_at hl 2 rfl) ?_
    refine lv_bipush (v := 8) hx hb dX1_groups_5 (by decide) ?_
    refine lv_icmp_ge (tgt := 34) hx hb dX1_groups_7 (by decide) (fun c_7 => absurd c_7 (nI_ge hi (by decide))) (fun _ => ?_)
    refine lv_iload_n hx hb dX1_groups_10 rfl (lv_at hl 1 rfl) ?_
    refine lv_aload_n hx hb dX1_groups_11 rfl (lv_at hl 0 rfl) ?_
    refine lv_iload_n hx hb dX1_groups_12 rfl (lv_at hl 2 rfl) ?_
    refine bt_cV (As := [.int (nI i)]) (rest := [.int (nI (bt_bits (fun i => !decide (xs_goes k t a b j u (nI i) = 0)) i))]) (b := h) (ci := 0) (q0 := 0) ⟨hx, hb, hml, hown, hts⟩ (rX_goes l D h a1 a2 a3 a4 d k t a b j u (nI i) ) 1 (lw_V q140 q121 q122 q19 q123) ⟨rfl, rfl⟩ (by decide +kernel) ⟨Nat.le_of_ble_eq_true rfl, Nat.le_of_ble_eq_true rfl⟩ hK hP rfl rfl rfl hl.1 rfl (Nat.le_of_ble_eq_true rfl) dX1_groups_13 ⟨Nat.zero_le _, Nat.zero_le _⟩ ?_
    refine lv_if_eq (tgt := 25) hx hb dX1_groups_16 (by decide) (fun c_16 => ?_) (fun c_16 => ?_)
    · refine lv_iconst (v := 0) hx hb dX1_groups_25 (by decide) ?_
      refine lv_ior hx hb dX1_groups_26 ?_
      refine bt_top (y := nI (bt_bits (fun i => !decide (xs_goes k t a b j u (nI i) = 0)) (i + 1))) (bt_bits00 (by simp [c_16])) ?_
      refine lv_istore_n (lv' := [(1, .int (nI (bt_bits (fun i => !decide (xs_goes k t a b j u (nI i) = 0)) (i + 1)))), (0, .ref h), (2, .int (nI i))]) hx hb dX1_groups_27 rfl hl (by decide) rfl (fun ls hl => ?_)
      refine lv_iinc (v := nI (i + 1)) (lv' := [(2, .int (nI (i + 1))), (1, .int (nI (bt_bits (fun i => !decide (xs_goes k t a b j u (nI i) = 0)) (i + 1)))), (0, .ref h)]) hx hb dX1_groups_28 hl (k := 2) rfl (nI_1 i) (by decide) rfl (fun ls hl => ?_)
      refine lv_goto (tgt := 4) hx hb dX1_groups_31 (by decide) ?_
      have hl2 := lv_sub (l' := [(0, .ref h), (1, .int (nI (bt_bits (fun i => !decide (xs_goes k t a b j u (nI i) = 0)) (i + 1)))), (2, .int (nI (i + 1)))]) hl [2, 1, 0] rfl
      exact ih ls hl2
    · refine lv_iconst (v := 1) hx hb dX1_groups_19 (by decide) ?_
      refine lv_iload_n hx hb dX1_groups_20 rfl (lv_at hl 2 rfl) ?_
      refine lv_ishl hx hb dX1_groups_21 ?_
      refine lv_goto (tgt := 26) hx hb dX1_groups_22 (by decide) ?_
      refine lv_ior hx hb dX1_groups_26 ?_
      refine bt_top (y := nI (bt_bits (fun i => !decide (xs_goes k t a b j u (nI i) = 0)) (i + 1))) (bt_bits1 (by omega) (by simp [c_16])) ?_
      refine lv_istore_n (lv' := [(1, .int (nI (bt_bits (fun i => !decide (xs_goes k t a b j u (nI i) = 0)) (i + 1)))), (0, .ref h), (2, .int (nI i))]) hx hb dX1_groups_27 rfl hl (by decide) rfl (fun ls hl => ?_)
      refine lv_iinc (v := nI (i + 1)) (lv' := [(2, .int (nI (i + 1))), (1, .int (nI (bt_bits (fun i => !decide (xs_goes k t a b j u (nI i) = 0)) (i + 1)))), (0, .ref h)]) hx hb dX1_groups_28 hl (k := 2) rfl (nI_1 i) (by decide) rfl (fun ls hl => ?_)
      refine lv_goto (tgt := 4) hx hb dX1_groups_31 (by decide) ?_
      have hl2 := lv_sub (l' := [(0, .ref h), (1, .int (nI (bt_bits (fun i => !decide (xs_goes k t a b j u (nI i) = 0)) (i + 1)))), (2, .int (nI (i + 1)))]) hl [2, 1, 0] rfl
      exact ih ls hl2
set_option maxHeartbeats 4000000 in
set_option maxRecDepth 100000 in
theorem rX_branches : Met l yX1_branches (ws_ yX1_branches cX1_branches 3 (some .int)) ({ frames := 0, cells := 0, slots := 0, locals := 0 } : Room) (va_Pc [.ref h] (bt_RP D [(d, .int)] (wX h a1 a2 a3 a4 d k t a b j u))) (QcRead (nI (xs_branches t j))) 0 0 (fun _ => False) := by
  refine bt_met (by decide) (Nat.le_of_ble_eq_true rfl) ?_
  intro p e s m below meth c ls hx hb hr hlk hml hown hts hnm hl hB
  obtain ⟨hP, hK⟩ := hB
  have hown : s.vm.findClass RX1 = some m.cls := hown
  have hl : lv_has ls 3 [(0, .ref h)] := hl
  refine lv_iconst (v := 0) hx hb dX1_branches_0 (by decide) ?_
  refine lv_istore_n (lv' := [(1, .int 0), (0, .ref h)]) hx hb dX1_branches_1 rfl hl (by decide) rfl (fun ls hl => ?_)
  refine lv_iconst (v := 0) hx hb dX1_branches_2 (by decide) ?_
  refine lv_istore_n (lv' := [(2, .int 0), (1, .int 0), (0, .ref h)]) hx hb dX1_branches_3 rfl hl (by decide) rfl (fun ls hl => ?_)
  refine bt_loop 136 (fun i ls => lv_has ls 3 [(0, .ref h), (1, .int (nI (bt_cnt (fun i => !decide (j i ≤ t)) i))), (2, .int (nI i))]) ?_ ?_ 136 0 ls (by decide) (lv_sub hl [2, 1, 0] rfl)
  · intro ls hl
    have hl : lv_has ls 3 [(0, .ref h), (1, .int (nI (bt_cnt (fun i => !decide (j i ≤ t)) 136))), (2, .int (nI 136))] := hl
    refine lv_iload_n hx hb dX1_branches_4 rfl (lv_at hl 2 rfl) ?_
    refine lv_sipush (v := 136) hx hb dX1_branches_5 (by decide) ?_
    refine lv_icmp_ge (tgt := 38) hx hb dX1_branches_8 (by decide) (fun _ => ?_) (fun c_8 => absurd (by decide) c_8)
    refine lv_iload_n hx hb dX1_branches_38 rfl (lv_at hl 1 rfl) ?_
    exact bt_ri hx hb hr hlk (rfl) dX1_branches_39
  · intro i ls hi hl ih
    have hl : lv_has ls 3 [(0, .ref h), (1, .int (nI (bt_cnt (fun i => !decide (j i ≤ t)) i))), (2, .int (nI i))] := hl
    refine lv_iload_n hx hb dX1_branches_4 rfl (lv_at hl 2 rfl) ?_
    refine lv_sipush (v := 136) hx hb dX1_branches_5 (by decide) ?_
    refine lv_icmp_ge (tgt := 38) hx hb dX1_branches_8 (by decide) (fun c_8 => absurd c_8 (nI_ge hi (by decide))) (fun _ => ?_)
    refine lv_iload_n hx hb dX1_branches_11 rfl (lv_at hl 1 rfl) ?_
    refine lv_aload_n hx hb dX1_branches_12 rfl (lv_at hl 0 rfl) ?_
    refine va_get (D := D) (ci := 0) (v := .int t) (C := RX1) (T := TX1) (N := 6) hx hb hts in_X1 hown hK hP 0 rfl rfl 1 (by decide) (hts _ q41) (fun _ h9 => h9) rfl dX1_branches_13 ?_
    refine lv_aload_n hx hb dX1_branches_16 rfl (lv_at hl 0 rfl) ?_
    refine va_get (D := D) (ci := 0) (v := .ref a3) (C := RX1) (T := TX1) (N := 6) hx hb hts in_X1 hown hK hP 0 rfl rfl 4 (by decide) (hts _ q44) (fun _ h9 => h9) rfl dX1_branches_17 ?_
    refine lv_iload_n hx hb dX1_branches_20 rfl (lv_at hl 2 rfl) ?_
    refine bt_ild hx hb hK hP 3 0 rfl rfl hi (by decide) dX1_branches_21 ?_
    refine lv_icmp_ge (tgt := 29) hx hb dX1_branches_22 (by decide) (fun c_22 => ?_) (fun c_22 => ?_)
    · refine lv_iconst (v := 0) hx hb dX1_branches_29 (by decide) ?_
      refine lv_iadd hx hb dX1_branches_30 ?_
      refine bt_top (y := nI (bt_cnt (fun i => !decide (j i ≤ t)) (i + 1))) (bt_cnt0 (by simp [c_22])) ?_
      refine lv_istore_n (lv' := [(1, .int (nI (bt_cnt (fun i => !decide (j i ≤ t)) (i + 1)))), (0, .ref h), (2, .int (nI i))]) hx hb dX1_branches_31 rfl hl (by decide) rfl (fun ls hl => ?_)
      refine lv_iinc (v := nI (i + 1)) (lv' := [(2, .int (nI (i + 1))), (1, .int (nI (bt_cnt (fun i => !decide (j i ≤ t)) (i + 1)))), (0, .ref h)]) hx hb dX1_branches_32 hl (k := 2) rfl (nI_1 i) (by decide) rfl (fun ls hl => ?_)
      refine lv_goto (tgt := 4) hx hb dX1_branches_35 (by decide) ?_
      have hl2 := lv_sub (l' := [(0, .ref h), (1, .int (nI (bt_cnt (fun i => !decide (j i ≤ t)) (i + 1)))), (2, .int (nI (i + 1)))]) hl [2, 1, 0] rfl
      exact ih ls hl2
    · refine lv_iconst (v := 1) hx hb dX1_branches_25 (by decide) ?_
      refine lv_goto (tgt := 30) hx hb dX1_branches_26 (by decide) ?_
      refine lv_iadd hx hb dX1_branches_30 ?_
      refine bt_top (y := nI (bt_cnt (fun i => !decide (j i ≤ t)) (i + 1))) (bt_cnt1 (by simp [c_22])) ?_
      refine lv_istore_n (lv' := [(1, .int (nI (bt_cnt (fun i => !decide (j i ≤ t)) (i + 1)))), (0, .ref h), (2, .int (nI i))]) hx hb dX1_branches_31 rfl hl (by decide) rfl (fun ls hl => ?_)
      refine lv_iinc (v := nI (i + 1)) (lv' := [(2, .int (nI (i + 1))), (1, .int (nI (bt_cnt (fun i => !decide (j i ≤ t)) (i + 1)))), (0, .ref h)]) hx hb dX1_branches_32 hl (k := 2) rfl (nI_1 i) (by decide) rfl (fun ls hl => ?_)
      refine lv_goto (tgt := 4) hx hb dX1_branches_35 (by decide) ?_
      have hl2 := lv_sub (l' := [(0, .ref h), (1, .int (nI (bt_cnt (fun i => !decide (j i ≤ t)) (i + 1)))), (2, .int (nI (i + 1)))]) hl [2, 1, 0] rfl
      exact ih ls hl2
set_option maxHeartbeats 4000000 in
set_option maxRecDepth 100000 in
theorem rX_look (w : Int32) (hk : k ≤ 9) : Met l yX1_look (ws_ yX1_look cX1_look 2 (some .int)) ({ frames := 5, cells := 0, slots := 0, locals := 111 } : Room) (va_Pc [.ref h, .int w] (bt_RP D [(d, .int)] (wX h a1 a2 a3 a4 d k t a b j u))) (QcRead (xs_look k t a b j u w)) 0 0 (fun _ => False) := by
  refine bt_met (by decide) (Nat.le_of_ble_eq_true rfl) ?_
  intro p e s m below meth c ls hx hb hr hlk hml hown hts hnm hl hB
  obtain ⟨hP, hK⟩ := hB
  have hown : s.vm.findClass RX1 = some m.cls := hown
  have hl : lv_has ls 2 [(0, .ref h), (1, .int w)] := hl
  refine lv_iload_n hx hb dX1_look_0 rfl (lv_at hl 1 rfl) ?_
  rcases bt_sw8 w with rfl | rfl | rfl | rfl | rfl | rfl | rfl | rfl | ⟨hne, hout⟩
  · refine lv_tableIn (tgt := 48) hx hb dX1_look_1 (by decide) (by decide) rfl (by decide) ?_
    refine lv_aload_n hx hb dX1_look_48 rfl (lv_at hl 0 rfl) ?_
    refine va_get (D := D) (ci := 0) (v := .int t) (C := RX1) (T := TX1) (N := 6) hx hb hts in_X1 hown hK hP 0 rfl rfl 1 (by decide) (hts _ q41) (fun _ h9 => h9) rfl dX1_look_49 ?_
    exact bt_ri hx hb hr hlk (rfl) dX1_look_52
  · refine lv_tableIn (tgt := 53) hx hb dX1_look_1 (by decide) (by decide) rfl (by decide) ?_
    refine lv_aload_n hx hb dX1_look_53 rfl (lv_at hl 0 rfl) ?_
    refine bt_cV (As := []) (rest := []) (b := h) (ci := 0) (q0 := 0) ⟨hx, hb, hml, hown, hts⟩ (rX_near l D h a1 a2 a3 a4 d k t a b j u  ) 0 (lw_V q84 q86 qs1 q19 q87) ⟨rfl, rfl⟩ (by decide +kernel) ⟨Nat.le_of_ble_eq_true rfl, Nat.le_of_ble_eq_true rfl⟩ hK hP rfl rfl rfl hl.1 rfl (Nat.le_of_ble_eq_true rfl) dX1_look_54 ⟨Nat.zero_le _, Nat.zero_le _⟩ ?_
    exact bt_ri hx hb hr hlk (rfl) dX1_look_57
  · refine lv_tableIn (tgt := 58) hx hb dX1_look_1 (by decide) (by decide) rfl (by decide) ?_
    refine lv_aload_n hx hb dX1_look_58 rfl (lv_at hl 0 rfl) ?_
    refine bt_cV (As := []) (rest := []) (b := h) (ci := 0) (q0 := 0) ⟨hx, hb, hml, hown, hts⟩ (rX_isFirst l D h a1 a2 a3 a4 d k t a b j u  ) 0 (lw_V q128 q130 qs5 q19 q131) ⟨rfl, rfl⟩ (by decide +kernel) ⟨Nat.le_of_ble_eq_true rfl, Nat.le_of_ble_eq_true rfl⟩ hK hP rfl rfl rfl hl.1 rfl (Nat.le_of_ble_eq_true rfl) dX1_look_59 ⟨Nat.zero_le _, Nat.zero_le _⟩ ?_
    refine lv_if_eq (tgt := 69) hx hb dX1_look_62 (by decide) (fun c_62 => ?_) (fun c_62 => ?_)
    · have c_62 := bt_B0 c_62
      refine lv_iconst (v := 0) hx hb dX1_look_69 (by decide) ?_
      exact bt_ri hx hb hr hlk (by simp [xs_look, bt_B, c_62]) dX1_look_70
    · have c_62 := bt_B1 c_62
      refine lv_iconst (v := 1) hx hb dX1_look_65 (by decide) ?_
      refine lv_goto (tgt := 70) hx hb dX1_look_66 (by decide) ?_
      exact bt_ri hx hb hr hlk (by simp [xs_look, bt_B, c_62]) dX1_look_70
  · refine lv_tableIn (tgt := 71) hx hb dX1_look_1 (by decide) (by decide) rfl (by decide) ?_
    refine lv_aload_n hx hb dX1_look_71 rfl (lv_at hl 0 rfl) ?_
    refine bt_cV (As := []) (rest := []) (b := h) (ci := 0) (q0 := 0) ⟨hx, hb, hml, hown, hts⟩ (rX_isAsking l D h a1 a2 a3 a4 d k t a b j u  hk) 0 (lw_V q80 q82 qs0 q19 q83) ⟨rfl, rfl⟩ (by decide +kernel) ⟨Nat.le_of_ble_eq_true rfl, Nat.le_of_ble_eq_true rfl⟩ hK hP rfl rfl rfl hl.1 rfl (Nat.le_of_ble_eq_true rfl) dX1_look_72 ⟨Nat.zero_le _, Nat.zero_le _⟩ ?_
    refine lv_if_eq (tgt := 82) hx hb dX1_look_75 (by decide) (fun c_75 => ?_) (fun c_75 => ?_)
    · have c_75 := bt_B0 c_75
      refine lv_iconst (v := 0) hx hb dX1_look_82 (by decide) ?_
      exact bt_ri hx hb hr hlk (by simp [xs_look, bt_B, c_75]) dX1_look_83
    · have c_75 := bt_B1 c_75
      refine lv_iconst (v := 1) hx hb dX1_look_78 (by decide) ?_
      refine lv_goto (tgt := 83) hx hb dX1_look_79 (by decide) ?_
      exact bt_ri hx hb hr hlk (by simp [xs_look, bt_B, c_75]) dX1_look_83
  · refine lv_tableIn (tgt := 84) hx hb dX1_look_1 (by decide) (by decide) rfl (by decide) ?_
    refine lv_aload_n hx hb dX1_look_84 rfl (lv_at hl 0 rfl) ?_
    refine bt_cV (As := []) (rest := []) (b := h) (ci := 0) (q0 := 0) ⟨hx, hb, hml, hown, hts⟩ (rX_isCrowded l D h a1 a2 a3 a4 d k t a b j u  ) 0 (lw_V q99 q101 qs3 q19 q102) ⟨rfl, rfl⟩ (by decide +kernel) ⟨Nat.le_of_ble_eq_true rfl, Nat.le_of_ble_eq_true rfl⟩ hK hP rfl rfl rfl hl.1 rfl (Nat.le_of_ble_eq_true rfl) dX1_look_85 ⟨Nat.zero_le _, Nat.zero_le _⟩ ?_
    refine lv_if_eq (tgt := 95) hx hb dX1_look_88 (by decide) (fun c_88 => ?_) (fun c_88 => ?_)
    · have c_88 := bt_B0 c_88
      refine lv_iconst (v := 0) hx hb dX1_look_95 (by decide) ?_
      exact bt_ri hx hb hr hlk (by simp [xs_look, bt_B, c_88]) dX1_look_96
    · have c_88 := bt_B1 c_88
      refine lv_iconst (v := 1) hx hb dX1_look_91 (by decide) ?_
      refine lv_goto (tgt := 96) hx hb dX1_look_92 (by decide) ?_
      exact bt_ri hx hb hr hlk (by simp [xs_look, bt_B, c_88]) dX1_look_96
  · refine lv_tableIn (tgt := 97) hx hb dX1_look_1 (by decide) (by decide) rfl (by decide) ?_
    refine lv_aload_n hx hb dX1_look_97 rfl (lv_at hl 0 rfl) ?_
    refine va_get (D := D) (ci := 0) (v := .int (nI k)) (C := RX1) (T := TX1) (N := 6) hx hb hts in_X1 hown hK hP 0 rfl rfl 0 (by decide) (hts _ q40) (fun _ h9 => h9) rfl dX1_look_98 ?_
    exact bt_ri hx hb hr hlk (rfl) dX1_look_101
  · refine lv_tableIn (tgt := 102) hx hb dX1_look_1 (by decide) (by decide) rfl (by decide) ?_
    refine lv_aload_n hx hb dX1_look_102 rfl (lv_at hl 0 rfl) ?_
    refine bt_cV (As := []) (rest := []) (b := h) (ci := 0) (q0 := 0) ⟨hx, hb, hml, hown, hts⟩ (rX_groups l D h a1 a2 a3 a4 d k t a b j u  ) 0 (lw_V q136 q138 qs6 q19 q139) ⟨rfl, rfl⟩ (by decide +kernel) ⟨Nat.le_of_ble_eq_true rfl, Nat.le_of_ble_eq_true rfl⟩ hK hP rfl rfl rfl hl.1 rfl (Nat.le_of_ble_eq_true rfl) dX1_look_103 ⟨Nat.zero_le _, Nat.zero_le _⟩ ?_
    exact bt_ri hx hb hr hlk (rfl) dX1_look_106
  · refine lv_tableIn (tgt := 107) hx hb dX1_look_1 (by decide) (by decide) rfl (by decide) ?_
    refine lv_aload_n hx hb dX1_look_107 rfl (lv_at hl 0 rfl) ?_
    refine bt_cV (As := []) (rest := []) (b := h) (ci := 0) (q0 := 0) ⟨hx, hb, hml, hown, hts⟩ (rX_branches l D h a1 a2 a3 a4 d k t a b j u  ) 0 (lw_V q141 q143 qs7 q19 q144) ⟨rfl, rfl⟩ (by decide +kernel) ⟨Nat.le_of_ble_eq_true rfl, Nat.le_of_ble_eq_true rfl⟩ hK hP rfl rfl rfl hl.1 rfl (Nat.le_of_ble_eq_true rfl) dX1_look_108 ⟨Nat.zero_le _, Nat.zero_le _⟩ ?_
    exact bt_ri hx hb hr hlk (rfl) dX1_look_111
  · refine lv_tableOut (tgt := 112) hx hb dX1_look_1 hout (by decide) ?_
    refine lv_iconst (v := -1) hx hb dX1_look_112 (by decide) ?_
    exact bt_ri hx hb hr hlk (by simp [xs_look, hne]) dX1_look_113
end XD
end
section
set_option maxHeartbeats 4000000 in
set_option maxRecDepth 100000 in
theorem iX_init (l : Launch) (D : va_G) (h : Nat) (d : ClassId) (x : Int32) (sz : Nat) : Met l yX1_init (ws_ yX1_init cX1_init 2 none) ({ frames := 1, cells := 4, slots := 282, locals := 21 } : Room) (va_Pc [.ref h, .int x] (bt_MP D [(d, .int)] [(h, .inr (0, [.int 0, .int 0, .null, .null, .null, .null]))] sz)) (bt_QI D [(d, .int)] (fun y : Nat × Nat × Nat × Nat => wX h y.1 y.2.1 y.2.2.1 y.2.2.2 d (bt_cl x) 0 (bt_fill (fun _ => 0) 0 10) (bt_fill (fun _ => 0) 0 8) (bt_fill (fun _ => 0) 0 136) (bt_fill (fun _ => 0) (-1) 128)) (va_A [(h, .inr (0, [.int 0, .int 0, .null, .null, .null, .null]))] sz)) 4 282 (va_A [(h, .inr (0, [.int 0, .int 0, .null, .null, .null, .null]))] sz) := by
  refine bt_metM (Qc := fun A => bt_QI D [(d, .int)] (fun y : Nat × Nat × Nat × Nat => wX h y.1 y.2.1 y.2.2.1 y.2.2.2 d (bt_cl x) 0 (bt_fill (fun _ => 0) 0 10) (bt_fill (fun _ => 0) 0 8) (bt_fill (fun _ => 0) 0 136) (bt_fill (fun _ => 0) (-1) 128)) A) (by decide) (Nat.le_of_ble_eq_true rfl) ?_
  intro p e s m below meth c ls A hx hb hr hlk hml hown hts hnm hl hP hK hD hS hA
  have hown : s.vm.findClass RX1 = some m.cls := hown
  have hnm : meth.name = "<init>" := hnm
  have hl : lv_has ls 2 [(0, .ref h), (1, .int x)] := hl
  refine lv_aload_n hx hb dX1_init_0 rfl (lv_at hl 0 rfl) ?_
  refine W.objInit hx hb hown (hts _ q27) (hts _ q28) (hts _ q29) rfl (by rw [hml]; exact hl.1) rfl dX1_init_1 (Nat.le_of_ble_eq_true rfl) (Nat.le_of_ble_eq_true rfl) ?_
  refine W.eq (g2 := F0 m 4 ls []) rfl ?_
  refine lv_aload_n hx hb dX1_init_4 rfl (lv_at hl 0 rfl) ?_
  refine lv_bipush (v := 10) hx hb dX1_init_5 (by decide) ?_
  refine va_newa (D := D) (atype := .int) hx hb (hts _ q59) rfl hK hP hD hS hA (a0 := (10, .inl (fun _ => 0))) (fun _ => rfl) (by decide) (by decide) (by decide) (Nat.le_of_ble_eq_true rfl) (Nat.le_of_ble_eq_true rfl) dX1_init_7 (fun a1 cA H hK hP hD hS => ?_)
  have e9 := bt_oneA hK
  subst e9
  have hK : va_K D vwCl [(d, .int)] s := hK.sub [0] rfl
  have hP : va_P D vwCl [(h, .inr (0, [.int 0, .int 0, .null, .null, .null, .null])), (a1, .inl (d, 10, .inl (fun _ => 0)))] H := hP
  have hD : va_D A [(h, .inr (0, [.int 0, .int 0, .null, .null, .null, .null])), (a1, .inl (d, 10, .inl (fun _ => 0)))] := hD
  refine W.widen (k := 1) (n := 10) (Nat.le_of_ble_eq_true rfl) (Nat.le_of_ble_eq_true rfl) ?_
  refine va_putF (D := D) (ci := 0) (v := .ref a1) (ty := .array .int) (C := RX1) (T := TX1) (N := 6) hx hb hts in_X1 tyX1 tyX1_ok nmX1 hown hK hP hD hS 0 rfl rfl 2 (by decide) (hts _ q42) (fun _ h9 => h9) rfl hnm rfl (by decide +kernel) rfl rfl (Nat.le_of_ble_eq_true rfl) dX1_init_9 (fun H locs hP hD hS => ?_)
  have hP : va_P D vwCl [(h, .inr (0, [.int 0, .int 0, .ref a1, .null, .null, .null])), (a1, .inl (d, 10, .inl (fun _ => 0)))] H := hP
  have hD : va_D A [(h, .inr (0, [.int 0, .int 0, .ref a1, .null, .null, .null])), (a1, .inl (d, 10, .inl (fun _ => 0)))] := hD
  refine lv_aload_n hx hb dX1_init_12 rfl (lv_at hl 0 rfl) ?_
  refine lv_bipush (v := 8) hx hb dX1_init_13 (by decide) ?_
  refine va_newa (D := D) (atype := .int) hx hb (hts _ q59) rfl hK hP hD hS hA (a0 := (8, .inl (fun _ => 0))) (fun _ => rfl) (by decide) (by decide) (by decide) (Nat.le_of_ble_eq_true rfl) (Nat.le_of_ble_eq_true rfl) dX1_init_15 (fun a2 cA H hK hP hD hS => ?_)
  have e9 := bt_oneA hK
  subst e9
  have hK : va_K D vwCl [(d, .int)] s := hK.sub [0] rfl
  have hP : va_P D vwCl [(h, .inr (0, [.int 0, .int 0, .ref a1, .null, .null, .null])), (a1, .inl (d, 10, .inl (fun _ => 0))), (a2, .inl (d, 8, .inl (fun _ => 0)))] H := hP
  have hD : va_D A [(h, .inr (0, [.int 0, .int 0, .ref a1, .null, .null, .null])), (a1, .inl (d, 10, .inl (fun _ => 0))), (a2, .inl (d, 8, .inl (fun _ => 0)))] := hD
  refine W.widen (k := 2) (n := 18) (Nat.le_of_ble_eq_true rfl) (Nat.le_of_ble_eq_true rfl) ?_
  refine va_putF (D := D) (ci := 0) (v := .ref a2) (ty := .array .int) (C := RX1) (T := TX1) (N := 6) hx hb hts in_X1 tyX1 tyX1_ok nmX1 hown hK hP hD hS 0 rfl rfl 3 (by decide) (hts _ q43) (fun _ h9 => h9) rfl hnm rfl (by decide +kernel) rfl rfl (Nat.le_of_ble_eq_true rfl) dX1_init_17 (fun H locs hP hD hS => ?_)
  have hP : va_P D vwCl [(h, .inr (0, [.int 0, .int 0, .ref a1, .ref a2, .null, .null])), (a1, .inl (d, 10, .inl (fun _ => 0))), (a2, .inl (d, 8, .inl (fun _ => 0)))] H := hP
  have hD : va_D A [(h, .inr (0, [.int 0, .int 0, .ref a1, .ref a2, .null, .null])), (a1, .inl (d, 10, .inl (fun _ => 0))), (a2, .inl (d, 8, .inl (fun _ => 0)))] := hD
  refine lv_aload_n hx hb dX1_init_20 rfl (lv_at hl 0 rfl) ?_
  refine lv_sipush (v := 136) hx hb dX1_init_21 (by decide) ?_
  refine va_newa (D := D) (atype := .int) hx hb (hts _ q59) rfl hK hP hD hS hA (a0 := (136, .inl (fun _ => 0))) (fun _ => rfl) (by decide) (by decide) (by decide) (Nat.le_of_ble_eq_true rfl) (Nat.le_of_ble_eq_true rfl) dX1_init_24 (fun a3 cA H hK hP hD hS => ?_)
  have e9 := bt_oneA hK
  subst e9
  have hK : va_K D vwCl [(d, .int)] s := hK.sub [0] rfl
  have hP : va_P D vwCl [(h, .inr (0, [.int 0, .int 0, .ref a1, .ref a2, .null, .null])), (a1, .inl (d, 10, .inl (fun _ => 0))), (a2, .inl (d, 8, .inl (fun _ => 0))), (a3, .inl (d, 136, .inl (fun _ => 0)))] H := hP
  have hD : va_D A [(h, .inr (0, [.int 0, .int 0, .ref a1, .ref a2, .null, .null])), (a1, .inl (d, 10, .inl (fun _ => 0))), (a2, .inl (d, 8, .inl (fun _ => 0))), (a3, .inl (d, 136, .inl (fun _ => 0)))] := hD
  refine W.widen (k := 3) (n := 154) (Nat.le_of_ble_eq_true rfl) (Nat.le_of_ble_eq_true rfl) ?_
  refine va_putF (D := D) (ci := 0) (v := .ref a3) (ty := .array .int) (C := RX1) (T := TX1) (N := 6) hx hb hts in_X1 tyX1 tyX1_ok nmX1 hown hK hP hD hS 0 rfl rfl 4 (by decide) (hts _ q44) (fun _ h9 => h9) rfl hnm rfl (by decide +kernel) rfl rfl (Nat.le_of_ble_eq_true rfl) dX1_init_26 (fun H locs hP hD hS => ?_)
  have hP : va_P D vwCl [(h, .inr (0, [.int 0, .int 0, .ref a1, .ref a2, .ref a3, .null])), (a1, .inl (d, 10, .inl (fun _ => 0))), (a2, .inl (d, 8, .inl (fun _ => 0))), (a3, .inl (d, 136, .inl (fun _ => 0)))] H := hP
  have hD : va_D A [(h, .inr (0, [.int 0, .int 0, .ref a1, .ref a2, .ref a3, .null])), (a1, .inl (d, 10, .inl (fun _ => 0))), (a2, .inl (d, 8, .inl (fun _ => 0))), (a3, .inl (d, 136, .inl (fun _ => 0)))] := hD
  refine lv_aload_n hx hb dX1_init_29 rfl (lv_at hl 0 rfl) ?_
  refine lv_sipush (v := 128) hx hb dX1_init_30 (by decide) ?_
  refine va_newa (D := D) (atype := .int) hx hb (hts _ q59) rfl hK hP hD hS hA (a0 := (128, .inl (fun _ => 0))) (fun _ => rfl) (by decide) (by decide) (by decide) (Nat.le_of_ble_eq_true rfl) (Nat.le_of_ble_eq_true rfl) dX1_init_33 (fun a4 cA H hK hP hD hS => ?_)
  have e9 := bt_oneA hK
  subst e9
  have hK : va_K D vwCl [(d, .int)] s := hK.sub [0] rfl
  have hP : va_P D vwCl [(h, .inr (0, [.int 0, .int 0, .ref a1, .ref a2, .ref a3, .null])), (a1, .inl (d, 10, .inl (fun _ => 0))), (a2, .inl (d, 8, .inl (fun _ => 0))), (a3, .inl (d, 136, .inl (fun _ => 0))), (a4, .inl (d, 128, .inl (fun _ => 0)))] H := hP
  have hD : va_D A [(h, .inr (0, [.int 0, .int 0, .ref a1, .ref a2, .ref a3, .null])), (a1, .inl (d, 10, .inl (fun _ => 0))), (a2, .inl (d, 8, .inl (fun _ => 0))), (a3, .inl (d, 136, .inl (fun _ => 0))), (a4, .inl (d, 128, .inl (fun _ => 0)))] := hD
  refine W.widen (k := 4) (n := 282) (Nat.le_of_ble_eq_true rfl) (Nat.le_of_ble_eq_true rfl) ?_
  refine va_putF (D := D) (ci := 0) (v := .ref a4) (ty := .array .int) (C := RX1) (T := TX1) (N := 6) hx hb hts in_X1 tyX1 tyX1_ok nmX1 hown hK hP hD hS 0 rfl rfl 5 (by decide) (hts _ q45) (fun _ h9 => h9) rfl hnm rfl (by decide +kernel) rfl rfl (Nat.le_of_ble_eq_true rfl) dX1_init_35 (fun H locs hP hD hS => ?_)
  have hP : va_P D vwCl [(h, .inr (0, [.int 0, .int 0, .ref a1, .ref a2, .ref a3, .ref a4])), (a1, .inl (d, 10, .inl (fun _ => 0))), (a2, .inl (d, 8, .inl (fun _ => 0))), (a3, .inl (d, 136, .inl (fun _ => 0))), (a4, .inl (d, 128, .inl (fun _ => 0)))] H := hP
  have hD : va_D A [(h, .inr (0, [.int 0, .int 0, .ref a1, .ref a2, .ref a3, .ref a4])), (a1, .inl (d, 10, .inl (fun _ => 0))), (a2, .inl (d, 8, .inl (fun _ => 0))), (a3, .inl (d, 136, .inl (fun _ => 0))), (a4, .inl (d, 128, .inl (fun _ => 0)))] := hD
  refine lv_aload_n hx hb dX1_init_38 rfl (lv_at hl 0 rfl) ?_
  refine lv_iconst (v := 0) hx hb dX1_init_39 (by decide) ?_
  refine lv_bipush (v := 9) hx hb dX1_init_40 (by decide) ?_
  refine lv_iload_n hx hb dX1_init_42 rfl (lv_at hl 1 rfl) ?_
  refine va_mmin hx hb (hml.trans hl.1.symm) hown (hts _ q30) (hts _ q31) (hts _ q20) (hts _ q32) (Nat.le_of_ble_eq_true rfl) (Nat.le_of_ble_eq_true rfl) (Nat.le_of_ble_eq_true rfl) (Nat.le_of_ble_eq_true rfl) dX1_init_43 ?_
  refine va_mmax hx hb (hml.trans hl.1.symm) hown (hts _ q33) (hts _ q34) (hts _ q20) (hts _ q35) (Nat.le_of_ble_eq_true rfl) (Nat.le_of_ble_eq_true rfl) (Nat.le_of_ble_eq_true rfl) (Nat.le_of_ble_eq_true rfl) dX1_init_46 ?_
  refine bt_top (y := nI (bt_cl x)) (bt_clX x) ?_
  refine va_putF (D := D) (ci := 0) (v := .int (nI (bt_cl x))) (ty := .int) (C := RX1) (T := TX1) (N := 6) hx hb hts in_X1 tyX1 tyX1_ok nmX1 hown hK hP hD hS 0 rfl rfl 0 (by decide) (hts _ q40) (fun _ h9 => h9) rfl hnm rfl (by decide +kernel) rfl rfl (Nat.le_of_ble_eq_true rfl) dX1_init_49 (fun H locs hP hD hS => ?_)
  have hP : va_P D vwCl (wX h a1 a2 a3 a4 d (bt_cl x) 0 (fun _ => 0) (fun _ => 0) (fun _ => 0) (fun _ => 0)) H := hP
  have hD : va_D A (wX h a1 a2 a3 a4 d (bt_cl x) 0 (fun _ => 0) (fun _ => 0) (fun _ => 0) (fun _ => 0)) := hD
  refine lv_aload_n hx hb dX1_init_52 rfl (lv_at hl 0 rfl) ?_
  refine bt_cWv (As := []) (rest := []) (b := h) (ci := 0) (q0 := 0) (wr := []) ⟨hx, hb, hml, hown, hts⟩ (wX_forget l D h a1 a2 a3 a4 d (bt_cl x) 0 (fun _ => 0) (fun _ => 0) (fun _ => 0) (fun _ => 0) H.size) 0 (lw_V q36 q37 q38 q19 q39) ⟨rfl, rfl⟩ (by decide +kernel) ⟨Nat.le_of_ble_eq_true rfl, Nat.le_of_ble_eq_true rfl⟩ hK hP hD hS hA [0, 1, 2, 3, 4] [] rfl rfl (by decide) (by decide) (by decide) rfl rfl rfl hl.1 rfl (Nat.le_of_ble_eq_true rfl) dX1_init_53 ⟨Nat.le_of_ble_eq_true rfl, Nat.le_of_ble_eq_true rfl⟩ (fun H locs hP hD hS => ?_)
  have hP : va_P D vwCl (wX h a1 a2 a3 a4 d (bt_cl x) 0 (bt_fill (fun _ => 0) 0 10) (bt_fill (fun _ => 0) 0 8) (bt_fill (fun _ => 0) 0 136) (bt_fill (fun _ => 0) (-1) 128)) H := hP
  have hD : va_D A (wX h a1 a2 a3 a4 d (bt_cl x) 0 (bt_fill (fun _ => 0) 0 10) (bt_fill (fun _ => 0) 0 8) (bt_fill (fun _ => 0) 0 136) (bt_fill (fun _ => 0) (-1) 128)) := hD
  exact W.vret hx hb hr (fun t ht hW => ⟨⟨(a1, a2, a3, a4), rfl, trivial, by rw [ht]; exact hP, va_K.moved hW.alike hK, hD⟩, hS.F ht⟩) hS.2.2 dX1_init_56 hlk
end
section
section MA
variable (l : Launch) (D : va_G) (o b1 b2 b3 b4 b5 b6 : Nat) (d : ClassId) (k : Nat) (t : Int32) (h r f j q u : Nat → Int32)
set_option maxHeartbeats 4000000 in
set_option maxRecDepth 100000 in
theorem rM_isGroup (l : Launch) (g : Int32) : Met l yX2_isGroup (ws_ yX2_isGroup cX2_isGroup 1 (some .boolean)) ({ frames := 0, cells := 0, slots := 0, locals := 0 } : Room) (va_Pc [.int g] (fun _ => True)) (QcRead (bt_B (bt_grp g))) 0 0 (fun _ => False) := by
  refine bt_met (by decide) (Nat.le_of_ble_eq_true rfl) ?_
  intro p e s m below meth c ls hx hb hr hlk hml hown hts hnm hl hB
  have hown : s.vm.findClass RX2 = some m.cls := hown
  have hl : lv_has ls 1 [(0, .int g)] := hl
  refine lv_iload_n hx hb dX2_isGroup_0 rfl (lv_at hl 0 rfl) ?_
  refine lv_if_lt (tgt := 14) hx hb dX2_isGroup_1 (by decide) (fun c_1 => ?_) (fun c_1 => ?_)
  · refine lv_iconst (v := 0) hx hb dX2_isGroup_14 (by decide) ?_
    exact bt_rz hx hb hr hlk (by simp [bt_B, bt_grp, c_1]) dX2_isGroup_15
  · refine lv_iload_n hx hb dX2_isGroup_4 rfl (lv_at hl 0 rfl) ?_
    refine lv_bipush (v := 8) hx hb dX2_isGroup_5 (by decide) ?_
    refine lv_icmp_ge (tgt := 14) hx hb dX2_isGroup_7 (by decide) (fun c_7 => ?_) (fun c_7 => ?_)
    · refine lv_iconst (v := 0) hx hb dX2_isGroup_14 (by decide) ?_
      exact bt_rz hx hb hr hlk (by simp [bt_B, bt_grp, c_1, c_7]) dX2_isGroup_15
    · refine lv_iconst (v := 1) hx hb dX2_isGroup_10 (by decide) ?_
      refine lv_goto (tgt := 15) hx hb dX2_isGroup_11 (by decide) ?_
      exact bt_rz hx hb hr hlk (by simp [bt_B, bt_grp, c_1, c_7]) dX2_isGroup_15
set_option maxHeartbeats 4000000 in
set_option maxRecDepth 100000 in
theorem rM_isBranch (l : Launch) (g : Int32) (v : Int32) : Met l yX2_isBranch (ws_ yX2_isBranch cX2_isBranch 2 (some .boolean)) ({ frames := 1, cells := 0, slots := 0, locals := 20 } : Room) (va_Pc [.int g, .int v] (fun _ => True)) (QcRead (bt_B (bt_tree g v))) 0 0 (fun _ => False) := by
  refine bt_met (by decide) (Nat.le_of_ble_eq_true rfl) ?_
  intro p e s m below meth c ls hx hb hr hlk hml hown hts hnm hl hB
  have hown : s.vm.findClass RX2 = some m.cls := hown
  have hl : lv_has ls 2 [(0, .int g), (1, .int v)] := hl
  refine lv_iload_n hx hb dX2_isBranch_0 rfl (lv_at hl 0 rfl) ?_
  refine bt_cS (As := [.int g]) (rest := []) ⟨hx, hb, hml, hown, hts⟩ (rM_isGroup l g) 1 (lw_S q196 q197 q21 q198) ⟨rfl, rfl⟩ (by decide +kernel) ⟨Nat.le_of_ble_eq_true rfl, Nat.le_of_ble_eq_true rfl⟩ rfl hl.1 rfl (Nat.le_of_ble_eq_true rfl) dX2_isBranch_1 ⟨Nat.zero_le _, Nat.zero_le _⟩ ?_
  refine lv_if_eq (tgt := 22) hx hb dX2_isBranch_4 (by decide) (fun c_4 => ?_) (fun c_4 => ?_)
  · have c_4 := bt_B0 c_4
    refine lv_iconst (v := 0) hx hb dX2_isBranch_22 (by decide) ?_
    exact bt_rz hx hb hr hlk (by simp [bt_B, bt_tree, c_4]) dX2_isBranch_23
  · have c_4 := bt_B1 c_4
    refine lv_iload_n hx hb dX2_isBranch_7 rfl (lv_at hl 1 rfl) ?_
    refine lv_iconst (v := -1) hx hb dX2_isBranch_8 (by decide) ?_
    refine lv_icmp_lt (tgt := 22) hx hb dX2_isBranch_9 (by decide) (fun c_9 => ?_) (fun c_9 => ?_)
    · refine lv_iconst (v := 0) hx hb dX2_isBranch_22 (by decide) ?_
      exact bt_rz hx hb hr hlk (by simp [bt_B, bt_tree, c_4, c_9]) dX2_isBranch_23
    · refine lv_iload_n hx hb dX2_isBranch_12 rfl (lv_at hl 1 rfl) ?_
      refine lv_bipush (v := 16) hx hb dX2_isBranch_13 (by decide) ?_
      refine lv_icmp_ge (tgt := 22) hx hb dX2_isBranch_15 (by decide) (fun c_15 => ?_) (fun c_15 => ?_)
      · refine lv_iconst (v := 0) hx hb dX2_isBranch_22 (by decide) ?_
        exact bt_rz hx hb hr hlk (by simp [bt_B, bt_tree, c_4, c_9, c_15]) dX2_isBranch_23
      · refine lv_iconst (v := 1) hx hb dX2_isBranch_18 (by decide) ?_
        refine lv_goto (tgt := 23) hx hb dX2_isBranch_19 (by decide) ?_
        exact bt_rz hx hb hr hlk (by simp [bt_B, bt_tree, c_4, c_9, c_15]) dX2_isBranch_23
set_option maxHeartbeats 4000000 in
set_option maxRecDepth 100000 in
theorem rM_neighbours : Met l yX2_neighbours (ws_ yX2_neighbours cX2_neighbours 3 (some .int)) ({ frames := 0, cells := 0, slots := 0, locals := 0 } : Room) (va_Pc [.ref o] (bt_RP D [(d, .int)] (wM o b1 b2 b3 b4 b5 b6 d k t h r f j q u))) (QcRead (nI (ms_nb t h))) 0 0 (fun _ => False) := by
  refine bt_met (by decide) (Nat.le_of_ble_eq_true rfl) ?_
  intro p e s m below meth c ls hx hb hr hlk hml hown hts hnm hl hB
  obtain ⟨hP, hK⟩ := hB
  have hown : s.vm.findClass RX2 = some m.cls := hown
  have hl : lv_has ls 3 [(0, .ref o)] := hl
  refine lv_iconst (v := 0) hx hb dX2_neighbours_0 (by decide) ?_
  refine lv_istore_n (lv' := [(1, .int 0), (0, .ref o)]) hx hb dX2_neighbours_1 rfl hl (by decide) rfl (fun ls hl => ?_)
  refine lv_iconst (v := 0) hx hb dX2_neighbours_2 (by decide) ?_
  refine lv_istore_n (lv' := [(2, .int 0), (1, .int 0), (0, .ref o)]) hx hb dX2_neighbours_3 rfl hl (by decide) rfl (fun ls hl => ?_)
  refine bt_loop 10 (fun i ls => lv_has ls 3 [(0, .ref o), (1, .int (nI (bt_bits (fun i => !decide (h i = -1) && !decide (h i + 65 ≤ t)) i))), (2, .int (nI i))]) ?_ ?_ 10 0 ls (by decide) (lv_sub hl [2, 1, 0] rfl)
  · intro ls hl
    have hl : lv_has ls 3 [(0, .ref o), (1, .int (nI (bt_bits (fun i => !decide (h i = -1) && !decide (h i + 65 ≤ t)) 10))), (2, .int (nI 10))] := hl
    refine lv_iload_n hx hb dX2_neighbours_4 rfl (lv_at hl 2 rfl) ?_
    refine lv_bipush (v := 10) hx hb dX2_neighbours_5 (by decide) ?_
    refine lv_icmp_ge (tgt := 48) hx hb dX2_neighbours_7 (by decide) (fun _ => ?_) (fun c_7 => absurd (by decide) c_7)
    refine lv_iload_n hx hb dX2_neighbours_48 rfl (lv_at hl 1 rfl) ?_
    exact bt_ri hx hb hr hlk (rfl) dX2_neighbours_49
  · intro i ls hi hl ih
    have hl : lv_has ls 3 [(0, .ref o), (1, .int (nI (bt_bits (fun i => !decide (h i = -1) && !decide (h i + 65 ≤ t)) i))), (2, .int (nI i))] := hl
    refine lv_iload_n hx hb dX2_neighbours_4 rfl (lv_at hl 2 rfl) ?_
    refine lv_bipush (v := 10) hx hb dX2_neighbours_5 (by decide) ?_
    refine lv_icmp_ge (tgt := 48) hx hb dX2_neighbours_7 (by decide) (fun c_7 => absurd c_7 (nI_ge hi (by decide))) (fun _ => ?_)
    refine lv_aload_n hx hb dX2_neighbours_10 rfl (lv_at hl 0 rfl) ?_
    refine va_get (D := D) (ci := 1) (v := .ref b1) (C := RX2) (T := TX2) (N := 8) hx hb hts in_X2 hown hK hP 0 rfl rfl 2 (by decide) (hts _ q160) (fun _ h9 => h9) rfl dX2_neighbours_11 ?_
    refine lv_iload_n hx hb dX2_neighbours_14 rfl (lv_at hl 2 rfl) ?_
    refine bt_ild hx hb hK hP 1 0 rfl rfl hi (by decide) dX2_neighbours_15 ?_
    refine lv_iconst (v := -1) hx hb dX2_neighbours_16 (by decide) ?_
    refine lv_icmp_eq (tgt := 42) hx hb dX2_neighbours_17 (by decide) (fun c_17 => ?_) (fun c_17 => ?_)
    · refine lv_iinc (v := nI (i + 1)) (lv' := [(2, .int (nI (i + 1))), (0, .ref o), (1, .int (nI (bt_bits (fun i => !decide (h i = -1) && !decide (h i + 65 ≤ t)) i)))]) hx hb dX2_neighbours_42 hl (k := 2) rfl (nI_1 i) (by decide) rfl (fun ls hl => ?_)
      refine lv_goto (tgt := 4) hx hb dX2_neighbours_45 (by decide) ?_
      have hl2 := lv_sub (l' := [(0, .ref o), (1, .int (nI (bt_bits (fun i => !decide (h i = -1) && !decide (h i + 65 ≤ t)) i))), (2, .int (nI (i + 1)))]) hl [1, 2, 0] rfl
      rw [show nI (bt_bits (fun i => !decide (h i = -1) && !decide (h i + 65 ≤ t)) i) = nI (bt_bits (fun i => !decide (h i = -1) && !decide (h i + 65 ≤ t)) (i + 1)) from bt_bits0 (by simp [c_17])] at hl2
      exact ih ls hl2
    · refine lv_aload_n hx hb dX2_neighbours_20 rfl (lv_at hl 0 rfl) ?_
      refine va_get (D := D) (ci := 1) (v := .int t) (C := RX2) (T := TX2) (N := 8) hx hb hts in_X2 hown hK hP 0 rfl rfl 1 (by decide) (hts _ q159) (fun _ h9 => h9) rfl dX2_neighbours_21 ?_
      refine lv_aload_n hx hb dX2_neighbours_24 rfl (lv_at hl 0 rfl) ?_
      refine va_get (D := D) (ci := 1) (v := .ref b1) (C := RX2) (T := TX2) (N := 8) hx hb hts in_X2 hown hK hP 0 rfl rfl 2 (by decide) (hts _ q160) (fun _ h9 => h9) rfl dX2_neighbours_25 ?_
      refine lv_iload_n hx hb dX2_neighbours_28 rfl (lv_at hl 2 rfl) ?_
      refine bt_ild hx hb hK hP 1 0 rfl rfl hi (by decide) dX2_neighbours_29 ?_
      refine lv_bipush (v := 65) hx hb dX2_neighbours_30 (by decide) ?_
      refine lv_iadd hx hb dX2_neighbours_32 ?_
      refine lv_icmp_ge (tgt := 42) hx hb dX2_neighbours_33 (by decide) (fun c_33 => ?_) (fun c_33 => ?_)
      · refine lv_iinc (v := nI (i + 1)) (lv' := [(2, .int (nI (i + 1))), (0, .ref o), (1, .int (nI (bt_bits (fun i => !decide (h i = -1) && !decide (h i + 65 ≤ t)) i)))]) hx hb dX2_neighbours_42 hl (k := 2) rfl (nI_1 i) (by decide) rfl (fun ls hl => ?_)
        refine lv_goto (tgt := 4) hx hb dX2_neighbours_45 (by decide) ?_
        have hl2 := lv_sub (l' := [(0, .ref o), (1, .int (nI (bt_bits (fun i => !decide (h i = -1) && !decide (h i + 65 ≤ t)) i))), (2, .int (nI (i + 1)))]) hl [1, 2, 0] rfl
        rw [show nI (bt_bits (fun i => !decide (h i = -1) && !decide (h i + 65 ≤ t)) i) = nI (bt_bits (fun i => !decide (h i = -1) && !decide (h i + 65 ≤ t)) (i + 1)) from bt_bits0 (by simp [c_17, c_33])] at hl2
        exact ih ls hl2
      · refine lv_iload_n hx hb dX2_neighbours_36 rfl (lv_at hl 1 rfl) ?_
        refine lv_iconst (v := 1) hx hb dX2_neighbours_37 (by decide) ?_
        refine lv_iload_n hx hb dX2_neighbours_38 rfl (lv_at hl 2 rfl) ?_
        refine lv_ishl hx hb dX2_neighbours_39 ?_
        refine lv_ior hx hb dX2_neighbours_40 ?_
        refine bt_top (y := nI (bt_bits (fun i => !decide (h i = -1) && !decide (h i + 65 ≤ t)) (i + 1))) (bt_bits1 (by omega) (by simp [c_17, c_33])) ?_
        refine lv_istore_n (lv' := [(1, .int (nI (bt_bits (fun i => !decide (h i = -1) && !decide (h i + 65 ≤ t)) (i + 1)))), (0, .ref o), (2, .int (nI i))]) hx hb dX2_neighbours_41 rfl hl (by decide) rfl (fun ls hl => ?_)
        refine lv_iinc (v := nI (i + 1)) (lv' := [(2, .int (nI (i + 1))), (1, .int (nI (bt_bits (fun i => !decide (h i = -1) && !decide (h i + 65 ≤ t)) (i + 1)))), (0, .ref o)]) hx hb dX2_neighbours_42 hl (k := 2) rfl (nI_1 i) (by decide) rfl (fun ls hl => ?_)
        refine lv_goto (tgt := 4) hx hb dX2_neighbours_45 (by decide) ?_
        have hl2 := lv_sub (l' := [(0, .ref o), (1, .int (nI (bt_bits (fun i => !decide (h i = -1) && !decide (h i + 65 ≤ t)) (i + 1)))), (2, .int (nI (i + 1)))]) hl [2, 1, 0] rfl
        exact ih ls hl2
set_option maxHeartbeats 4000000 in
set_option maxRecDepth 100000 in
theorem rM_isFirst : Met l yX2_isFirst (ws_ yX2_isFirst cX2_isFirst 1 (some .boolean)) ({ frames := 1, cells := 0, slots := 0, locals := 22 } : Room) (va_Pc [.ref o] (bt_RP D [(d, .int)] (wM o b1 b2 b3 b4 b5 b6 d k t h r f j q u))) (QcRead (bt_B (bt_fst (ms_nb t h) k))) 0 0 (fun _ => False) := by
  refine bt_met (by decide) (Nat.le_of_ble_eq_true rfl) ?_
  intro p e s m below meth c ls hx hb hr hlk hml hown hts hnm hl hB
  obtain ⟨hP, hK⟩ := hB
  have hown : s.vm.findClass RX2 = some m.cls := hown
  have hl : lv_has ls 1 [(0, .ref o)] := hl
  refine lv_aload_n hx hb dX2_isFirst_0 rfl (lv_at hl 0 rfl) ?_
  refine bt_cV (As := []) (rest := []) (b := o) (ci := 1) (q0 := 0) ⟨hx, hb, hml, hown, hts⟩ (rM_neighbours l D o b1 b2 b3 b4 b5 b6 d k t h r f j q u  ) 0 (lw_V q212 q214 qs11 q21 q215) ⟨rfl, rfl⟩ (by decide +kernel) ⟨Nat.le_of_ble_eq_true rfl, Nat.le_of_ble_eq_true rfl⟩ hK hP rfl rfl rfl hl.1 rfl (Nat.le_of_ble_eq_true rfl) dX2_isFirst_1 ⟨Nat.zero_le _, Nat.zero_le _⟩ ?_
  refine lv_aload_n hx hb dX2_isFirst_4 rfl (lv_at hl 0 rfl) ?_
  refine va_get (D := D) (ci := 1) (v := .int (nI k)) (C := RX2) (T := TX2) (N := 8) hx hb hts in_X2 hown hK hP 0 rfl rfl 0 (by decide) (hts _ q158) (fun _ h9 => h9) rfl dX2_isFirst_5 ?_
  refine lv_ishr hx hb dX2_isFirst_8 ?_
  refine lv_if_ne (tgt := 16) hx hb dX2_isFirst_9 (by decide) (fun c_9 => ?_) (fun c_9 => ?_)
  · refine lv_iconst (v := 0) hx hb dX2_isFirst_16 (by decide) ?_
    exact bt_rz hx hb hr hlk (by simp [bt_B, bt_fst, c_9]) dX2_isFirst_17
  · refine lv_iconst (v := 1) hx hb dX2_isFirst_12 (by decide) ?_
    refine lv_goto (tgt := 17) hx hb dX2_isFirst_13 (by decide) ?_
    exact bt_rz hx hb hr hlk (by simp [bt_B, bt_fst, c_9]) dX2_isFirst_17
set_option maxHeartbeats 4000000 in
set_option maxRecDepth 100000 in
theorem rM_isAsking (hk : k ≤ 9) : Met l yX2_isAsking (ws_ yX2_isAsking cX2_isAsking 1 (some .boolean)) ({ frames := 1, cells := 0, slots := 0, locals := 22 } : Room) (va_Pc [.ref o] (bt_RP D [(d, .int)] (wM o b1 b2 b3 b4 b5 b6 d k t h r f j q u))) (QcRead (bt_B (bt_ask (ms_nb t h) k))) 0 0 (fun _ => False) := by
  refine bt_met (by decide) (Nat.le_of_ble_eq_true rfl) ?_
  intro p e s m below meth c ls hx hb hr hlk hml hown hts hnm hl hB
  obtain ⟨hP, hK⟩ := hB
  have hown : s.vm.findClass RX2 = some m.cls := hown
  have hl : lv_has ls 1 [(0, .ref o)] := hl
  refine lv_aload_n hx hb dX2_isAsking_0 rfl (lv_at hl 0 rfl) ?_
  refine bt_cV (As := []) (rest := []) (b := o) (ci := 1) (q0 := 0) ⟨hx, hb, hml, hown, hts⟩ (rM_neighbours l D o b1 b2 b3 b4 b5 b6 d k t h r f j q u  ) 0 (lw_V q212 q214 qs11 q21 q215) ⟨rfl, rfl⟩ (by decide +kernel) ⟨Nat.le_of_ble_eq_true rfl, Nat.le_of_ble_eq_true rfl⟩ hK hP rfl rfl rfl hl.1 rfl (Nat.le_of_ble_eq_true rfl) dX2_isAsking_1 ⟨Nat.zero_le _, Nat.zero_le _⟩ ?_
  refine lv_iconst (v := 1) hx hb dX2_isAsking_4 (by decide) ?_
  refine lv_aload_n hx hb dX2_isAsking_5 rfl (lv_at hl 0 rfl) ?_
  refine va_get (D := D) (ci := 1) (v := .int (nI k)) (C := RX2) (T := TX2) (N := 8) hx hb hts in_X2 hown hK hP 0 rfl rfl 0 (by decide) (hts _ q158) (fun _ h9 => h9) rfl dX2_isAsking_6 ?_
  refine lv_ishl hx hb dX2_isAsking_9 ?_
  refine lv_irem hx hb dX2_isAsking_10 (bt_one_ne hk) ?_
  refine lv_if_ne (tgt := 18) hx hb dX2_isAsking_11 (by decide) (fun c_11 => ?_) (fun c_11 => ?_)
  · have c_11 := bt_nf (fun q => c_11 ((bt_askM (ms_nb_lt t h) hk).mpr q))
    refine lv_iconst (v := 0) hx hb dX2_isAsking_18 (by decide) ?_
    exact bt_rz hx hb hr hlk (by simp [bt_B, c_11]) dX2_isAsking_19
  · have c_11 := (bt_askM (ms_nb_lt t h) hk).mp c_11
    refine lv_iconst (v := 1) hx hb dX2_isAsking_14 (by decide) ?_
    refine lv_goto (tgt := 19) hx hb dX2_isAsking_15 (by decide) ?_
    exact bt_rz hx hb hr hlk (by simp [bt_B, c_11]) dX2_isAsking_19
set_option maxHeartbeats 4000000 in
set_option maxRecDepth 100000 in
theorem rM_isCrowded : Met l yX2_isCrowded (ws_ yX2_isCrowded cX2_isCrowded 3 (some .boolean)) ({ frames := 1, cells := 0, slots := 0, locals := 22 } : Room) (va_Pc [.ref o] (bt_RP D [(d, .int)] (wM o b1 b2 b3 b4 b5 b6 d k t h r f j q u))) (QcRead (bt_B (bt_crw (ms_nb t h)))) 0 0 (fun _ => False) := by
  refine bt_met (by decide) (Nat.le_of_ble_eq_true rfl) ?_
  intro p e s m below meth c ls hx hb hr hlk hml hown hts hnm hl hB
  obtain ⟨hP, hK⟩ := hB
  have hown : s.vm.findClass RX2 = some m.cls := hown
  have hl : lv_has ls 3 [(0, .ref o)] := hl
  refine lv_iconst (v := 0) hx hb dX2_isCrowded_0 (by decide) ?_
  refine lv_istore_n (lv' := [(1, .int 0), (0, .ref o)]) hx hb dX2_isCrowded_1 rfl hl (by decide) rfl (fun ls hl => ?_)
  refine lv_aload_n hx hb dX2_isCrowded_2 rfl (lv_at hl 1 rfl) ?_
  refine bt_cV (As := []) (rest := []) (b := o) (ci := 1) (q0 := 0) ⟨hx, hb, hml, hown, hts⟩ (rM_neighbours l D o b1 b2 b3 b4 b5 b6 d k t h r f j q u  ) 0 (lw_V q212 q214 qs11 q21 q215) ⟨rfl, rfl⟩ (by decide +kernel) ⟨Nat.le_of_ble_eq_true rfl, Nat.le_of_ble_eq_true rfl⟩ hK hP rfl rfl rfl hl.1 rfl (Nat.le_of_ble_eq_true rfl) dX2_isCrowded_3 ⟨Nat.zero_le _, Nat.zero_le _⟩ ?_
  refine lv_istore_n (lv' := [(2, .int (nI (ms_nb t h))), (1, .int 0), (0, .ref o)]) hx hb dX2_isCrowded_6 rfl hl (by decide) rfl (fun ls hl => ?_)
  refine bt_loop 10 (fun i ls => ∃ x y : Nat, x < 2 ^ (10 - i) ∧ y ≤ i ∧ y + bt_pop (10 - i) x = bt_pop 10 (ms_nb t h) ∧ lv_has ls 3 [(0, .ref o), (1, .int (nI y)), (2, .int (nI x))]) ?_ ?_ 10 0 ls (by decide) ⟨ms_nb t h, 0, ms_nb_lt t h, Nat.le_refl _, Nat.zero_add _, lv_sub hl [2, 1, 0] rfl⟩
  · intro ls hI
    obtain ⟨x, y, hx1, hy1, hxy, hl⟩ := hI
    have hx0 : x = 0 := by simpa using hx1
    subst hx0
    have hy2 : y = bt_pop 10 (ms_nb t h) := by simpa [bt_pop_z] using hxy
    refine lv_iload_n hx hb dX2_isCrowded_7 rfl (lv_at hl 2 rfl) ?_
    refine lv_if_eq (tgt := 24) hx hb dX2_isCrowded_8 (by decide) (fun _ => ?_) (fun c_8 => absurd (by decide) c_8)
    refine lv_iload_n hx hb dX2_isCrowded_24 rfl (lv_at hl 1 rfl) ?_
    refine lv_iconst (v := 1) hx hb dX2_isCrowded_25 (by decide) ?_
    refine lv_icmp_le (tgt := 33) hx hb dX2_isCrowded_26 (by decide) (fun c_26 => ?_) (fun c_26 => ?_)
    · refine lv_iconst (v := 0) hx hb dX2_isCrowded_33 (by decide) ?_
      exact bt_rz hx hb hr hlk (by have hy3 : y = bt_pop 10 (ms_nb t h) := hy2; have h5 : y ≤ 1 := (nI_leI (by omega) (by decide)).mp c_26; simp [bt_B, bt_crw, ← hy3, show ¬ 1 < y by omega]) dX2_isCrowded_34
    · refine lv_iconst (v := 1) hx hb dX2_isCrowded_29 (by decide) ?_
      refine lv_goto (tgt := 34) hx hb dX2_isCrowded_30 (by decide) ?_
      exact bt_rz hx hb hr hlk (by have hy3 : y = bt_pop 10 (ms_nb t h) := hy2; have h5 : ¬ y ≤ 1 := fun q => c_26 ((nI_leI (by omega) (by decide)).mpr q); simp [bt_B, bt_crw, ← hy3, show 1 < y by omega]) dX2_isCrowded_34
  · intro i ls hi hI ih
    obtain ⟨x, y, hx1, hy1, hxy, hl⟩ := hI
    have hx2 : x < 1024 := Nat.lt_of_lt_of_le hx1 (Nat.pow_le_pow_right (by decide : 0 < 2) (by omega : 10 - i ≤ 10))
    refine lv_iload_n hx hb dX2_isCrowded_7 rfl (lv_at hl 2 rfl) ?_
    refine lv_if_eq (tgt := 24) hx hb dX2_isCrowded_8 (by decide) (fun c_8 => ?_) (fun c_8 => ?_)
    · refine lv_iload_n hx hb dX2_isCrowded_24 rfl (lv_at hl 1 rfl) ?_
      refine lv_iconst (v := 1) hx hb dX2_isCrowded_25 (by decide) ?_
      refine lv_icmp_le (tgt := 33) hx hb dX2_isCrowded_26 (by decide) (fun c_26 => ?_) (fun c_26 => ?_)
      · refine lv_iconst (v := 0) hx hb dX2_isCrowded_33 (by decide) ?_
        exact bt_rz hx hb hr hlk (by have hx3 : x = 0 := (nI_eq (by omega) (by decide)).mp c_8; have hy3 : y = bt_pop 10 (ms_nb t h) := (by rw [← hxy, hx3, bt_pop_z, Nat.add_zero]); have h5 : y ≤ 1 := (nI_leI (by omega) (by decide)).mp c_26; simp [bt_B, bt_crw, ← hy3, show ¬ 1 < y by omega]) dX2_isCrowded_34
      · refine lv_iconst (v := 1) hx hb dX2_isCrowded_29 (by decide) ?_
        refine lv_goto (tgt := 34) hx hb dX2_isCrowded_30 (by decide) ?_
        exact bt_rz hx hb hr hlk (by have hx3 : x = 0 := (nI_eq (by omega) (by decide)).mp c_8; have hy3 : y = bt_pop 10 (ms_nb t h) := (by rw [← hxy, hx3, bt_pop_z, Nat.add_zero]); have h5 : ¬ y ≤ 1 := fun q => c_26 ((nI_leI (by omega) (by decide)).mpr q); simp [bt_B, bt_crw, ← hy3, show 1 < y by omega]) dX2_isCrowded_34
    · refine lv_iload_n hx hb dX2_isCrowded_11 rfl (lv_at hl 1 rfl) ?_
      refine lv_iload_n hx hb dX2_isCrowded_12 rfl (lv_at hl 2 rfl) ?_
      refine lv_iconst (v := 2) hx hb dX2_isCrowded_13 (by decide) ?_
      refine lv_irem hx hb dX2_isCrowded_14 (by decide) ?_
      refine bt_top (y := nI (x % 2)) (pk_rem (d := 2) (by omega) (by decide) (by decide)) ?_
      refine lv_iadd hx hb dX2_isCrowded_15 ?_
      refine bt_top (y := nI (y + x % 2)) (nI_add y (x % 2)) ?_
      refine lv_istore_n (lv' := [(1, .int (nI (y + x % 2))), (0, .ref o), (2, .int (nI x))]) hx hb dX2_isCrowded_16 rfl hl (by decide) rfl (fun ls hl => ?_)
      refine lv_iload_n hx hb dX2_isCrowded_17 rfl (lv_at hl 2 rfl) ?_
      refine lv_iconst (v := 2) hx hb dX2_isCrowded_18 (by decide) ?_
      refine lv_idiv hx hb dX2_isCrowded_19 (by decide) ?_
      refine bt_top (y := nI (x / 2)) (pk_div (d := 2) (by omega) (by decide) (by decide)) ?_
      refine lv_istore_n (lv' := [(2, .int (nI (x / 2))), (1, .int (nI (y + x % 2))), (0, .ref o)]) hx hb dX2_isCrowded_20 rfl hl (by decide) rfl (fun ls hl => ?_)
      refine lv_goto (tgt := 7) hx hb dX2_isCrowded_21 (by decide) ?_
      refine ih ls ⟨x / 2, y + x % 2, ?_, by omega, ?_, lv_sub hl [2, 1, 0] rfl⟩
      · rw [show 10 - i = (10 - (i + 1)) + 1 by omega, Nat.pow_succ] at hx1
        omega
      · rw [show 10 - i = (10 - (i + 1)) + 1 by omega] at hxy
        rw [← hxy, Nat.add_assoc]
        rfl
set_option maxHeartbeats 4000000 in
set_option maxRecDepth 100000 in
theorem wM_tick (n : Int32) (sz : Nat) : Met l yX2_tick (ws_ yX2_tick cX2_tick 2 (some .int)) ({ frames := 0, cells := 0, slots := 0, locals := 0 } : Room) (va_Pc [.ref o, .int n] (bt_MP D [(d, .int)] (wM o b1 b2 b3 b4 b5 b6 d k t h r f j q u) sz)) (bt_Qi (bt_tickR t n) D [(d, .int)] (wM o b1 b2 b3 b4 b5 b6 d k (bt_tickT t n) h r f j q u) (va_A (wM o b1 b2 b3 b4 b5 b6 d k t h r f j q u) sz)) 0 0 (va_A (wM o b1 b2 b3 b4 b5 b6 d k t h r f j q u) sz) := by
  refine bt_metM (Qc := fun A => bt_Qi (bt_tickR t n) D [(d, .int)] (wM o b1 b2 b3 b4 b5 b6 d k (bt_tickT t n) h r f j q u) A) (by decide) (Nat.le_of_ble_eq_true rfl) ?_
  intro p e s m below meth c ls A hx hb hr hlk hml hown hts hnm hl hP hK hD hS hA
  have hown : s.vm.findClass RX2 = some m.cls := hown
  have hl : lv_has ls 2 [(0, .ref o), (1, .int n)] := hl
  refine lv_iload_n hx hb dX2_tick_0 rfl (lv_at hl 1 rfl) ?_
  refine lv_iconst (v := 1) hx hb dX2_tick_1 (by decide) ?_
  refine lv_icmp_lt (tgt := 22) hx hb dX2_tick_2 (by decide) (fun c_2 => ?_) (fun c_2 => ?_)
  · refine lv_iconst (v := -1) hx hb dX2_tick_22 (by decide) ?_
    have ew_t : bt_tickT t n = t := by simp [bt_tickR, bt_tickT, bt_tk, c_2]
    exact bt_wi hx hb hr hlk hP hK hD hS (by simp [bt_tickR, bt_tickT, bt_tk, c_2]) (by rw [ew_t]) dX2_tick_23
  · refine lv_iload_n hx hb dX2_tick_5 rfl (lv_at hl 1 rfl) ?_
    refine lv_bipush (v := 100) hx hb dX2_tick_6 (by decide) ?_
    refine lv_icmp_gt (tgt := 22) hx hb dX2_tick_8 (by decide) (fun c_8 => ?_) (fun c_8 => ?_)
    · refine lv_iconst (v := -1) hx hb dX2_tick_22 (by decide) ?_
      have ew_t : bt_tickT t n = t := by simp [bt_tickR, bt_tickT, bt_tk, c_2, c_8]
      exact bt_wi hx hb hr hlk hP hK hD hS (by simp [bt_tickR, bt_tickT, bt_tk, c_2, c_8]) (by rw [ew_t]) dX2_tick_23
    · refine lv_aload_n hx hb dX2_tick_11 rfl (lv_at hl 0 rfl) ?_
      refine va_get (D := D) (ci := 1) (v := .int t) (C := RX2) (T := TX2) (N := 8) hx hb hts in_X2 hown hK hP 0 rfl rfl 1 (by decide) (hts _ q159) (fun _ h9 => h9) rfl dX2_tick_12 ?_
      refine lv_iload_n hx hb dX2_tick_15 rfl (lv_at hl 1 rfl) ?_
      refine lv_iadd hx hb dX2_tick_16 ?_
      refine lv_ldc hx hb hown (hts _ q187) dX2_tick_17 ?_
      refine lv_icmp_le (tgt := 24) hx hb dX2_tick_19 (by decide) (fun c_19 => ?_) (fun c_19 => ?_)
      · refine lv_aload_n hx hb dX2_tick_24 rfl (lv_at hl 0 rfl) ?_
        refine lv_dup hx hb dX2_tick_25 rfl ?_
        refine va_get (D := D) (ci := 1) (v := .int t) (C := RX2) (T := TX2) (N := 8) hx hb hts in_X2 hown hK hP 0 rfl rfl 1 (by decide) (hts _ q159) (fun _ h9 => h9) rfl dX2_tick_26 ?_
        refine lv_iload_n hx hb dX2_tick_29 rfl (lv_at hl 1 rfl) ?_
        refine lv_iadd hx hb dX2_tick_30 ?_
        refine va_put (D := D) (ci := 1) (v := .int (t + n)) (ty := .int) (C := RX2) (T := TX2) (N := 8) hx hb hts in_X2 tyX2 tyX2_ok nmX2 hown hK hP hD hS 0 rfl rfl 1 (by decide) (hts _ q159) (fun _ h9 => h9) rfl (by decide +kernel) rfl rfl (Nat.le_of_ble_eq_true rfl) dX2_tick_31 (fun H locs hP hD hS => ?_)
        have hP : va_P D vwCl (wM o b1 b2 b3 b4 b5 b6 d k (t + n) h r f j q u) H := hP
        have hD : va_D A (wM o b1 b2 b3 b4 b5 b6 d k (t + n) h r f j q u) := hD
        refine lv_aload_n hx hb dX2_tick_34 rfl (lv_at hl 0 rfl) ?_
        refine va_get (D := D) (ci := 1) (v := .int (t + n)) (C := RX2) (T := TX2) (N := 8) hx hb hts in_X2 hown hK hP 0 rfl rfl 1 (by decide) (hts _ q159) (fun _ h9 => h9) rfl dX2_tick_35 ?_
        have ew_t : bt_tickT t n = t + n := by simp [bt_tickR, bt_tickT, bt_tk, c_2, c_8, c_19]
        exact bt_wi hx hb hr hlk hP hK hD hS (by simp [bt_tickR, bt_tickT, bt_tk, c_2, c_8, c_19]) (by rw [ew_t]) dX2_tick_38
      · refine lv_iconst (v := -1) hx hb dX2_tick_22 (by decide) ?_
        have ew_t : bt_tickT t n = t := by simp [bt_tickR, bt_tickT, bt_tk, c_2, c_8, c_19]
        exact bt_wi hx hb hr hlk hP hK hD hS (by simp [bt_tickR, bt_tickT, bt_tk, c_2, c_8, c_19]) (by rw [ew_t]) dX2_tick_23
set_option maxHeartbeats 4000000 in
set_option maxRecDepth 100000 in
theorem wM_hello (n : Int32) (sz : Nat) : Met l yX2_hello (ws_ yX2_hello cX2_hello 2 (some .boolean)) ({ frames := 0, cells := 0, slots := 0, locals := 0 } : Room) (va_Pc [.ref o, .int n] (bt_MP D [(d, .int)] (wM o b1 b2 b3 b4 b5 b6 d k t h r f j q u) sz)) (bt_Qi (bt_B (ms_hok k n)) D [(d, .int)] (wM o b1 b2 b3 b4 b5 b6 d k t (ms_helloH k t h n) r f j q u) (va_A (wM o b1 b2 b3 b4 b5 b6 d k t h r f j q u) sz)) 0 0 (va_A (wM o b1 b2 b3 b4 b5 b6 d k t h r f j q u) sz) := by
  refine bt_metM (Qc := fun A => bt_Qi (bt_B (ms_hok k n)) D [(d, .int)] (wM o b1 b2 b3 b4 b5 b6 d k t (ms_helloH k t h n) r f j q u) A) (by decide) (Nat.le_of_ble_eq_true rfl) ?_
  intro p e s m below meth c ls A hx hb hr hlk hml hown hts hnm hl hP hK hD hS hA
  have hown : s.vm.findClass RX2 = some m.cls := hown
  have hl : lv_has ls 2 [(0, .ref o), (1, .int n)] := hl
  refine lv_iload_n hx hb dX2_hello_0 rfl (lv_at hl 1 rfl) ?_
  refine lv_if_lt (tgt := 18) hx hb dX2_hello_1 (by decide) (fun c_1 => ?_) (fun c_1 => ?_)
  · refine lv_iconst (v := 0) hx hb dX2_hello_18 (by decide) ?_
    have ew_h : ms_helloH k t h n = h := by simp [bt_B, ms_helloH, ms_hok, c_1]
    exact bt_wz hx hb hr hlk hP hK hD hS (by simp [bt_B, ms_helloH, ms_hok, c_1]) (by rw [ew_h]) dX2_hello_19
  · refine lv_iload_n hx hb dX2_hello_4 rfl (lv_at hl 1 rfl) ?_
    refine lv_bipush (v := 9) hx hb dX2_hello_5 (by decide) ?_
    refine lv_icmp_gt (tgt := 18) hx hb dX2_hello_7 (by decide) (fun c_7 => ?_) (fun c_7 => ?_)
    · refine lv_iconst (v := 0) hx hb dX2_hello_18 (by decide) ?_
      have ew_h : ms_helloH k t h n = h := by simp [bt_B, ms_helloH, ms_hok, c_1, c_7]
      exact bt_wz hx hb hr hlk hP hK hD hS (by simp [bt_B, ms_helloH, ms_hok, c_1, c_7]) (by rw [ew_h]) dX2_hello_19
    · refine lv_iload_n hx hb dX2_hello_10 rfl (lv_at hl 1 rfl) ?_
      refine lv_aload_n hx hb dX2_hello_11 rfl (lv_at hl 0 rfl) ?_
      refine va_get (D := D) (ci := 1) (v := .int (nI k)) (C := RX2) (T := TX2) (N := 8) hx hb hts in_X2 hown hK hP 0 rfl rfl 0 (by decide) (hts _ q158) (fun _ h9 => h9) rfl dX2_hello_12 ?_
      refine lv_icmp_ne (tgt := 20) hx hb dX2_hello_15 (by decide) (fun c_15 => ?_) (fun c_15 => ?_)
      · refine lv_aload_n hx hb dX2_hello_20 rfl (lv_at hl 0 rfl) ?_
        refine va_get (D := D) (ci := 1) (v := .ref b1) (C := RX2) (T := TX2) (N := 8) hx hb hts in_X2 hown hK hP 0 rfl rfl 2 (by decide) (hts _ q160) (fun _ h9 => h9) rfl dX2_hello_21 ?_
        refine lv_iload_n hx hb dX2_hello_24 rfl (lv_at hl 1 rfl) ?_
        refine lv_aload_n hx hb dX2_hello_25 rfl (lv_at hl 0 rfl) ?_
        refine va_get (D := D) (ci := 1) (v := .int t) (C := RX2) (T := TX2) (N := 8) hx hb hts in_X2 hown hK hP 0 rfl rfl 1 (by decide) (hts _ q159) (fun _ h9 => h9) rfl dX2_hello_26 ?_
        refine va_iast hx hb hK hP hD hS 1 0 rfl rfl (bt_in10m c_1 c_7) dX2_hello_29 (fun H locs hP hD hS => ?_)
        have hP : va_P D vwCl (wM o b1 b2 b3 b4 b5 b6 d k t (upd h n.toNatClampNeg t) r f j q u) H := hP
        have hD : va_D A (wM o b1 b2 b3 b4 b5 b6 d k t (upd h n.toNatClampNeg t) r f j q u) := hD
        refine lv_iconst (v := 1) hx hb dX2_hello_30 (by decide) ?_
        have ew_h : ms_helloH k t h n = upd h n.toNatClampNeg t := by simp [bt_B, ms_helloH, ms_hok, c_1, c_7, c_15]
        exact bt_wz hx hb hr hlk hP hK hD hS (by simp [bt_B, ms_helloH, ms_hok, c_1, c_7, c_15]) (by rw [ew_h]) dX2_hello_31
      · refine lv_iconst (v := 0) hx hb dX2_hello_18 (by decide) ?_
        have ew_h : ms_helloH k t h n = h := by simp [bt_B, ms_helloH, ms_hok, c_1, c_7, c_15]
        exact bt_wz hx hb hr hlk hP hK hD hS (by simp [bt_B, ms_helloH, ms_hok, c_1, c_7, c_15]) (by rw [ew_h]) dX2_hello_19
end MA
end
section
section MB
variable (l : Launch) (D : va_G) (o b1 b2 b3 b4 b5 b6 : Nat) (d : ClassId) (k : Nat) (t : Int32) (h r f j q u : Nat → Int32)
set_option maxHeartbeats 4000000 in
set_option maxRecDepth 100000 in
theorem rM_memberTill (g : Int32) (hG : vp_in g 8) : Met l yX2_memberTill (ws_ yX2_memberTill cX2_memberTill 3 (some .int)) ({ frames := 0, cells := 0, slots := 0, locals := 0 } : Room) (va_Pc [.ref o, .int g] (bt_RP D [(d, .int)] (wM o b1 b2 b3 b4 b5 b6 d k t h r f j q u))) (QcRead (ms_mt t r f g)) 0 0 (fun _ => False) := by
  refine bt_met (by decide) (Nat.le_of_ble_eq_true rfl) ?_
  intro p e s m below meth c ls hx hb hr hlk hml hown hts hnm hl hB
  obtain ⟨hP, hK⟩ := hB
  have hown : s.vm.findClass RX2 = some m.cls := hown
  have hl : lv_has ls 3 [(0, .ref o), (1, .int g)] := hl
  refine lv_aload_n hx hb dX2_memberTill_0 rfl (lv_at hl 0 rfl) ?_
  refine va_get (D := D) (ci := 1) (v := .ref b2) (C := RX2) (T := TX2) (N := 8) hx hb hts in_X2 hown hK hP 0 rfl rfl 3 (by decide) (hts _ q161) (fun _ h9 => h9) rfl dX2_memberTill_1 ?_
  refine lv_iload_n hx hb dX2_memberTill_4 rfl (lv_at hl 1 rfl) ?_
  refine va_iald hx hb hK hP 2 0 rfl rfl hG dX2_memberTill_5 ?_
  refine lv_iconst (v := -1) hx hb dX2_memberTill_6 (by decide) ?_
  refine lv_icmp_ne (tgt := 12) hx hb dX2_memberTill_7 (by decide) (fun c_7 => ?_) (fun c_7 => ?_)
  · refine lv_aload_n hx hb dX2_memberTill_12 rfl (lv_at hl 0 rfl) ?_
    refine va_get (D := D) (ci := 1) (v := .ref b2) (C := RX2) (T := TX2) (N := 8) hx hb hts in_X2 hown hK hP 0 rfl rfl 3 (by decide) (hts _ q161) (fun _ h9 => h9) rfl dX2_memberTill_13 ?_
    refine lv_iload_n hx hb dX2_memberTill_16 rfl (lv_at hl 1 rfl) ?_
    refine va_iald hx hb hK hP 2 0 rfl rfl hG dX2_memberTill_17 ?_
    refine lv_bipush (v := 60) hx hb dX2_memberTill_18 (by decide) ?_
    refine lv_iadd hx hb dX2_memberTill_20 ?_
    refine lv_istore_n (lv' := [(2, .int ((r g.toNatClampNeg) + 60)), (0, .ref o), (1, .int g)]) hx hb dX2_memberTill_21 rfl hl (by decide) rfl (fun ls hl => ?_)
    refine bt_cut (g2 := F0 m 42 ls [.int (ms_mv r f g.toNatClampNeg)]) ?_ (fun K => ?_)
    · refine lv_istore_n (lv' := [(2, .int (ms_mv r f g.toNatClampNeg)), (0, .ref o), (1, .int g)]) hx hb dX2_memberTill_42 rfl hl (by decide) rfl (fun ls hl => ?_)
      refine lv_aload_n hx hb dX2_memberTill_43 rfl (lv_at hl 1 rfl) ?_
      refine va_get (D := D) (ci := 1) (v := .int t) (C := RX2) (T := TX2) (N := 8) hx hb hts in_X2 hown hK hP 0 rfl rfl 1 (by decide) (hts _ q159) (fun _ h9 => h9) rfl dX2_memberTill_44 ?_
      refine lv_iload_n hx hb dX2_memberTill_47 rfl (lv_at hl 0 rfl) ?_
      refine lv_icmp_ge (tgt := 55) hx hb dX2_memberTill_48 (by decide) (fun c_48 => ?_) (fun c_48 => ?_)
      · refine lv_iconst (v := 0) hx hb dX2_memberTill_55 (by decide) ?_
        exact bt_ri hx hb hr hlk (by simp [ms_mt, c_7, c_48]) dX2_memberTill_56
      · refine lv_iload_n hx hb dX2_memberTill_51 rfl (lv_at hl 0 rfl) ?_
        refine lv_goto (tgt := 56) hx hb dX2_memberTill_52 (by decide) ?_
        exact bt_ri hx hb hr hlk (by simp [ms_mt, c_7, c_48]) dX2_memberTill_56
    · refine lv_aload_n hx hb dX2_memberTill_22 rfl (lv_at hl 1 rfl) ?_
      refine va_get (D := D) (ci := 1) (v := .ref b3) (C := RX2) (T := TX2) (N := 8) hx hb hts in_X2 hown hK hP 0 rfl rfl 4 (by decide) (hts _ q162) (fun _ h9 => h9) rfl dX2_memberTill_23 ?_
      refine lv_iload_n hx hb dX2_memberTill_26 rfl (lv_at hl 2 rfl) ?_
      refine va_iald hx hb hK hP 3 0 rfl rfl hG dX2_memberTill_27 ?_
      refine lv_iload_n hx hb dX2_memberTill_28 rfl (lv_at hl 0 rfl) ?_
      refine lv_icmp_ge (tgt := 41) hx hb dX2_memberTill_29 (by decide) (fun c_29 => ?_) (fun c_29 => ?_)
      · refine lv_iload_n hx hb dX2_memberTill_41 rfl (lv_at hl 0 rfl) ?_
        exact bt_top (y := ms_mv r f g.toNatClampNeg) (by simp [ms_mv, c_29]) K
      · refine lv_aload_n hx hb dX2_memberTill_32 rfl (lv_at hl 1 rfl) ?_
        refine va_get (D := D) (ci := 1) (v := .ref b3) (C := RX2) (T := TX2) (N := 8) hx hb hts in_X2 hown hK hP 0 rfl rfl 4 (by decide) (hts _ q162) (fun _ h9 => h9) rfl dX2_memberTill_33 ?_
        refine lv_iload_n hx hb dX2_memberTill_36 rfl (lv_at hl 2 rfl) ?_
        refine va_iald hx hb hK hP 3 0 rfl rfl hG dX2_memberTill_37 ?_
        refine lv_goto (tgt := 42) hx hb dX2_memberTill_38 (by decide) ?_
        exact bt_top (y := ms_mv r f g.toNatClampNeg) (by simp [ms_mv, c_29]) K
  · refine lv_iconst (v := 0) hx hb dX2_memberTill_10 (by decide) ?_
    exact bt_ri hx hb hr hlk (by simp [ms_mt, c_7]) dX2_memberTill_11
set_option maxHeartbeats 4000000 in
set_option maxRecDepth 100000 in
theorem wM_report (g : Int32) (sz : Nat) : Met l yX2_report (ws_ yX2_report cX2_report 2 (some .boolean)) ({ frames := 1, cells := 0, slots := 0, locals := 20 } : Room) (va_Pc [.ref o, .int g] (bt_MP D [(d, .int)] (wM o b1 b2 b3 b4 b5 b6 d k t h r f j q u) sz)) (bt_Qi (bt_B (bt_grp g)) D [(d, .int)] (wM o b1 b2 b3 b4 b5 b6 d k t h (ms_reportR t r g) (ms_reportF f g) j q u) (va_A (wM o b1 b2 b3 b4 b5 b6 d k t h r f j q u) sz)) 0 0 (va_A (wM o b1 b2 b3 b4 b5 b6 d k t h r f j q u) sz) := by
  refine bt_metM (Qc := fun A => bt_Qi (bt_B (bt_grp g)) D [(d, .int)] (wM o b1 b2 b3 b4 b5 b6 d k t h (ms_reportR t r g) (ms_reportF f g) j q u) A) (by decide) (Nat.le_of_ble_eq_true rfl) ?_
  intro p e s m below meth c ls A hx hb hr hlk hml hown hts hnm hl hP hK hD hS hA
  have hown : s.vm.findClass RX2 = some m.cls := hown
  have hl : lv_has ls 2 [(0, .ref o), (1, .int g)] := hl
  refine lv_iload_n hx hb dX2_report_0 rfl (lv_at hl 1 rfl) ?_
  refine bt_cS (As := [.int g]) (rest := []) ⟨hx, hb, hml, hown, hts⟩ (rM_isGroup l g) 1 (lw_S q196 q197 q21 q198) ⟨rfl, rfl⟩ (by decide +kernel) ⟨Nat.le_of_ble_eq_true rfl, Nat.le_of_ble_eq_true rfl⟩ rfl hl.1 rfl (Nat.le_of_ble_eq_true rfl) dX2_report_1 ⟨Nat.zero_le _, Nat.zero_le _⟩ ?_
  refine lv_if_ne (tgt := 9) hx hb dX2_report_4 (by decide) (fun c_4 => ?_) (fun c_4 => ?_)
  · have c_4 := bt_B1 c_4
    refine lv_aload_n hx hb dX2_report_9 rfl (lv_at hl 0 rfl) ?_
    refine va_get (D := D) (ci := 1) (v := .ref b2) (C := RX2) (T := TX2) (N := 8) hx hb hts in_X2 hown hK hP 0 rfl rfl 3 (by decide) (hts _ q161) (fun _ h9 => h9) rfl dX2_report_10 ?_
    refine lv_iload_n hx hb dX2_report_13 rfl (lv_at hl 1 rfl) ?_
    refine lv_aload_n hx hb dX2_report_14 rfl (lv_at hl 0 rfl) ?_
    refine va_get (D := D) (ci := 1) (v := .int t) (C := RX2) (T := TX2) (N := 8) hx hb hts in_X2 hown hK hP 0 rfl rfl 1 (by decide) (hts _ q159) (fun _ h9 => h9) rfl dX2_report_15 ?_
    refine va_iast hx hb hK hP hD hS 2 0 rfl rfl (bt_inG c_4) dX2_report_18 (fun H locs hP hD hS => ?_)
    have hP : va_P D vwCl (wM o b1 b2 b3 b4 b5 b6 d k t h (upd r g.toNatClampNeg t) f j q u) H := hP
    have hD : va_D A (wM o b1 b2 b3 b4 b5 b6 d k t h (upd r g.toNatClampNeg t) f j q u) := hD
    refine lv_aload_n hx hb dX2_report_19 rfl (lv_at hl 0 rfl) ?_
    refine va_get (D := D) (ci := 1) (v := .ref b3) (C := RX2) (T := TX2) (N := 8) hx hb hts in_X2 hown hK hP 0 rfl rfl 4 (by decide) (hts _ q162) (fun _ h9 => h9) rfl dX2_report_20 ?_
    refine lv_iload_n hx hb dX2_report_23 rfl (lv_at hl 1 rfl) ?_
    refine lv_ldc hx hb hown (hts _ q199) dX2_report_24 ?_
    refine va_iast hx hb hK hP hD hS 3 0 rfl rfl (bt_inG c_4) dX2_report_26 (fun H locs hP hD hS => ?_)
    have hP : va_P D vwCl (wM o b1 b2 b3 b4 b5 b6 d k t h (upd r g.toNatClampNeg t) (upd f g.toNatClampNeg 1000000) j q u) H := hP
    have hD : va_D A (wM o b1 b2 b3 b4 b5 b6 d k t h (upd r g.toNatClampNeg t) (upd f g.toNatClampNeg 1000000) j q u) := hD
    refine lv_iconst (v := 1) hx hb dX2_report_27 (by decide) ?_
    have ew_r : ms_reportR t r g = upd r g.toNatClampNeg t := by simp [bt_B, ms_reportR, ms_reportF, c_4]
    have ew_f : ms_reportF f g = upd f g.toNatClampNeg 1000000 := by simp [bt_B, ms_reportR, ms_reportF, c_4]
    exact bt_wz hx hb hr hlk hP hK hD hS (by simp [bt_B, ms_reportR, ms_reportF, c_4]) (by rw [ew_r, ew_f]) dX2_report_28
  · have c_4 := bt_B0 c_4
    refine lv_iconst (v := 0) hx hb dX2_report_7 (by decide) ?_
    have ew_r : ms_reportR t r g = r := by simp [bt_B, ms_reportR, ms_reportF, c_4]
    have ew_f : ms_reportF f g = f := by simp [bt_B, ms_reportR, ms_reportF, c_4]
    exact bt_wz hx hb hr hlk hP hK hD hS (by simp [bt_B, ms_reportR, ms_reportF, c_4]) (by rw [ew_r, ew_f]) dX2_report_8
set_option maxHeartbeats 4000000 in
set_option maxRecDepth 100000 in
theorem wM_leave (g : Int32) (sz : Nat) (hk : k ≤ 9) : Met l yX2_leave (ws_ yX2_leave cX2_leave 2 (some .boolean)) ({ frames := 2, cells := 0, slots := 0, locals := 42 } : Room) (va_Pc [.ref o, .int g] (bt_MP D [(d, .int)] (wM o b1 b2 b3 b4 b5 b6 d k t h r f j q u) sz)) (bt_Qi (bt_B (ms_lok k t h r f g)) D [(d, .int)] (wM o b1 b2 b3 b4 b5 b6 d k t h r (ms_leaveF k t h r f g) j q u) (va_A (wM o b1 b2 b3 b4 b5 b6 d k t h r f j q u) sz)) 0 0 (va_A (wM o b1 b2 b3 b4 b5 b6 d k t h r f j q u) sz) := by
  refine bt_metM (Qc := fun A => bt_Qi (bt_B (ms_lok k t h r f g)) D [(d, .int)] (wM o b1 b2 b3 b4 b5 b6 d k t h r (ms_leaveF k t h r f g) j q u) A) (by decide) (Nat.le_of_ble_eq_true rfl) ?_
  intro p e s m below meth c ls A hx hb hr hlk hml hown hts hnm hl hP hK hD hS hA
  have hown : s.vm.findClass RX2 = some m.cls := hown
  have hl : lv_has ls 2 [(0, .ref o), (1, .int g)] := hl
  refine lv_iload_n hx hb dX2_leave_0 rfl (lv_at hl 1 rfl) ?_
  refine bt_cS (As := [.int g]) (rest := []) ⟨hx, hb, hml, hown, hts⟩ (rM_isGroup l g) 1 (lw_S q196 q197 q21 q198) ⟨rfl, rfl⟩ (by decide +kernel) ⟨Nat.le_of_ble_eq_true rfl, Nat.le_of_ble_eq_true rfl⟩ rfl hl.1 rfl (Nat.le_of_ble_eq_true rfl) dX2_leave_1 ⟨Nat.zero_le _, Nat.zero_le _⟩ ?_
  refine lv_if_eq (tgt := 22) hx hb dX2_leave_4 (by decide) (fun c_4 => ?_) (fun c_4 => ?_)
  · have c_4 := bt_B0 c_4
    refine lv_iconst (v := 0) hx hb dX2_leave_22 (by decide) ?_
    have ew_f : ms_leaveF k t h r f g = f := by simp [bt_B, ms_leaveF, ms_lok, c_4]
    exact bt_wz hx hb hr hlk hP hK hD hS (by simp [bt_B, ms_leaveF, ms_lok, c_4]) (by rw [ew_f]) dX2_leave_23
  · have c_4 := bt_B1 c_4
    refine lv_aload_n hx hb dX2_leave_7 rfl (lv_at hl 0 rfl) ?_
    refine lv_iload_n hx hb dX2_leave_8 rfl (lv_at hl 1 rfl) ?_
    refine bt_cV (As := [.int g]) (rest := []) (b := o) (ci := 1) (q0 := 0) ⟨hx, hb, hml, hown, hts⟩ (rM_memberTill l D o b1 b2 b3 b4 b5 b6 d k t h r f j q u g (bt_inG c_4)) 1 (lw_V q204 q206 qs9 q21 q207) ⟨rfl, rfl⟩ (by decide +kernel) ⟨Nat.le_of_ble_eq_true rfl, Nat.le_of_ble_eq_true rfl⟩ hK hP rfl rfl rfl hl.1 rfl (Nat.le_of_ble_eq_true rfl) dX2_leave_9 ⟨Nat.zero_le _, Nat.zero_le _⟩ ?_
    refine lv_if_eq (tgt := 22) hx hb dX2_leave_12 (by decide) (fun c_12 => ?_) (fun c_12 => ?_)
    · refine lv_iconst (v := 0) hx hb dX2_leave_22 (by decide) ?_
      have ew_f : ms_leaveF k t h r f g = f := by simp [bt_B, ms_leaveF, ms_lok, c_4, c_12]
      exact bt_wz hx hb hr hlk hP hK hD hS (by simp [bt_B, ms_leaveF, ms_lok, c_4, c_12]) (by rw [ew_f]) dX2_leave_23
    · refine lv_aload_n hx hb dX2_leave_15 rfl (lv_at hl 0 rfl) ?_
      refine bt_cV (As := []) (rest := []) (b := o) (ci := 1) (q0 := 0) ⟨hx, hb, hml, hown, hts⟩ (rM_isAsking l D o b1 b2 b3 b4 b5 b6 d k t h r f j q u  hk) 0 (lw_V q208 q210 qs10 q21 q211) ⟨rfl, rfl⟩ (by decide +kernel) ⟨Nat.le_of_ble_eq_true rfl, Nat.le_of_ble_eq_true rfl⟩ hK hP rfl rfl rfl hl.1 rfl (Nat.le_of_ble_eq_true rfl) dX2_leave_16 ⟨Nat.zero_le _, Nat.zero_le _⟩ ?_
      refine lv_if_ne (tgt := 24) hx hb dX2_leave_19 (by decide) (fun c_19 => ?_) (fun c_19 => ?_)
      · have c_19 := bt_B1 c_19
        refine lv_aload_n hx hb dX2_leave_24 rfl (lv_at hl 0 rfl) ?_
        refine va_get (D := D) (ci := 1) (v := .ref b3) (C := RX2) (T := TX2) (N := 8) hx hb hts in_X2 hown hK hP 0 rfl rfl 4 (by decide) (hts _ q162) (fun _ h9 => h9) rfl dX2_leave_25 ?_
        refine lv_iload_n hx hb dX2_leave_28 rfl (lv_at hl 1 rfl) ?_
        refine bt_cut (g2 := F0 m 59 ls [.int (if f g.toNatClampNeg ≤ t + 4 then f g.toNatClampNeg else t + 4), .int g, .ref b3]) ?_ (fun K => ?_)
        · refine va_iast hx hb hK hP hD hS 3 0 rfl rfl (bt_inG c_4) dX2_leave_59 (fun H locs hP hD hS => ?_)
          have hP : va_P D vwCl (wM o b1 b2 b3 b4 b5 b6 d k t h r (upd f g.toNatClampNeg (if f g.toNatClampNeg ≤ t + 4 then f g.toNatClampNeg else t + 4)) j q u) H := hP
          have hD : va_D A (wM o b1 b2 b3 b4 b5 b6 d k t h r (upd f g.toNatClampNeg (if f g.toNatClampNeg ≤ t + 4 then f g.toNatClampNeg else t + 4)) j q u) := hD
          refine lv_iconst (v := 1) hx hb dX2_leave_60 (by decide) ?_
          have ew_f : ms_leaveF k t h r f g = upd f g.toNatClampNeg (if f g.toNatClampNeg ≤ t + 4 then f g.toNatClampNeg else t + 4) := by unfold ms_leaveF; rw [if_pos (show ms_lok k t h r f g = true by simp [ms_lok, c_4, c_12, c_19])]
          exact bt_wz hx hb hr hlk hP hK hD hS (by simp [bt_B, ms_lok, c_4, c_12, c_19]) (by rw [ew_f]) dX2_leave_61
        · refine lv_aload_n hx hb dX2_leave_29 rfl (lv_at hl 0 rfl) ?_
          refine va_get (D := D) (ci := 1) (v := .int t) (C := RX2) (T := TX2) (N := 8) hx hb hts in_X2 hown hK hP 0 rfl rfl 1 (by decide) (hts _ q159) (fun _ h9 => h9) rfl dX2_leave_30 ?_
          refine lv_iconst (v := 4) hx hb dX2_leave_33 (by decide) ?_
          refine lv_iadd hx hb dX2_leave_34 ?_
          refine lv_aload_n hx hb dX2_leave_35 rfl (lv_at hl 0 rfl) ?_
          refine va_get (D := D) (ci := 1) (v := .ref b3) (C := RX2) (T := TX2) (N := 8) hx hb hts in_X2 hown hK hP 0 rfl rfl 4 (by decide) (hts _ q162) (fun _ h9 => h9) rfl dX2_leave_36 ?_
          refine lv_iload_n hx hb dX2_leave_39 rfl (lv_at hl 1 rfl) ?_
          refine va_iald hx hb hK hP 3 0 rfl rfl (bt_inG c_4) dX2_leave_40 ?_
          refine lv_icmp_ge (tgt := 53) hx hb dX2_leave_41 (by decide) (fun c_41 => ?_) (fun c_41 => ?_)
          · refine lv_aload_n hx hb dX2_leave_53 rfl (lv_at hl 0 rfl) ?_
            refine va_get (D := D) (ci := 1) (v := .ref b3) (C := RX2) (T := TX2) (N := 8) hx hb hts in_X2 hown hK hP 0 rfl rfl 4 (by decide) (hts _ q162) (fun _ h9 => h9) rfl dX2_leave_54 ?_
            refine lv_iload_n hx hb dX2_leave_57 rfl (lv_at hl 1 rfl) ?_
            refine va_iald hx hb hK hP 3 0 rfl rfl (bt_inG c_4) dX2_leave_58 ?_
            exact bt_top (y := if f g.toNatClampNeg ≤ t + 4 then f g.toNatClampNeg else t + 4) (by rw [if_pos c_41]) K
          · refine lv_aload_n hx hb dX2_leave_44 rfl (lv_at hl 0 rfl) ?_
            refine va_get (D := D) (ci := 1) (v := .int t) (C := RX2) (T := TX2) (N := 8) hx hb hts in_X2 hown hK hP 0 rfl rfl 1 (by decide) (hts _ q159) (fun _ h9 => h9) rfl dX2_leave_45 ?_
            refine lv_iconst (v := 4) hx hb dX2_leave_48 (by decide) ?_
            refine lv_iadd hx hb dX2_leave_49 ?_
            refine lv_goto (tgt := 59) hx hb dX2_leave_50 (by decide) ?_
            exact bt_top (y := if f g.toNatClampNeg ≤ t + 4 then f g.toNatClampNeg else t + 4) (by rw [if_neg c_41]) K
      · have c_19 := bt_B0 c_19
        refine lv_iconst (v := 0) hx hb dX2_leave_22 (by decide) ?_
        have ew_f : ms_leaveF k t h r f g = f := by simp [bt_B, ms_leaveF, ms_lok, c_4, c_12, c_19]
        exact bt_wz hx hb hr hlk hP hK hD hS (by simp [bt_B, ms_leaveF, ms_lok, c_4, c_12, c_19]) (by rw [ew_f]) dX2_leave_23
set_option maxHeartbeats 4000000 in
set_option maxRecDepth 100000 in
theorem rM_members (g : Int32) : Met l yX2_members (ws_ yX2_members cX2_members 2 (some .int)) ({ frames := 1, cells := 0, slots := 0, locals := 22 } : Room) (va_Pc [.ref o, .int g] (bt_RP D [(d, .int)] (wM o b1 b2 b3 b4 b5 b6 d k t h r f j q u))) (QcRead (ms_members t r f g)) 0 0 (fun _ => False) := by
  refine bt_met (by decide) (Nat.le_of_ble_eq_true rfl) ?_
  intro p e s m below meth c ls hx hb hr hlk hml hown hts hnm hl hB
  obtain ⟨hP, hK⟩ := hB
  have hown : s.vm.findClass RX2 = some m.cls := hown
  have hl : lv_has ls 2 [(0, .ref o), (1, .int g)] := hl
  refine lv_iload_n hx hb dX2_members_0 rfl (lv_at hl 1 rfl) ?_
  refine bt_cS (As := [.int g]) (rest := []) ⟨hx, hb, hml, hown, hts⟩ (rM_isGroup l g) 1 (lw_S q196 q197 q21 q198) ⟨rfl, rfl⟩ (by decide +kernel) ⟨Nat.le_of_ble_eq_true rfl, Nat.le_of_ble_eq_true rfl⟩ rfl hl.1 rfl (Nat.le_of_ble_eq_true rfl) dX2_members_1 ⟨Nat.zero_le _, Nat.zero_le _⟩ ?_
  refine lv_if_eq (tgt := 15) hx hb dX2_members_4 (by decide) (fun c_4 => ?_) (fun c_4 => ?_)
  · have c_4 := bt_B0 c_4
    refine lv_iconst (v := -1) hx hb dX2_members_15 (by decide) ?_
    exact bt_ri hx hb hr hlk (by simp [ms_members, c_4]) dX2_members_16
  · have c_4 := bt_B1 c_4
    refine lv_aload_n hx hb dX2_members_7 rfl (lv_at hl 0 rfl) ?_
    refine lv_iload_n hx hb dX2_members_8 rfl (lv_at hl 1 rfl) ?_
    refine bt_cV (As := [.int g]) (rest := []) (b := o) (ci := 1) (q0 := 0) ⟨hx, hb, hml, hown, hts⟩ (rM_memberTill l D o b1 b2 b3 b4 b5 b6 d k t h r f j q u g (bt_inG c_4)) 1 (lw_V q204 q206 qs9 q21 q207) ⟨rfl, rfl⟩ (by decide +kernel) ⟨Nat.le_of_ble_eq_true rfl, Nat.le_of_ble_eq_true rfl⟩ hK hP rfl rfl rfl hl.1 rfl (Nat.le_of_ble_eq_true rfl) dX2_members_9 ⟨Nat.zero_le _, Nat.zero_le _⟩ ?_
    refine lv_goto (tgt := 16) hx hb dX2_members_12 (by decide) ?_
    exact bt_ri hx hb hr hlk (by simp [ms_members, c_4]) dX2_members_16
set_option maxHeartbeats 4000000 in
set_option maxRecDepth 100000 in
theorem rM_till (g : Int32) (v : Int32) (hI : vp_in (17 * g + v + 1) 136) : Met l yX2_till (ws_ yX2_till cX2_till 5 (some .int)) ({ frames := 0, cells := 0, slots := 0, locals := 0 } : Room) (va_Pc [.ref o, .int g, .int v] (bt_RP D [(d, .int)] (wM o b1 b2 b3 b4 b5 b6 d k t h r f j q u))) (QcRead (ms_tl t j q g v)) 0 0 (fun _ => False) := by
  refine bt_met (by decide) (Nat.le_of_ble_eq_true rfl) ?_
  intro p e s m below meth c ls hx hb hr hlk hml hown hts hnm hl hB
  obtain ⟨hP, hK⟩ := hB
  have hown : s.vm.findClass RX2 = some m.cls := hown
  have hl : lv_has ls 5 [(0, .ref o), (1, .int g), (2, .int v)] := hl
  refine lv_bipush (v := 17) hx hb dX2_till_0 (by decide) ?_
  refine lv_iload_n hx hb dX2_till_2 rfl (lv_at hl 1 rfl) ?_
  refine lv_imul hx hb dX2_till_3 ?_
  refine lv_iload_n hx hb dX2_till_4 rfl (lv_at hl 2 rfl) ?_
  refine lv_iadd hx hb dX2_till_5 ?_
  refine lv_iconst (v := 1) hx hb dX2_till_6 (by decide) ?_
  refine lv_iadd hx hb dX2_till_7 ?_
  refine lv_istore_n (lv' := [(3, .int (((17 * g) + v) + 1)), (0, .ref o), (1, .int g), (2, .int v)]) hx hb dX2_till_8 rfl hl (by decide) rfl (fun ls hl => ?_)
  refine lv_aload_n hx hb dX2_till_9 rfl (lv_at hl 1 rfl) ?_
  refine va_get (D := D) (ci := 1) (v := .ref b4) (C := RX2) (T := TX2) (N := 8) hx hb hts in_X2 hown hK hP 0 rfl rfl 5 (by decide) (hts _ q163) (fun _ h9 => h9) rfl dX2_till_10 ?_
  refine lv_iload_n hx hb dX2_till_13 rfl (lv_at hl 0 rfl) ?_
  refine va_iald hx hb hK hP 4 0 rfl rfl hI dX2_till_14 ?_
  refine lv_iconst (v := -1) hx hb dX2_till_15 (by decide) ?_
  refine lv_icmp_ne (tgt := 21) hx hb dX2_till_16 (by decide) (fun c_16 => ?_) (fun c_16 => ?_)
  · refine lv_aload_n hx hb dX2_till_21 rfl (lv_at hl 1 rfl) ?_
    refine va_get (D := D) (ci := 1) (v := .ref b4) (C := RX2) (T := TX2) (N := 8) hx hb hts in_X2 hown hK hP 0 rfl rfl 5 (by decide) (hts _ q163) (fun _ h9 => h9) rfl dX2_till_22 ?_
    refine lv_iload_n hx hb dX2_till_25 rfl (lv_at hl 0 rfl) ?_
    refine va_iald hx hb hK hP 4 0 rfl rfl hI dX2_till_26 ?_
    refine lv_bipush (v := 70) hx hb dX2_till_27 (by decide) ?_
    refine lv_iadd hx hb dX2_till_29 ?_
    refine lv_istore (lv' := [(4, .int ((j (((17 * g) + v) + 1).toNatClampNeg) + 70)), (3, .int (((17 * g) + v) + 1)), (0, .ref o), (1, .int g), (2, .int v)]) hx hb dX2_till_30 hl (by decide) rfl (fun ls hl => ?_)
    refine bt_cut (g2 := F0 m 54 ls [.int (ms_tv j q (17 * g + v + 1).toNatClampNeg)]) ?_ (fun K => ?_)
    · refine lv_istore (lv' := [(4, .int (ms_tv j q (17 * g + v + 1).toNatClampNeg)), (3, .int (((17 * g) + v) + 1)), (0, .ref o), (1, .int g), (2, .int v)]) hx hb dX2_till_54 hl (by decide) rfl (fun ls hl => ?_)
      refine lv_aload_n hx hb dX2_till_56 rfl (lv_at hl 2 rfl) ?_
      refine va_get (D := D) (ci := 1) (v := .int t) (C := RX2) (T := TX2) (N := 8) hx hb hts in_X2 hown hK hP 0 rfl rfl 1 (by decide) (hts _ q159) (fun _ h9 => h9) rfl dX2_till_57 ?_
      refine lv_iload hx hb dX2_till_60 (lv_at hl 0 rfl) ?_
      refine lv_icmp_ge (tgt := 70) hx hb dX2_till_62 (by decide) (fun c_62 => ?_) (fun c_62 => ?_)
      · refine lv_iconst (v := 0) hx hb dX2_till_70 (by decide) ?_
        exact bt_ri hx hb hr hlk (by simp [ms_tl, c_16, c_62]) dX2_till_71
      · refine lv_iload hx hb dX2_till_65 (lv_at hl 0 rfl) ?_
        refine lv_goto (tgt := 71) hx hb dX2_till_67 (by decide) ?_
        exact bt_ri hx hb hr hlk (by simp [ms_tl, c_16, c_62]) dX2_till_71
    · refine lv_aload_n hx hb dX2_till_32 rfl (lv_at hl 2 rfl) ?_
      refine va_get (D := D) (ci := 1) (v := .ref b5) (C := RX2) (T := TX2) (N := 8) hx hb hts in_X2 hown hK hP 0 rfl rfl 6 (by decide) (hts _ q164) (fun _ h9 => h9) rfl dX2_till_33 ?_
      refine lv_iload_n hx hb dX2_till_36 rfl (lv_at hl 1 rfl) ?_
      refine va_iald hx hb hK hP 5 0 rfl rfl hI dX2_till_37 ?_
      refine lv_iload hx hb dX2_till_38 (lv_at hl 0 rfl) ?_
      refine lv_icmp_ge (tgt := 52) hx hb dX2_till_40 (by decide) (fun c_40 => ?_) (fun c_40 => ?_)
      · refine lv_iload hx hb dX2_till_52 (lv_at hl 0 rfl) ?_
        exact bt_top (y := ms_tv j q (17 * g + v + 1).toNatClampNeg) (by simp [ms_tv, c_40]) K
      · refine lv_aload_n hx hb dX2_till_43 rfl (lv_at hl 2 rfl) ?_
        refine va_get (D := D) (ci := 1) (v := .ref b5) (C := RX2) (T := TX2) (N := 8) hx hb hts in_X2 hown hK hP 0 rfl rfl 6 (by decide) (hts _ q164) (fun _ h9 => h9) rfl dX2_till_44 ?_
        refine lv_iload_n hx hb dX2_till_47 rfl (lv_at hl 1 rfl) ?_
        refine va_iald hx hb hK hP 5 0 rfl rfl hI dX2_till_48 ?_
        refine lv_goto (tgt := 54) hx hb dX2_till_49 (by decide) ?_
        exact bt_top (y := ms_tv j q (17 * g + v + 1).toNatClampNeg) (by simp [ms_tv, c_40]) K
  · refine lv_iconst (v := 0) hx hb dX2_till_19 (by decide) ?_
    exact bt_ri hx hb hr hlk (by simp [ms_tl, c_16]) dX2_till_20
end MB
end
section
section MC
variable (l : Launch) (D : va_G) (o b1 b2 b3 b4 b5 b6 : Nat) (d : ClassId) (k : Nat) (t : Int32) (h r f j q u : Nat → Int32)
set_option maxHeartbeats 4000000 in
set_option maxRecDepth 100000 in
theorem wM_join (g : Int32) (v : Int32) (z : Int32) (sz : Nat) : Met l yX2_join (ws_ yX2_join cX2_join 8 (some .boolean)) ({ frames := 2, cells := 0, slots := 0, locals := 44 } : Room) (va_Pc [.ref o, .int g, .int v, .int z] (bt_MP D [(d, .int)] (wM o b1 b2 b3 b4 b5 b6 d k t h r f j q u) sz)) (bt_Qi (bt_B (bt_tree g v)) D [(d, .int)] (wM o b1 b2 b3 b4 b5 b6 d k t h r f (ms_joinJ t j g v) (ms_joinQ q g v) (ms_joinU t h j q u g v z)) (va_A (wM o b1 b2 b3 b4 b5 b6 d k t h r f j q u) sz)) 0 0 (va_A (wM o b1 b2 b3 b4 b5 b6 d k t h r f j q u) sz) := by
  refine bt_metM (Qc := fun A => bt_Qi (bt_B (bt_tree g v)) D [(d, .int)] (wM o b1 b2 b3 b4 b5 b6 d k t h r f (ms_joinJ t j g v) (ms_joinQ q g v) (ms_joinU t h j q u g v z)) A) (by decide) (Nat.le_of_ble_eq_true rfl) ?_
  intro p e s m below meth c ls A hx hb hr hlk hml hown hts hnm hl hP hK hD hS hA
  have hown : s.vm.findClass RX2 = some m.cls := hown
  have hl : lv_has ls 8 [(0, .ref o), (1, .int g), (2, .int v), (3, .int z)] := hl
  refine lv_iload_n hx hb dX2_join_0 rfl (lv_at hl 1 rfl) ?_
  refine lv_iload_n hx hb dX2_join_1 rfl (lv_at hl 2 rfl) ?_
  refine bt_cS (As := [.int g, .int v]) (rest := []) ⟨hx, hb, hml, hown, hts⟩ (rM_isBranch l g v) 2 (lw_S q224 q225 q21 q226) ⟨rfl, rfl⟩ (by decide +kernel) ⟨Nat.le_of_ble_eq_true rfl, Nat.le_of_ble_eq_true rfl⟩ rfl hl.1 rfl (Nat.le_of_ble_eq_true rfl) dX2_join_2 ⟨Nat.zero_le _, Nat.zero_le _⟩ ?_
  refine lv_if_ne (tgt := 10) hx hb dX2_join_5 (by decide) (fun c_5 => ?_) (fun c_5 => ?_)
  · have c_5 := bt_B1 c_5
    refine bt_cut (g2 := F0 m 24 ls [.int (bt_B (ms_was t j q g v))]) ?_ (fun K => ?_)
    · refine lv_istore (lv' := [(4, .int (bt_B (ms_was t j q g v))), (0, .ref o), (1, .int g), (2, .int v), (3, .int z)]) hx hb dX2_join_24 hl (by decide) rfl (fun ls hl => ?_)
      refine lv_aload_n hx hb dX2_join_26 rfl (lv_at hl 1 rfl) ?_
      refine va_get (D := D) (ci := 1) (v := .ref b4) (C := RX2) (T := TX2) (N := 8) hx hb hts in_X2 hown hK hP 0 rfl rfl 5 (by decide) (hts _ q163) (fun _ h9 => h9) rfl dX2_join_27 ?_
      refine lv_bipush (v := 17) hx hb dX2_join_30 (by decide) ?_
      refine lv_iload_n hx hb dX2_join_32 rfl (lv_at hl 2 rfl) ?_
      refine lv_imul hx hb dX2_join_33 ?_
      refine lv_iload_n hx hb dX2_join_34 rfl (lv_at hl 3 rfl) ?_
      refine lv_iadd hx hb dX2_join_35 ?_
      refine lv_iconst (v := 1) hx hb dX2_join_36 (by decide) ?_
      refine lv_iadd hx hb dX2_join_37 ?_
      refine lv_aload_n hx hb dX2_join_38 rfl (lv_at hl 1 rfl) ?_
      refine va_get (D := D) (ci := 1) (v := .int t) (C := RX2) (T := TX2) (N := 8) hx hb hts in_X2 hown hK hP 0 rfl rfl 1 (by decide) (hts _ q159) (fun _ h9 => h9) rfl dX2_join_39 ?_
      refine va_iast hx hb hK hP hD hS 4 0 rfl rfl (bt_inTm c_5) dX2_join_42 (fun H locs hP hD hS => ?_)
      have hP : va_P D vwCl (wM o b1 b2 b3 b4 b5 b6 d k t h r f (upd j (((17 * g) + v) + 1).toNatClampNeg t) q u) H := hP
      have hD : va_D A (wM o b1 b2 b3 b4 b5 b6 d k t h r f (upd j (((17 * g) + v) + 1).toNatClampNeg t) q u) := hD
      refine lv_aload_n hx hb dX2_join_43 rfl (lv_at hl 1 rfl) ?_
      refine va_get (D := D) (ci := 1) (v := .ref b5) (C := RX2) (T := TX2) (N := 8) hx hb hts in_X2 hown hK hP 0 rfl rfl 6 (by decide) (hts _ q164) (fun _ h9 => h9) rfl dX2_join_44 ?_
      refine lv_bipush (v := 17) hx hb dX2_join_47 (by decide) ?_
      refine lv_iload_n hx hb dX2_join_49 rfl (lv_at hl 2 rfl) ?_
      refine lv_imul hx hb dX2_join_50 ?_
      refine lv_iload_n hx hb dX2_join_51 rfl (lv_at hl 3 rfl) ?_
      refine lv_iadd hx hb dX2_join_52 ?_
      refine lv_iconst (v := 1) hx hb dX2_join_53 (by decide) ?_
      refine lv_iadd hx hb dX2_join_54 ?_
      refine lv_ldc hx hb hown (hts _ q199) dX2_join_55 ?_
      refine va_iast hx hb hK hP hD hS 5 0 rfl rfl (bt_inTm c_5) dX2_join_57 (fun H locs hP hD hS => ?_)
      have hP : va_P D vwCl (wM o b1 b2 b3 b4 b5 b6 d k t h r f (upd j (((17 * g) + v) + 1).toNatClampNeg t) (upd q (((17 * g) + v) + 1).toNatClampNeg 1000000) u) H := hP
      have hD : va_D A (wM o b1 b2 b3 b4 b5 b6 d k t h r f (upd j (((17 * g) + v) + 1).toNatClampNeg t) (upd q (((17 * g) + v) + 1).toNatClampNeg 1000000) u) := hD
      refine lv_iload_n hx hb dX2_join_58 rfl (lv_at hl 3 rfl) ?_
      refine lv_iconst (v := -1) hx hb dX2_join_59 (by decide) ?_
      refine lv_icmp_eq (tgt := 65) hx hb dX2_join_60 (by decide) (fun c_60 => ?_) (fun c_60 => ?_)
      · refine lv_iconst (v := 0) hx hb dX2_join_65 (by decide) ?_
        refine lv_istore (lv' := [(5, .int 0), (4, .int (bt_B (ms_was t j q g v))), (0, .ref o), (1, .int g), (2, .int v), (3, .int z)]) hx hb dX2_join_66 hl (by decide) rfl (fun ls hl => ?_)
        refine bt_loopH 16 (fun i ls H locs => lv_has ls 8 [(0, .ref o), (1, .int g), (2, .int v), (3, .int z), (4, .int (bt_B (ms_was t j q g v))), (5, .int (nI i))] ∧ va_P D vwCl (wM o b1 b2 b3 b4 b5 b6 d k t h r f (upd j (((17 * g) + v) + 1).toNatClampNeg t) (upd q (((17 * g) + v) + 1).toNatClampNeg 1000000) (bt_jc (ms_told z) (ms_was t j q g v) (ms_ix g) (ms_fr t h) u i)) H ∧ va_D A (wM o b1 b2 b3 b4 b5 b6 d k t h r f (upd j (((17 * g) + v) + 1).toNatClampNeg t) (upd q (((17 * g) + v) + 1).toNatClampNeg 1000000) (bt_jc (ms_told z) (ms_was t j q g v) (ms_ix g) (ms_fr t h) u i)) ∧ va_S A s.heap H locs) ?_ ?_ 16 0 ls _ _ (by decide) ⟨lv_sub hl [2, 3, 4, 5, 1, 0] rfl, hP, hD, hS⟩
        · intro ls H locs hI
          obtain ⟨hl, hP, hD, hS⟩ := hI
          have hl : lv_has ls 8 [(0, .ref o), (1, .int g), (2, .int v), (3, .int z), (4, .int (bt_B (ms_was t j q g v))), (5, .int (nI 16))] := hl
          have hP : va_P D vwCl (wM o b1 b2 b3 b4 b5 b6 d k t h r f (upd j (((17 * g) + v) + 1).toNatClampNeg t) (upd q (((17 * g) + v) + 1).toNatClampNeg 1000000) (bt_jc (ms_told z) (ms_was t j q g v) (ms_ix g) (ms_fr t h) u 16)) H := hP
          have hD : va_D A (wM o b1 b2 b3 b4 b5 b6 d k t h r f (upd j (((17 * g) + v) + 1).toNatClampNeg t) (upd q (((17 * g) + v) + 1).toNatClampNeg 1000000) (bt_jc (ms_told z) (ms_was t j q g v) (ms_ix g) (ms_fr t h) u 16)) := hD
          refine lv_iload hx hb dX2_join_68 (lv_at hl 5 rfl) ?_
          refine lv_bipush (v := 16) hx hb dX2_join_70 (by decide) ?_
          refine lv_icmp_ge (tgt := 184) hx hb dX2_join_72 (by decide) (fun _ => ?_) (fun c_72 => absurd (by decide) c_72)
          refine lv_iconst (v := 1) hx hb dX2_join_184 (by decide) ?_
          have ew_j : ms_joinJ t j g v = upd j (((17 * g) + v) + 1).toNatClampNeg t := by unfold ms_joinJ; rw [if_pos c_5]
          have ew_q : ms_joinQ q g v = upd q (((17 * g) + v) + 1).toNatClampNeg 1000000 := by unfold ms_joinQ; rw [if_pos c_5]
          have ew_u : ms_joinU t h j q u g v z = bt_jc (ms_told z) (ms_was t j q g v) (ms_ix g) (ms_fr t h) u 16 := by unfold ms_joinU; rw [if_pos ⟨c_5, c_60⟩]
          exact bt_wz hx hb hr hlk hP hK hD hS (by simp [bt_B, c_5]) (by rw [ew_j, ew_q, ew_u]) dX2_join_185
        · intro i ls H locs hi hI ih
          obtain ⟨hl, hP, hD, hS⟩ := hI
          have hl : lv_has ls 8 [(0, .ref o), (1, .int g), (2, .int v), (3, .int z), (4, .int (bt_B (ms_was t j q g v))), (5, .int (nI i))] := hl
          have hP : va_P D vwCl (wM o b1 b2 b3 b4 b5 b6 d k t h r f (upd j (((17 * g) + v) + 1).toNatClampNeg t) (upd q (((17 * g) + v) + 1).toNatClampNeg 1000000) (bt_jc (ms_told z) (ms_was t j q g v) (ms_ix g) (ms_fr t h) u i)) H := hP
          have hD : va_D A (wM o b1 b2 b3 b4 b5 b6 d k t h r f (upd j (((17 * g) + v) + 1).toNatClampNeg t) (upd q (((17 * g) + v) + 1).toNatClampNeg 1000000) (bt_jc (ms_told z) (ms_was t j q g v) (ms_ix g) (ms_fr t h) u i)) := hD
          refine lv_iload hx hb dX2_join_68 (lv_at hl 5 rfl) ?_
          refine lv_bipush (v := 16) hx hb dX2_join_70 (by decide) ?_
          refine lv_icmp_ge (tgt := 184) hx hb dX2_join_72 (by decide) (fun c_72 => absurd c_72 (nI_ge hi (by decide))) (fun _ => ?_)
          refine bt_cut (g2 := F0 m 90 ls [.int (bt_B (ms_told z i))]) ?_ (fun K1 => ?_)
          · refine lv_istore (lv' := [(6, .int (bt_B (ms_told z i))), (0, .ref o), (1, .int g), (2, .int v), (3, .int z), (4, .int (bt_B (ms_was t j q g v))), (5, .int (nI i))]) hx hb dX2_join_90 hl (by decide) rfl (fun ls hl => ?_)
            refine bt_cut (g2 := F0 m 118 ls [.int (bt_B (!(ms_was t j q g v && !decide ((bt_jc (ms_told z) (ms_was t j q g v) (ms_ix g) (ms_fr t h) u i) (16 * g + nI i).toNatClampNeg = -1))))]) ?_ (fun K2 => ?_)
            · refine lv_istore (lv' := [(7, .int (bt_B (!(ms_was t j q g v && !decide ((bt_jc (ms_told z) (ms_was t j q g v) (ms_ix g) (ms_fr t h) u i) (16 * g + nI i).toNatClampNeg = -1))))), (6, .int (bt_B (ms_told z i))), (0, .ref o), (1, .int g), (2, .int v), (3, .int z), (4, .int (bt_B (ms_was t j q g v))), (5, .int (nI i))]) hx hb dX2_join_118 hl (by decide) rfl (fun ls hl => ?_)
              refine lv_iload hx hb dX2_join_120 (lv_at hl 1 rfl) ?_
              refine lv_if_ne (tgt := 141) hx hb dX2_join_122 (by decide) (fun c_122 => ?_) (fun c_122 => ?_)
              · have c_122 := bt_B1 c_122
                refine lv_iload hx hb dX2_join_141 (lv_at hl 0 rfl) ?_
                refine lv_if_eq (tgt := 178) hx hb dX2_join_143 (by decide) (fun c_143 => ?_) (fun c_143 => ?_)
                · have c_143 := bt_B0 c_143
                  refine lv_iinc (v := nI (i + 1)) (lv' := [(5, .int (nI (i + 1))), (7, .int (bt_B (!(ms_was t j q g v && !decide ((bt_jc (ms_told z) (ms_was t j q g v) (ms_ix g) (ms_fr t h) u i) (16 * g + nI i).toNatClampNeg = -1))))), (6, .int (bt_B (ms_told z i))), (0, .ref o), (1, .int g), (2, .int v), (3, .int z), (4, .int (bt_B (ms_was t j q g v)))]) hx hb dX2_join_178 hl (k := 7) rfl (nI_1 i) (by decide) rfl (fun ls hl => ?_)
                  refine lv_goto (tgt := 68) hx hb dX2_join_181 (by decide) ?_
                  have hl2 := lv_sub (l' := [(0, .ref o), (1, .int g), (2, .int v), (3, .int z), (4, .int (bt_B (ms_was t j q g v))), (5, .int (nI (i + 1)))]) hl [3, 4, 5, 6, 7, 0] rfl
                  have ew_u : bt_jc (ms_told z) (ms_was t j q g v) (ms_ix g) (ms_fr t h) u (i + 1) = bt_jc (ms_told z) (ms_was t j q g v) (ms_ix g) (ms_fr t h) u i := (bt_mjk c_143 c_122)
                  exact ih ls _ _ ⟨hl2, by rw [ew_u]; exact hP, by rw [ew_u]; exact hD, hS⟩
                · have c_143 := bt_B1 c_143
                  refine lv_aload_n hx hb dX2_join_146 rfl (lv_at hl 2 rfl) ?_
                  refine va_get (D := D) (ci := 1) (v := .ref b6) (C := RX2) (T := TX2) (N := 8) hx hb hts in_X2 hown hK hP 0 rfl rfl 7 (by decide) (hts _ q165) (fun _ h9 => h9) rfl dX2_join_147 ?_
                  refine lv_bipush (v := 16) hx hb dX2_join_150 (by decide) ?_
                  refine lv_iload_n hx hb dX2_join_152 rfl (lv_at hl 3 rfl) ?_
                  refine lv_imul hx hb dX2_join_153 ?_
                  refine lv_iload hx hb dX2_join_154 (lv_at hl 7 rfl) ?_
                  refine lv_iadd hx hb dX2_join_156 ?_
                  refine bt_cut (g2 := F0 m 177 ls [.int (ms_fr t h), .int ((16 * g) + (nI i)), .ref b6]) ?_ (fun K3 => ?_)
                  · refine va_iast hx hb hK hP hD hS 6 0 rfl rfl (bt_inCm (bt_tree_s c_5).1 hi) dX2_join_177 (fun H locs hP hD hS => ?_)
                    have hP : va_P D vwCl (wM o b1 b2 b3 b4 b5 b6 d k t h r f (upd j (((17 * g) + v) + 1).toNatClampNeg t) (upd q (((17 * g) + v) + 1).toNatClampNeg 1000000) (upd (bt_jc (ms_told z) (ms_was t j q g v) (ms_ix g) (ms_fr t h) u i) ((16 * g) + (nI i)).toNatClampNeg (ms_fr t h))) H := hP
                    have hD : va_D A (wM o b1 b2 b3 b4 b5 b6 d k t h r f (upd j (((17 * g) + v) + 1).toNatClampNeg t) (upd q (((17 * g) + v) + 1).toNatClampNeg 1000000) (upd (bt_jc (ms_told z) (ms_was t j q g v) (ms_ix g) (ms_fr t h) u i) ((16 * g) + (nI i)).toNatClampNeg (ms_fr t h))) := hD
                    refine lv_iinc (v := nI (i + 1)) (lv' := [(5, .int (nI (i + 1))), (7, .int (bt_B (!(ms_was t j q g v && !decide ((bt_jc (ms_told z) (ms_was t j q g v) (ms_ix g) (ms_fr t h) u i) (16 * g + nI i).toNatClampNeg = -1))))), (6, .int (bt_B (ms_told z i))), (0, .ref o), (1, .int g), (2, .int v), (3, .int z), (4, .int (bt_B (ms_was t j q g v)))]) hx hb dX2_join_178 hl (k := 7) rfl (nI_1 i) (by decide) rfl (fun ls hl => ?_)
                    refine lv_goto (tgt := 68) hx hb dX2_join_181 (by decide) ?_
                    have hl2 := lv_sub (l' := [(0, .ref o), (1, .int g), (2, .int v), (3, .int z), (4, .int (bt_B (ms_was t j q g v))), (5, .int (nI (i + 1)))]) hl [3, 4, 5, 6, 7, 0] rfl
                    have ew_u : bt_jc (ms_told z) (ms_was t j q g v) (ms_ix g) (ms_fr t h) u (i + 1) = upd (bt_jc (ms_told z) (ms_was t j q g v) (ms_ix g) (ms_fr t h) u i) ((16 * g) + (nI i)).toNatClampNeg (ms_fr t h) := (bt_mjn c_143 c_122)
                    exact ih ls _ _ ⟨hl2, by rw [ew_u]; exact hP, by rw [ew_u]; exact hD, hS⟩
                  · refine lv_aload_n hx hb dX2_join_157 rfl (lv_at hl 2 rfl) ?_
                    refine bt_cV (As := []) (rest := [.int ((16 * g) + (nI i)), .ref b6]) (b := o) (ci := 1) (q0 := 0) ⟨hx, hb, hml, hown, hts⟩ (rM_isCrowded l D o b1 b2 b3 b4 b5 b6 d k t h r f (upd j (((17 * g) + v) + 1).toNatClampNeg t) (upd q (((17 * g) + v) + 1).toNatClampNeg 1000000) (bt_jc (ms_told z) (ms_was t j q g v) (ms_ix g) (ms_fr t h) u i)  ) 0 (lw_V q231 q233 qs13 q21 q234) ⟨rfl, rfl⟩ (by decide +kernel) ⟨Nat.le_of_ble_eq_true rfl, Nat.le_of_ble_eq_true rfl⟩ hK hP rfl rfl rfl hl.1 rfl (Nat.le_of_ble_eq_true rfl) dX2_join_158 ⟨Nat.zero_le _, Nat.zero_le _⟩ ?_
                    refine lv_if_eq (tgt := 173) hx hb dX2_join_161 (by decide) (fun c_161 => ?_) (fun c_161 => ?_)
                    · have c_161 := bt_B0 c_161
                      refine lv_aload_n hx hb dX2_join_173 rfl (lv_at hl 2 rfl) ?_
                      refine va_get (D := D) (ci := 1) (v := .int t) (C := RX2) (T := TX2) (N := 8) hx hb hts in_X2 hown hK hP 0 rfl rfl 1 (by decide) (hts _ q159) (fun _ h9 => h9) rfl dX2_join_174 ?_
                      exact bt_top (y := ms_fr t h) (by simp [ms_fr, c_161]) K3
                    · have c_161 := bt_B1 c_161
                      refine lv_aload_n hx hb dX2_join_164 rfl (lv_at hl 2 rfl) ?_
                      refine va_get (D := D) (ci := 1) (v := .int t) (C := RX2) (T := TX2) (N := 8) hx hb hts in_X2 hown hK hP 0 rfl rfl 1 (by decide) (hts _ q159) (fun _ h9 => h9) rfl dX2_join_165 ?_
                      refine lv_iconst (v := 3) hx hb dX2_join_168 (by decide) ?_
                      refine lv_iadd hx hb dX2_join_169 ?_
                      refine lv_goto (tgt := 177) hx hb dX2_join_170 (by decide) ?_
                      exact bt_top (y := ms_fr t h) (by simp [ms_fr, c_161]) K3
              · have c_122 := bt_B0 c_122
                refine lv_aload_n hx hb dX2_join_125 rfl (lv_at hl 2 rfl) ?_
                refine va_get (D := D) (ci := 1) (v := .ref b6) (C := RX2) (T := TX2) (N := 8) hx hb hts in_X2 hown hK hP 0 rfl rfl 7 (by decide) (hts _ q165) (fun _ h9 => h9) rfl dX2_join_126 ?_
                refine lv_bipush (v := 16) hx hb dX2_join_129 (by decide) ?_
                refine lv_iload_n hx hb dX2_join_131 rfl (lv_at hl 3 rfl) ?_
                refine lv_imul hx hb dX2_join_132 ?_
                refine lv_iload hx hb dX2_join_133 (lv_at hl 7 rfl) ?_
                refine lv_iadd hx hb dX2_join_135 ?_
                refine lv_iconst (v := -1) hx hb dX2_join_136 (by decide) ?_
                refine va_iast hx hb hK hP hD hS 6 0 rfl rfl (bt_inCm (bt_tree_s c_5).1 hi) dX2_join_137 (fun H locs hP hD hS => ?_)
                have hP : va_P D vwCl (wM o b1 b2 b3 b4 b5 b6 d k t h r f (upd j (((17 * g) + v) + 1).toNatClampNeg t) (upd q (((17 * g) + v) + 1).toNatClampNeg 1000000) (upd (bt_jc (ms_told z) (ms_was t j q g v) (ms_ix g) (ms_fr t h) u i) ((16 * g) + (nI i)).toNatClampNeg (-1))) H := hP
                have hD : va_D A (wM o b1 b2 b3 b4 b5 b6 d k t h r f (upd j (((17 * g) + v) + 1).toNatClampNeg t) (upd q (((17 * g) + v) + 1).toNatClampNeg 1000000) (upd (bt_jc (ms_told z) (ms_was t j q g v) (ms_ix g) (ms_fr t h) u i) ((16 * g) + (nI i)).toNatClampNeg (-1))) := hD
                refine lv_goto (tgt := 178) hx hb dX2_join_138 (by decide) ?_
                refine lv_iinc (v := nI (i + 1)) (lv' := [(5, .int (nI (i + 1))), (7, .int (bt_B (!(ms_was t j q g v && !decide ((bt_jc (ms_told z) (ms_was t j q g v) (ms_ix g) (ms_fr t h) u i) (16 * g + nI i).toNatClampNeg = -1))))), (6, .int (bt_B (ms_told z i))), (0, .ref o), (1, .int g), (2, .int v), (3, .int z), (4, .int (bt_B (ms_was t j q g v)))]) hx hb dX2_join_178 hl (k := 7) rfl (nI_1 i) (by decide) rfl (fun ls hl => ?_)
                refine lv_goto (tgt := 68) hx hb dX2_join_181 (by decide) ?_
                have hl2 := lv_sub (l' := [(0, .ref o), (1, .int g), (2, .int v), (3, .int z), (4, .int (bt_B (ms_was t j q g v))), (5, .int (nI (i + 1)))]) hl [3, 4, 5, 6, 7, 0] rfl
                have ew_u : bt_jc (ms_told z) (ms_was t j q g v) (ms_ix g) (ms_fr t h) u (i + 1) = upd (bt_jc (ms_told z) (ms_was t j q g v) (ms_ix g) (ms_fr t h) u i) ((16 * g) + (nI i)).toNatClampNeg (-1) := bt_jc_no c_122
                exact ih ls _ _ ⟨hl2, by rw [ew_u]; exact hP, by rw [ew_u]; exact hD, hS⟩
            · refine lv_iload hx hb dX2_join_92 (lv_at hl 5 rfl) ?_
              refine lv_if_eq (tgt := 113) hx hb dX2_join_94 (by decide) (fun c_94 => ?_) (fun c_94 => ?_)
              · have c_94 := bt_B0 c_94
                refine lv_iconst (v := 1) hx hb dX2_join_113 (by decide) ?_
                refine lv_goto (tgt := 118) hx hb dX2_join_114 (by decide) ?_
                exact bt_top (y := bt_B (!(ms_was t j q g v && !decide ((bt_jc (ms_told z) (ms_was t j q g v) (ms_ix g) (ms_fr t h) u i) (16 * g + nI i).toNatClampNeg = -1)))) (bt_nw1 c_94) K2
              · have c_94 := bt_B1 c_94
                refine lv_aload_n hx hb dX2_join_97 rfl (lv_at hl 1 rfl) ?_
                refine va_get (D := D) (ci := 1) (v := .ref b6) (C := RX2) (T := TX2) (N := 8) hx hb hts in_X2 hown hK hP 0 rfl rfl 7 (by decide) (hts _ q165) (fun _ h9 => h9) rfl dX2_join_98 ?_
                refine lv_bipush (v := 16) hx hb dX2_join_101 (by decide) ?_
                refine lv_iload_n hx hb dX2_join_103 rfl (lv_at hl 2 rfl) ?_
                refine lv_imul hx hb dX2_join_104 ?_
                refine lv_iload hx hb dX2_join_105 (lv_at hl 6 rfl) ?_
                refine lv_iadd hx hb dX2_join_107 ?_
                refine va_iald hx hb hK hP 6 0 rfl rfl (bt_inCm (bt_tree_s c_5).1 hi) dX2_join_108 ?_
                refine lv_iconst (v := -1) hx hb dX2_join_109 (by decide) ?_
                refine lv_icmp_ne (tgt := 117) hx hb dX2_join_110 (by decide) (fun c_110 => ?_) (fun c_110 => ?_)
                · refine lv_iconst (v := 0) hx hb dX2_join_117 (by decide) ?_
                  exact bt_top (y := bt_B (!(ms_was t j q g v && !decide ((bt_jc (ms_told z) (ms_was t j q g v) (ms_ix g) (ms_fr t h) u i) (16 * g + nI i).toNatClampNeg = -1)))) (bt_nw3 c_94 c_110) K2
                · refine lv_iconst (v := 1) hx hb dX2_join_113 (by decide) ?_
                  refine lv_goto (tgt := 118) hx hb dX2_join_114 (by decide) ?_
                  exact bt_top (y := bt_B (!(ms_was t j q g v && !decide ((bt_jc (ms_told z) (ms_was t j q g v) (ms_ix g) (ms_fr t h) u i) (16 * g + nI i).toNatClampNeg = -1)))) (bt_nw2 c_110) K2
          · refine lv_iload_n hx hb dX2_join_75 rfl (lv_at hl 3 rfl) ?_
            refine lv_iload hx hb dX2_join_76 (lv_at hl 5 rfl) ?_
            refine lv_ishr hx hb dX2_join_78 ?_
            refine lv_iconst (v := 1) hx hb dX2_join_79 (by decide) ?_
            refine lv_iand hx hb dX2_join_80 ?_
            refine lv_iconst (v := 1) hx hb dX2_join_81 (by decide) ?_
            refine lv_icmp_ne (tgt := 89) hx hb dX2_join_82 (by decide) (fun c_82 => ?_) (fun c_82 => ?_)
            · refine lv_iconst (v := 0) hx hb dX2_join_89 (by decide) ?_
              exact bt_top (y := bt_B (ms_told z i)) (by simp [bt_B, ms_told, c_82]) K1
            · refine lv_iconst (v := 1) hx hb dX2_join_85 (by decide) ?_
              refine lv_goto (tgt := 90) hx hb dX2_join_86 (by decide) ?_
              exact bt_top (y := bt_B (ms_told z i)) (by simp [bt_B, ms_told, c_82]) K1
      · refine lv_iconst (v := 1) hx hb dX2_join_63 (by decide) ?_
        have ew_j : ms_joinJ t j g v = upd j (((17 * g) + v) + 1).toNatClampNeg t := by simp [bt_B, ms_joinJ, ms_joinQ, ms_joinU, c_5, c_60]
        have ew_q : ms_joinQ q g v = upd q (((17 * g) + v) + 1).toNatClampNeg 1000000 := by simp [bt_B, ms_joinJ, ms_joinQ, ms_joinU, c_5, c_60]
        have ew_u : ms_joinU t h j q u g v z = u := by simp [bt_B, ms_joinJ, ms_joinQ, ms_joinU, c_5, c_60]
        exact bt_wz hx hb hr hlk hP hK hD hS (by simp [bt_B, ms_joinJ, ms_joinQ, ms_joinU, c_5, c_60]) (by rw [ew_j, ew_q, ew_u]) dX2_join_64
    · refine lv_aload_n hx hb dX2_join_10 rfl (lv_at hl 0 rfl) ?_
      refine lv_iload_n hx hb dX2_join_11 rfl (lv_at hl 1 rfl) ?_
      refine lv_iload_n hx hb dX2_join_12 rfl (lv_at hl 2 rfl) ?_
      refine bt_cV (As := [.int g, .int v]) (rest := []) (b := o) (ci := 1) (q0 := 0) ⟨hx, hb, hml, hown, hts⟩ (rM_till l D o b1 b2 b3 b4 b5 b6 d k t h r f j q u g v (bt_inTm c_5)) 2 (lw_V q227 q229 qs12 q21 q230) ⟨rfl, rfl⟩ (by decide +kernel) ⟨Nat.le_of_ble_eq_true rfl, Nat.le_of_ble_eq_true rfl⟩ hK hP rfl rfl rfl hl.1 rfl (Nat.le_of_ble_eq_true rfl) dX2_join_13 ⟨Nat.zero_le _, Nat.zero_le _⟩ ?_
      refine lv_if_le (tgt := 23) hx hb dX2_join_16 (by decide) (fun c_16 => ?_) (fun c_16 => ?_)
      · refine lv_iconst (v := 0) hx hb dX2_join_23 (by decide) ?_
        exact bt_top (y := bt_B (ms_was t j q g v)) (by simp [bt_B, ms_was, c_16]) K
      · refine lv_iconst (v := 1) hx hb dX2_join_19 (by decide) ?_
        refine lv_goto (tgt := 24) hx hb dX2_join_20 (by decide) ?_
        exact bt_top (y := bt_B (ms_was t j q g v)) (by simp [bt_B, ms_was, c_16]) K
  · have c_5 := bt_B0 c_5
    refine lv_iconst (v := 0) hx hb dX2_join_8 (by decide) ?_
    have ew_j : ms_joinJ t j g v = j := by simp [bt_B, ms_joinJ, ms_joinQ, ms_joinU, c_5]
    have ew_q : ms_joinQ q g v = q := by simp [bt_B, ms_joinJ, ms_joinQ, ms_joinU, c_5]
    have ew_u : ms_joinU t h j q u g v z = u := by simp [bt_B, ms_joinJ, ms_joinQ, ms_joinU, c_5]
    exact bt_wz hx hb hr hlk hP hK hD hS (by simp [bt_B, ms_joinJ, ms_joinQ, ms_joinU, c_5]) (by rw [ew_j, ew_q, ew_u]) dX2_join_9
set_option maxHeartbeats 4000000 in
set_option maxRecDepth 100000 in
theorem wM_prune (g : Int32) (v : Int32) (sz : Nat) : Met l yX2_prune (ws_ yX2_prune cX2_prune 5 (some .boolean)) ({ frames := 2, cells := 0, slots := 0, locals := 44 } : Room) (va_Pc [.ref o, .int g, .int v] (bt_MP D [(d, .int)] (wM o b1 b2 b3 b4 b5 b6 d k t h r f j q u) sz)) (bt_Qi (bt_B (ms_pok t j q g v)) D [(d, .int)] (wM o b1 b2 b3 b4 b5 b6 d k t h r f j (ms_pruneQ t h j q g v) u) (va_A (wM o b1 b2 b3 b4 b5 b6 d k t h r f j q u) sz)) 0 0 (va_A (wM o b1 b2 b3 b4 b5 b6 d k t h r f j q u) sz) := by
  refine bt_metM (Qc := fun A => bt_Qi (bt_B (ms_pok t j q g v)) D [(d, .int)] (wM o b1 b2 b3 b4 b5 b6 d k t h r f j (ms_pruneQ t h j q g v) u) A) (by decide) (Nat.le_of_ble_eq_true rfl) ?_
  intro p e s m below meth c ls A hx hb hr hlk hml hown hts hnm hl hP hK hD hS hA
  have hown : s.vm.findClass RX2 = some m.cls := hown
  have hl : lv_has ls 5 [(0, .ref o), (1, .int g), (2, .int v)] := hl
  refine lv_iload_n hx hb dX2_prune_0 rfl (lv_at hl 1 rfl) ?_
  refine lv_iload_n hx hb dX2_prune_1 rfl (lv_at hl 2 rfl) ?_
  refine bt_cS (As := [.int g, .int v]) (rest := []) ⟨hx, hb, hml, hown, hts⟩ (rM_isBranch l g v) 2 (lw_S q224 q225 q21 q226) ⟨rfl, rfl⟩ (by decide +kernel) ⟨Nat.le_of_ble_eq_true rfl, Nat.le_of_ble_eq_true rfl⟩ rfl hl.1 rfl (Nat.le_of_ble_eq_true rfl) dX2_prune_2 ⟨Nat.zero_le _, Nat.zero_le _⟩ ?_
  refine lv_if_eq (tgt := 17) hx hb dX2_prune_5 (by decide) (fun c_5 => ?_) (fun c_5 => ?_)
  · have c_5 := bt_B0 c_5
    refine lv_iconst (v := 0) hx hb dX2_prune_17 (by decide) ?_
    have ew_q : ms_pruneQ t h j q g v = q := by simp [bt_B, ms_pok, ms_pruneQ, c_5]
    exact bt_wz hx hb hr hlk hP hK hD hS (by simp [bt_B, ms_pok, ms_pruneQ, c_5]) (by rw [ew_q]) dX2_prune_18
  · have c_5 := bt_B1 c_5
    refine lv_aload_n hx hb dX2_prune_8 rfl (lv_at hl 0 rfl) ?_
    refine lv_iload_n hx hb dX2_prune_9 rfl (lv_at hl 1 rfl) ?_
    refine lv_iload_n hx hb dX2_prune_10 rfl (lv_at hl 2 rfl) ?_
    refine bt_cV (As := [.int g, .int v]) (rest := []) (b := o) (ci := 1) (q0 := 0) ⟨hx, hb, hml, hown, hts⟩ (rM_till l D o b1 b2 b3 b4 b5 b6 d k t h r f j q u g v (bt_inTm c_5)) 2 (lw_V q227 q229 qs12 q21 q230) ⟨rfl, rfl⟩ (by decide +kernel) ⟨Nat.le_of_ble_eq_true rfl, Nat.le_of_ble_eq_true rfl⟩ hK hP rfl rfl rfl hl.1 rfl (Nat.le_of_ble_eq_true rfl) dX2_prune_11 ⟨Nat.zero_le _, Nat.zero_le _⟩ ?_
    refine lv_if_ne (tgt := 19) hx hb dX2_prune_14 (by decide) (fun c_14 => ?_) (fun c_14 => ?_)
    · refine lv_bipush (v := 17) hx hb dX2_prune_19 (by decide) ?_
      refine lv_iload_n hx hb dX2_prune_21 rfl (lv_at hl 1 rfl) ?_
      refine lv_imul hx hb dX2_prune_22 ?_
      refine lv_iload_n hx hb dX2_prune_23 rfl (lv_at hl 2 rfl) ?_
      refine lv_iadd hx hb dX2_prune_24 ?_
      refine lv_iconst (v := 1) hx hb dX2_prune_25 (by decide) ?_
      refine lv_iadd hx hb dX2_prune_26 ?_
      refine lv_istore_n (lv' := [(3, .int (((17 * g) + v) + 1)), (0, .ref o), (1, .int g), (2, .int v)]) hx hb dX2_prune_27 rfl hl (by decide) rfl (fun ls hl => ?_)
      refine bt_cut (g2 := F0 m 48 ls [.int (ms_fr t h)]) ?_ (fun K1 => ?_)
      · refine lv_istore (lv' := [(4, .int (ms_fr t h)), (3, .int (((17 * g) + v) + 1)), (0, .ref o), (1, .int g), (2, .int v)]) hx hb dX2_prune_48 hl (by decide) rfl (fun ls hl => ?_)
        refine lv_aload_n hx hb dX2_prune_50 rfl (lv_at hl 2 rfl) ?_
        refine va_get (D := D) (ci := 1) (v := .ref b5) (C := RX2) (T := TX2) (N := 8) hx hb hts in_X2 hown hK hP 0 rfl rfl 6 (by decide) (hts _ q164) (fun _ h9 => h9) rfl dX2_prune_51 ?_
        refine lv_iload_n hx hb dX2_prune_54 rfl (lv_at hl 1 rfl) ?_
        refine bt_cut (g2 := F0 m 77 ls [.int (if q (17 * g + v + 1).toNatClampNeg ≤ ms_fr t h then q (17 * g + v + 1).toNatClampNeg else ms_fr t h), .int (((17 * g) + v) + 1), .ref b5]) ?_ (fun K2 => ?_)
        · refine va_iast hx hb hK hP hD hS 5 0 rfl rfl (bt_inTm c_5) dX2_prune_77 (fun H locs hP hD hS => ?_)
          have hP : va_P D vwCl (wM o b1 b2 b3 b4 b5 b6 d k t h r f j (upd q (((17 * g) + v) + 1).toNatClampNeg (if q (17 * g + v + 1).toNatClampNeg ≤ ms_fr t h then q (17 * g + v + 1).toNatClampNeg else ms_fr t h)) u) H := hP
          have hD : va_D A (wM o b1 b2 b3 b4 b5 b6 d k t h r f j (upd q (((17 * g) + v) + 1).toNatClampNeg (if q (17 * g + v + 1).toNatClampNeg ≤ ms_fr t h then q (17 * g + v + 1).toNatClampNeg else ms_fr t h)) u) := hD
          refine lv_iconst (v := 1) hx hb dX2_prune_78 (by decide) ?_
          have ew_q : ms_pruneQ t h j q g v = upd q (((17 * g) + v) + 1).toNatClampNeg (if q (17 * g + v + 1).toNatClampNeg ≤ ms_fr t h then q (17 * g + v + 1).toNatClampNeg else ms_fr t h) := by unfold ms_pruneQ; rw [if_pos (show ms_pok t j q g v = true by simp [ms_pok, c_5, c_14])]
          exact bt_wz hx hb hr hlk hP hK hD hS (by simp [bt_B, ms_pok, c_5, c_14]) (by rw [ew_q]) dX2_prune_79
        · refine lv_iload hx hb dX2_prune_55 (lv_at hl 0 rfl) ?_
          refine lv_aload_n hx hb dX2_prune_57 rfl (lv_at hl 2 rfl) ?_
          refine va_get (D := D) (ci := 1) (v := .ref b5) (C := RX2) (T := TX2) (N := 8) hx hb hts in_X2 hown hK hP 0 rfl rfl 6 (by decide) (hts _ q164) (fun _ h9 => h9) rfl dX2_prune_58 ?_
          refine lv_iload_n hx hb dX2_prune_61 rfl (lv_at hl 1 rfl) ?_
          refine va_iald hx hb hK hP 5 0 rfl rfl (bt_inTm c_5) dX2_prune_62 ?_
          refine lv_icmp_ge (tgt := 71) hx hb dX2_prune_63 (by decide) (fun c_63 => ?_) (fun c_63 => ?_)
          · refine lv_aload_n hx hb dX2_prune_71 rfl (lv_at hl 2 rfl) ?_
            refine va_get (D := D) (ci := 1) (v := .ref b5) (C := RX2) (T := TX2) (N := 8) hx hb hts in_X2 hown hK hP 0 rfl rfl 6 (by decide) (hts _ q164) (fun _ h9 => h9) rfl dX2_prune_72 ?_
            refine lv_iload_n hx hb dX2_prune_75 rfl (lv_at hl 1 rfl) ?_
            refine va_iald hx hb hK hP 5 0 rfl rfl (bt_inTm c_5) dX2_prune_76 ?_
            exact bt_top (y := if q (17 * g + v + 1).toNatClampNeg ≤ ms_fr t h then q (17 * g + v + 1).toNatClampNeg else ms_fr t h) (by rw [if_pos c_63]) K2
          · refine lv_iload hx hb dX2_prune_66 (lv_at hl 0 rfl) ?_
            refine lv_goto (tgt := 77) hx hb dX2_prune_68 (by decide) ?_
            exact bt_top (y := if q (17 * g + v + 1).toNatClampNeg ≤ ms_fr t h then q (17 * g + v + 1).toNatClampNeg else ms_fr t h) (by rw [if_neg c_63]) K2
      · refine lv_aload_n hx hb dX2_prune_28 rfl (lv_at hl 1 rfl) ?_
        refine bt_cV (As := []) (rest := []) (b := o) (ci := 1) (q0 := 0) ⟨hx, hb, hml, hown, hts⟩ (rM_isCrowded l D o b1 b2 b3 b4 b5 b6 d k t h r f j q u  ) 0 (lw_V q231 q233 qs13 q21 q234) ⟨rfl, rfl⟩ (by decide +kernel) ⟨Nat.le_of_ble_eq_true rfl, Nat.le_of_ble_eq_true rfl⟩ hK hP rfl rfl rfl hl.1 rfl (Nat.le_of_ble_eq_true rfl) dX2_prune_29 ⟨Nat.zero_le _, Nat.zero_le _⟩ ?_
        refine lv_if_eq (tgt := 44) hx hb dX2_prune_32 (by decide) (fun c_32 => ?_) (fun c_32 => ?_)
        · have c_32 := bt_B0 c_32
          refine lv_aload_n hx hb dX2_prune_44 rfl (lv_at hl 1 rfl) ?_
          refine va_get (D := D) (ci := 1) (v := .int t) (C := RX2) (T := TX2) (N := 8) hx hb hts in_X2 hown hK hP 0 rfl rfl 1 (by decide) (hts _ q159) (fun _ h9 => h9) rfl dX2_prune_45 ?_
          exact bt_top (y := ms_fr t h) (by simp [ms_fr, c_32]) K1
        · have c_32 := bt_B1 c_32
          refine lv_aload_n hx hb dX2_prune_35 rfl (lv_at hl 1 rfl) ?_
          refine va_get (D := D) (ci := 1) (v := .int t) (C := RX2) (T := TX2) (N := 8) hx hb hts in_X2 hown hK hP 0 rfl rfl 1 (by decide) (hts _ q159) (fun _ h9 => h9) rfl dX2_prune_36 ?_
          refine lv_iconst (v := 3) hx hb dX2_prune_39 (by decide) ?_
          refine lv_iadd hx hb dX2_prune_40 ?_
          refine lv_goto (tgt := 48) hx hb dX2_prune_41 (by decide) ?_
          exact bt_top (y := ms_fr t h) (by simp [ms_fr, c_32]) K1
    · refine lv_iconst (v := 0) hx hb dX2_prune_17 (by decide) ?_
      have ew_q : ms_pruneQ t h j q g v = q := by simp [bt_B, ms_pok, ms_pruneQ, c_5, c_14]
      exact bt_wz hx hb hr hlk hP hK hD hS (by simp [bt_B, ms_pok, ms_pruneQ, c_5, c_14]) (by rw [ew_q]) dX2_prune_18
set_option maxHeartbeats 4000000 in
set_option maxRecDepth 100000 in
theorem wM_forgetAll (sz : Nat) : Met l yX2_forgetAll (ws_ yX2_forgetAll cX2_forgetAll 2 none) ({ frames := 0, cells := 0, slots := 0, locals := 0 } : Room) (va_Pc [.ref o] (bt_MP D [(d, .int)] (wM o b1 b2 b3 b4 b5 b6 d k t h r f j q u) sz)) (bt_Qv D [(d, .int)] (wM o b1 b2 b3 b4 b5 b6 d k t (bt_fill h (-1) 10) (bt_fill r (-1) 8) f (bt_fill j (-1) 136) q (bt_fill u (-1) 128)) (va_A (wM o b1 b2 b3 b4 b5 b6 d k t h r f j q u) sz)) 0 0 (va_A (wM o b1 b2 b3 b4 b5 b6 d k t h r f j q u) sz) := by
  refine bt_metM (Qc := fun A => bt_Qv D [(d, .int)] (wM o b1 b2 b3 b4 b5 b6 d k t (bt_fill h (-1) 10) (bt_fill r (-1) 8) f (bt_fill j (-1) 136) q (bt_fill u (-1) 128)) A) (by decide) (Nat.le_of_ble_eq_true rfl) ?_
  intro p e s m below meth c ls A hx hb hr hlk hml hown hts hnm hl hP hK hD hS hA
  have hown : s.vm.findClass RX2 = some m.cls := hown
  have hl : lv_has ls 2 [(0, .ref o)] := hl
  refine lv_iconst (v := 0) hx hb dX2_forgetAll_0 (by decide) ?_
  refine lv_istore_n (lv' := [(1, .int 0), (0, .ref o)]) hx hb dX2_forgetAll_1 rfl hl (by decide) rfl (fun ls hl => ?_)
  refine bt_loopH 10 (fun i ls H locs => lv_has ls 2 [(0, .ref o), (1, .int (nI i))] ∧ va_P D vwCl (wM o b1 b2 b3 b4 b5 b6 d k t (bt_fill h (-1) i) r f j q u) H ∧ va_D A (wM o b1 b2 b3 b4 b5 b6 d k t (bt_fill h (-1) i) r f j q u) ∧ va_S A s.heap H locs) ?_ ?_ 10 0 ls _ _ (by decide) ⟨lv_sub hl [1, 0] rfl, by rw [bt_fill_0]; exact hP, by rw [bt_fill_0]; exact hD, hS⟩
  · intro ls H locs hI
    obtain ⟨hl, hP, hD, hS⟩ := hI
    have hl : lv_has ls 2 [(0, .ref o), (1, .int (nI 10))] := hl
    have hP : va_P D vwCl (wM o b1 b2 b3 b4 b5 b6 d k t (bt_fill h (-1) 10) r f j q u) H := hP
    have hD : va_D A (wM o b1 b2 b3 b4 b5 b6 d k t (bt_fill h (-1) 10) r f j q u) := hD
    refine lv_iload_n hx hb dX2_forgetAll_2 rfl (lv_at hl 1 rfl) ?_
    refine lv_bipush (v := 10) hx hb dX2_forgetAll_3 (by decide) ?_
    refine lv_icmp_ge (tgt := 21) hx hb dX2_forgetAll_5 (by decide) (fun _ => ?_) (fun c_5 => absurd (by decide) c_5)
    refine lv_iconst (v := 0) hx hb dX2_forgetAll_21 (by decide) ?_
    refine lv_istore_n (lv' := [(1, .int 0), (0, .ref o)]) hx hb dX2_forgetAll_22 rfl hl (by decide) rfl (fun ls hl => ?_)
    refine bt_loopH 8 (fun i ls H locs => lv_has ls 2 [(0, .ref o), (1, .int (nI i))] ∧ va_P D vwCl (wM o b1 b2 b3 b4 b5 b6 d k t (bt_fill h (-1) 10) (bt_fill r (-1) i) f j q u) H ∧ va_D A (wM o b1 b2 b3 b4 b5 b6 d k t (bt_fill h (-1) 10) (bt_fill r (-1) i) f j q u) ∧ va_S A s.heap H locs) ?_ ?_ 8 0 ls _ _ (by decide) ⟨lv_sub hl [1, 0] rfl, by rw [bt_fill_0]; exact hP, by rw [bt_fill_0]; exact hD, hS⟩
    · intro ls H locs hI
      obtain ⟨hl, hP, hD, hS⟩ := hI
      have hl : lv_has ls 2 [(0, .ref o), (1, .int (nI 8))] := hl
      have hP : va_P D vwCl (wM o b1 b2 b3 b4 b5 b6 d k t (bt_fill h (-1) 10) (bt_fill r (-1) 8) f j q u) H := hP
      have hD : va_D A (wM o b1 b2 b3 b4 b5 b6 d k t (bt_fill h (-1) 10) (bt_fill r (-1) 8) f j q u) := hD
      refine lv_iload_n hx hb dX2_forgetAll_23 rfl (lv_at hl 1 rfl) ?_
      refine lv_bipush (v := 8) hx hb dX2_forgetAll_24 (by decide) ?_
      refine lv_icmp_ge (tgt := 42) hx hb dX2_forgetAll_26 (by decide) (fun _ => ?_) (fun c_26 => absurd (by decide) c_26)
      refine lv_iconst (v := 0) hx hb dX2_forgetAll_42 (by decide) ?_
      refine lv_istore_n (lv' := [(1, .int 0), (0, .ref o)]) hx hb dX2_forgetAll_43 rfl hl (by decide) rfl (fun ls hl => ?_)
      refine bt_loopH 136 (fun i ls H locs => lv_has ls 2 [(0, .ref o), (1, .int (nI i))] ∧ va_P D vwCl (wM o b1 b2 b3 b4 b5 b6 d k t (bt_fill h (-1) 10) (bt_fill r (-1) 8) f (bt_fill j (-1) i) q u) H ∧ va_D A (wM o b1 b2 b3 b4 b5 b6 d k t (bt_fill h (-1) 10) (bt_fill r (-1) 8) f (bt_fill j (-1) i) q u) ∧ va_S A s.heap H locs) ?_ ?_ 136 0 ls _ _ (by decide) ⟨lv_sub hl [1, 0] rfl, by rw [bt_fill_0]; exact hP, by rw [bt_fill_0]; exact hD, hS⟩
      · intro ls H locs hI
        obtain ⟨hl, hP, hD, hS⟩ := hI
        have hl : lv_has ls 2 [(0, .ref o), (1, .int (nI 136))] := hl
        have hP : va_P D vwCl (wM o b1 b2 b3 b4 b5 b6 d k t (bt_fill h (-1) 10) (bt_fill r (-1) 8) f (bt_fill j (-1) 136) q u) H := hP
        have hD : va_D A (wM o b1 b2 b3 b4 b5 b6 d k t (bt_fill h (-1) 10) (bt_fill r (-1) 8) f (bt_fill j (-1) 136) q u) := hD
        refine lv_iload_n hx hb dX2_forgetAll_44 rfl (lv_at hl 1 rfl) ?_
        refine lv_sipush (v := 136) hx hb dX2_forgetAll_45 (by decide) ?_
        refine lv_icmp_ge (tgt := 64) hx hb dX2_forgetAll_48 (by decide) (fun _ => ?_) (fun c_48 => absurd (by decide) c_48)
        refine lv_iconst (v := 0) hx hb dX2_forgetAll_64 (by decide) ?_
        refine lv_istore_n (lv' := [(1, .int 0), (0, .ref o)]) hx hb dX2_forgetAll_65 rfl hl (by decide) rfl (fun ls hl => ?_)
        refine bt_loopH 128 (fun i ls H locs => lv_has ls 2 [(0, .ref o), (1, .int (nI i))] ∧ va_P D vwCl (wM o b1 b2 b3 b4 b5 b6 d k t (bt_fill h (-1) 10) (bt_fill r (-1) 8) f (bt_fill j (-1) 136) q (bt_fill u (-1) i)) H ∧ va_D A (wM o b1 b2 b3 b4 b5 b6 d k t (bt_fill h (-1) 10) (bt_fill r (-1) 8) f (bt_fill j (-1) 136) q (bt_fill u (-1) i)) ∧ va_S A s.heap H locs) ?_ ?_ 128 0 ls _ _ (by decide) ⟨lv_sub hl [1, 0] rfl, by rw [bt_fill_0]; exact hP, by rw [bt_fill_0]; exact hD, hS⟩
        · intro ls H locs hI
          obtain ⟨hl, hP, hD, hS⟩ := hI
          have hl : lv_has ls 2 [(0, .ref o), (1, .int (nI 128))] := hl
          have hP : va_P D vwCl (wM o b1 b2 b3 b4 b5 b6 d k t (bt_fill h (-1) 10) (bt_fill r (-1) 8) f (bt_fill j (-1) 136) q (bt_fill u (-1) 128)) H := hP
          have hD : va_D A (wM o b1 b2 b3 b4 b5 b6 d k t (bt_fill h (-1) 10) (bt_fill r (-1) 8) f (bt_fill j (-1) 136) q (bt_fill u (-1) 128)) := hD
          refine lv_iload_n hx hb dX2_forgetAll_66 rfl (lv_at hl 1 rfl) ?_
          refine lv_sipush (v := 128) hx hb dX2_forgetAll_67 (by decide) ?_
          refine lv_icmp_ge (tgt := 86) hx hb dX2_forgetAll_70 (by decide) (fun _ => ?_) (fun c_70 => absurd (by decide) c_70)
          exact bt_wv hx hb hr hlk hP hK hD hS (rfl) dX2_forgetAll_86
        · intro i ls H locs hi hI ih
          obtain ⟨hl, hP, hD, hS⟩ := hI
          have hl : lv_has ls 2 [(0, .ref o), (1, .int (nI i))] := hl
          have hP : va_P D vwCl (wM o b1 b2 b3 b4 b5 b6 d k t (bt_fill h (-1) 10) (bt_fill r (-1) 8) f (bt_fill j (-1) 136) q (bt_fill u (-1) i)) H := hP
          have hD : va_D A (wM o b1 b2 b3 b4 b5 b6 d k t (bt_fill h (-1) 10) (bt_fill r (-1) 8) f (bt_fill j (-1) 136) q (bt_fill u (-1) i)) := hD
          refine lv_iload_n hx hb dX2_forgetAll_66 rfl (lv_at hl 1 rfl) ?_
          refine lv_sipush (v := 128) hx hb dX2_forgetAll_67 (by decide) ?_
          refine lv_icmp_ge (tgt := 86) hx hb dX2_forgetAll_70 (by decide) (fun c_70 => absurd c_70 (nI_ge hi (by decide))) (fun _ => ?_)
          refine lv_aload_n hx hb dX2_forgetAll_73 rfl (lv_at hl 0 rfl) ?_
          refine va_get (D := D) (ci := 1) (v := .ref b6) (C := RX2) (T := TX2) (N := 8) hx hb hts in_X2 hown hK hP 0 rfl rfl 7 (by decide) (hts _ q165) (fun _ h9 => h9) rfl dX2_forgetAll_74 ?_
          refine lv_iload_n hx hb dX2_forgetAll_77 rfl (lv_at hl 1 rfl) ?_
          refine lv_iconst (v := -1) hx hb dX2_forgetAll_78 (by decide) ?_
          refine bt_ist hx hb hK hP hD hS 6 0 rfl rfl hi (by decide) dX2_forgetAll_79 (fun H locs hP hD hS => ?_)
          have hP : va_P D vwCl (wM o b1 b2 b3 b4 b5 b6 d k t (bt_fill h (-1) 10) (bt_fill r (-1) 8) f (bt_fill j (-1) 136) q (upd (bt_fill u (-1) i) i (-1))) H := hP
          have hD : va_D A (wM o b1 b2 b3 b4 b5 b6 d k t (bt_fill h (-1) 10) (bt_fill r (-1) 8) f (bt_fill j (-1) 136) q (upd (bt_fill u (-1) i) i (-1))) := hD
          refine lv_iinc (v := nI (i + 1)) (lv' := [(1, .int (nI (i + 1))), (0, .ref o)]) hx hb dX2_forgetAll_80 hl (k := 1) rfl (nI_1 i) (by decide) rfl (fun ls hl => ?_)
          refine lv_goto (tgt := 66) hx hb dX2_forgetAll_83 (by decide) ?_
          have hl2 := lv_sub (l' := [(0, .ref o), (1, .int (nI (i + 1)))]) hl [1, 0] rfl
          have ew_u : bt_fill u (-1) (i + 1) = upd (bt_fill u (-1) i) i (-1) := (bt_fill_s _ _ _).symm
          exact ih ls _ _ ⟨hl2, by rw [ew_u]; exact hP, by rw [ew_u]; exact hD, hS⟩
      · intro i ls H locs hi hI ih
        obtain ⟨hl, hP, hD, hS⟩ := hI
        have hl : lv_has ls 2 [(0, .ref o), (1, .int (nI i))] := hl
        have hP : va_P D vwCl (wM o b1 b2 b3 b4 b5 b6 d k t (bt_fill h (-1) 10) (bt_fill r (-1) 8) f (bt_fill j (-1) i) q u) H := hP
        have hD : va_D A (wM o b1 b2 b3 b4 b5 b6 d k t (bt_fill h (-1) 10) (bt_fill r (-1) 8) f (bt_fill j (-1) i) q u) := hD
        refine lv_iload_n hx hb dX2_forgetAll_44 rfl (lv_at hl 1 rfl) ?_
        refine lv_sipush (v := 136) hx hb dX2_forgetAll_45 (by decide) ?_
        refine lv_icmp_ge (tgt := 64) hx hb dX2_forgetAll_48 (by decide) (fun c_48 => absurd c_48 (nI_ge hi (by decide))) (fun _ => ?_)
        refine lv_aload_n hx hb dX2_forgetAll_51 rfl (lv_at hl 0 rfl) ?_
        refine va_get (D := D) (ci := 1) (v := .ref b4) (C := RX2) (T := TX2) (N := 8) hx hb hts in_X2 hown hK hP 0 rfl rfl 5 (by decide) (hts _ q163) (fun _ h9 => h9) rfl dX2_forgetAll_52 ?_
        refine lv_iload_n hx hb dX2_forgetAll_55 rfl (lv_at hl 1 rfl) ?_
        refine lv_iconst (v := -1) hx hb dX2_forgetAll_56 (by decide) ?_
        refine bt_ist hx hb hK hP hD hS 4 0 rfl rfl hi (by decide) dX2_forgetAll_57 (fun H locs hP hD hS => ?_)
        have hP : va_P D vwCl (wM o b1 b2 b3 b4 b5 b6 d k t (bt_fill h (-1) 10) (bt_fill r (-1) 8) f (upd (bt_fill j (-1) i) i (-1)) q u) H := hP
        have hD : va_D A (wM o b1 b2 b3 b4 b5 b6 d k t (bt_fill h (-1) 10) (bt_fill r (-1) 8) f (upd (bt_fill j (-1) i) i (-1)) q u) := hD
        refine lv_iinc (v := nI (i + 1)) (lv' := [(1, .int (nI (i + 1))), (0, .ref o)]) hx hb dX2_forgetAll_58 hl (k := 1) rfl (nI_1 i) (by decide) rfl (fun ls hl => ?_)
        refine lv_goto (tgt := 44) hx hb dX2_forgetAll_61 (by decide) ?_
        have hl2 := lv_sub (l' := [(0, .ref o), (1, .int (nI (i + 1)))]) hl [1, 0] rfl
        have ew_j : bt_fill j (-1) (i + 1) = upd (bt_fill j (-1) i) i (-1) := (bt_fill_s _ _ _).symm
        exact ih ls _ _ ⟨hl2, by rw [ew_j]; exact hP, by rw [ew_j]; exact hD, hS⟩
    · intro i ls H locs hi hI ih
      obtain ⟨hl, hP, hD, hS⟩ := hI
      have hl : lv_has ls 2 [(0, .ref o), (1, .int (nI i))] := hl
      have hP : va_P D vwCl (wM o b1 b2 b3 b4 b5 b6 d k t (bt_fill h (-1) 10) (bt_fill r (-1) i) f j q u) H := hP
      have hD : va_D A (wM o b1 b2 b3 b4 b5 b6 d k t (bt_fill h (-1) 10) (bt_fill r (-1) i) f j q u) := hD
      refine lv_iload_n hx hb dX2_forgetAll_23 rfl (lv_at hl 1 rfl) ?_
      refine lv_bipush (v := 8) hx hb dX2_forgetAll_24 (by decide) ?_
      refine lv_icmp_ge (tgt := 42) hx hb dX2_forgetAll_26 (by decide) (fun c_26 => absurd c_26 (nI_ge hi (by decide))) (fun _ => ?_)
      refine lv_aload_n hx hb dX2_forgetAll_29 rfl (lv_at hl 0 rfl) ?_
      refine va_get (D := D) (ci := 1) (v := .ref b2) (C := RX2) (T := TX2) (N := 8) hx hb hts in_X2 hown hK hP 0 rfl rfl 3 (by decide) (hts _ q161) (fun _ h9 => h9) rfl dX2_forgetAll_30 ?_
      refine lv_iload_n hx hb dX2_forgetAll_33 rfl (lv_at hl 1 rfl) ?_
      refine lv_iconst (v := -1) hx hb dX2_forgetAll_34 (by decide) ?_
      refine bt_ist hx hb hK hP hD hS 2 0 rfl rfl hi (by decide) dX2_forgetAll_35 (fun H locs hP hD hS => ?_)
      have hP : va_P D vwCl (wM o b1 b2 b3 b4 b5 b6 d k t (bt_fill h (-1) 10) (upd (bt_fill r (-1) i) i (-1)) f j q u) H := hP
      have hD : va_D A (wM o b1 b2 b3 b4 b5 b6 d k t (bt_fill h (-1) 10) (upd (bt_fill r (-1) i) i (-1)) f j q u) := hD
      refine lv_iinc (v := nI (i + 1)) (lv' := [(1, .int (nI (i + 1))), (0, .ref o)]) hx hb dX2_forgetAll_36 hl (k := 1) rfl (nI_1 i) (by decide) rfl (fun ls hl => ?_)
      refine lv_goto (tgt := 23) hx hb dX2_forgetAll_39 (by decide) ?_
      have hl2 := lv_sub (l' := [(0, .ref o), (1, .int (nI (i + 1)))]) hl [1, 0] rfl
      have ew_r : bt_fill r (-1) (i + 1) = upd (bt_fill r (-1) i) i (-1) := (bt_fill_s _ _ _).symm
      exact ih ls _ _ ⟨hl2, by rw [ew_r]; exact hP, by rw [ew_r]; exact hD, hS⟩
  · intro i ls H locs hi hI ih
    obtain ⟨hl, hP, hD, hS⟩ := hI
    have hl : lv_has ls 2 [(0, .ref o), (1, .int (nI i))] := hl
    have hP : va_P D vwCl (wM o b1 b2 b3 b4 b5 b6 d k t (bt_fill h (-1) i) r f j q u) H := hP
    have hD : va_D A (wM o b1 b2 b3 b4 b5 b6 d k t (bt_fill h (-1) i) r f j q u) := hD
    refine lv_iload_n hx hb dX2_forgetAll_2 rfl (lv_at hl 1 rfl) ?_
    refine lv_bipush (v := 10) hx hb dX2_forgetAll_3 (by decide) ?_
    refine lv_icmp_ge (tgt := 21) hx hb dX2_forgetAll_5 (by decide) (fun c_5 => absurd c_5 (nI_ge hi (by decide))) (fun _ => ?_)
    refine lv_aload_n hx hb dX2_forgetAll_8 rfl (lv_at hl 0 rfl) ?_
    refine va_get (D := D) (ci := 1) (v := .ref b1) (C := RX2) (T := TX2) (N := 8) hx hb hts in_X2 hown hK hP 0 rfl rfl 2 (by decide) (hts _ q160) (fun _ h9 => h9) rfl dX2_forgetAll_9 ?_
    refine lv_iload_n hx hb dX2_forgetAll_12 rfl (lv_at hl 1 rfl) ?_
    refine lv_iconst (v := -1) hx hb dX2_forgetAll_13 (by decide) ?_
    refine bt_ist hx hb hK hP hD hS 1 0 rfl rfl hi (by decide) dX2_forgetAll_14 (fun H locs hP hD hS => ?_)
    have hP : va_P D vwCl (wM o b1 b2 b3 b4 b5 b6 d k t (upd (bt_fill h (-1) i) i (-1)) r f j q u) H := hP
    have hD : va_D A (wM o b1 b2 b3 b4 b5 b6 d k t (upd (bt_fill h (-1) i) i (-1)) r f j q u) := hD
    refine lv_iinc (v := nI (i + 1)) (lv' := [(1, .int (nI (i + 1))), (0, .ref o)]) hx hb dX2_forgetAll_15 hl (k := 1) rfl (nI_1 i) (by decide) rfl (fun ls hl => ?_)
    refine lv_goto (tgt := 2) hx hb dX2_forgetAll_18 (by decide) ?_
    have hl2 := lv_sub (l' := [(0, .ref o), (1, .int (nI (i + 1)))]) hl [1, 0] rfl
    have ew_h : bt_fill h (-1) (i + 1) = upd (bt_fill h (-1) i) i (-1) := (bt_fill_s _ _ _).symm
    exact ih ls _ _ ⟨hl2, by rw [ew_h]; exact hP, by rw [ew_h]; exact hD, hS⟩
set_option maxHeartbeats 4000000 in
set_option maxRecDepth 100000 in
theorem wM_forget (sz : Nat) : Met l yX2_forget (ws_ yX2_forget cX2_forget 1 none) ({ frames := 1, cells := 0, slots := 0, locals := 21 } : Room) (va_Pc [.ref o] (bt_MP D [(d, .int)] (wM o b1 b2 b3 b4 b5 b6 d k t h r f j q u) sz)) (bt_Qv D [(d, .int)] (wM o b1 b2 b3 b4 b5 b6 d k t (bt_fill h (-1) 10) (bt_fill r (-1) 8) f (bt_fill j (-1) 136) q (bt_fill u (-1) 128)) (va_A (wM o b1 b2 b3 b4 b5 b6 d k t h r f j q u) sz)) 0 0 (va_A (wM o b1 b2 b3 b4 b5 b6 d k t h r f j q u) sz) := by
  refine bt_metM (Qc := fun A => bt_Qv D [(d, .int)] (wM o b1 b2 b3 b4 b5 b6 d k t (bt_fill h (-1) 10) (bt_fill r (-1) 8) f (bt_fill j (-1) 136) q (bt_fill u (-1) 128)) A) (by decide) (Nat.le_of_ble_eq_true rfl) ?_
  intro p e s m below meth c ls A hx hb hr hlk hml hown hts hnm hl hP hK hD hS hA
  have hown : s.vm.findClass RX2 = some m.cls := hown
  have hl : lv_has ls 1 [(0, .ref o)] := hl
  refine lv_aload_n hx hb dX2_forget_0 rfl (lv_at hl 0 rfl) ?_
  refine bt_cWv (As := []) (rest := []) (b := o) (ci := 1) (q0 := 0) (wr := []) ⟨hx, hb, hml, hown, hts⟩ (wM_forgetAll l D o b1 b2 b3 b4 b5 b6 d k t h r f j q u  s.heap.size ) 0 (lw_V q154 q156 qs8 q21 q157) ⟨rfl, rfl⟩ (by decide +kernel) ⟨Nat.le_of_ble_eq_true rfl, Nat.le_of_ble_eq_true rfl⟩ hK hP hD hS hA [0, 1, 2, 3, 4, 5, 6] [] rfl rfl (by decide) (by decide) (by decide) rfl rfl rfl hl.1 rfl (Nat.le_of_ble_eq_true rfl) dX2_forget_1 ⟨Nat.zero_le _, Nat.zero_le _⟩ (fun H locs hP hD hS => ?_)
  have hP : va_P D vwCl (wM o b1 b2 b3 b4 b5 b6 d k t (bt_fill h (-1) 10) (bt_fill r (-1) 8) f (bt_fill j (-1) 136) q (bt_fill u (-1) 128)) H := hP
  have hD : va_D A (wM o b1 b2 b3 b4 b5 b6 d k t (bt_fill h (-1) 10) (bt_fill r (-1) 8) f (bt_fill j (-1) 136) q (bt_fill u (-1) 128)) := hD
  exact bt_wv hx hb hr hlk hP hK hD hS (rfl) dX2_forget_4
end MC
end
section
section MD
variable (l : Launch) (D : va_G) (o b1 b2 b3 b4 b5 b6 : Nat) (d : ClassId) (k : Nat) (t : Int32) (h r f j q u : Nat → Int32)
set_option maxHeartbeats 4000000 in
set_option maxRecDepth 100000 in
theorem rM_joined (g : Int32) (v : Int32) : Met l yX2_joined (ws_ yX2_joined cX2_joined 3 (some .int)) ({ frames := 2, cells := 0, slots := 0, locals := 41 } : Room) (va_Pc [.ref o, .int g, .int v] (bt_RP D [(d, .int)] (wM o b1 b2 b3 b4 b5 b6 d k t h r f j q u))) (QcRead (ms_joined t j q g v)) 0 0 (fun _ => False) := by
  refine bt_met (by decide) (Nat.le_of_ble_eq_true rfl) ?_
  intro p e s m below meth c ls hx hb hr hlk hml hown hts hnm hl hB
  obtain ⟨hP, hK⟩ := hB
  have hown : s.vm.findClass RX2 = some m.cls := hown
  have hl : lv_has ls 3 [(0, .ref o), (1, .int g), (2, .int v)] := hl
  refine lv_iload_n hx hb dX2_joined_0 rfl (lv_at hl 1 rfl) ?_
  refine lv_iload_n hx hb dX2_joined_1 rfl (lv_at hl 2 rfl) ?_
  refine bt_cS (As := [.int g, .int v]) (rest := []) ⟨hx, hb, hml, hown, hts⟩ (rM_isBranch l g v) 2 (lw_S q224 q225 q21 q226) ⟨rfl, rfl⟩ (by decide +kernel) ⟨Nat.le_of_ble_eq_true rfl, Nat.le_of_ble_eq_true rfl⟩ rfl hl.1 rfl (Nat.le_of_ble_eq_true rfl) dX2_joined_2 ⟨Nat.zero_le _, Nat.zero_le _⟩ ?_
  refine lv_if_eq (tgt := 17) hx hb dX2_joined_5 (by decide) (fun c_5 => ?_) (fun c_5 => ?_)
  · have c_5 := bt_B0 c_5
    refine lv_iconst (v := -1) hx hb dX2_joined_17 (by decide) ?_
    exact bt_ri hx hb hr hlk (by simp [ms_joined, c_5]) dX2_joined_18
  · have c_5 := bt_B1 c_5
    refine lv_aload_n hx hb dX2_joined_8 rfl (lv_at hl 0 rfl) ?_
    refine lv_iload_n hx hb dX2_joined_9 rfl (lv_at hl 1 rfl) ?_
    refine lv_iload_n hx hb dX2_joined_10 rfl (lv_at hl 2 rfl) ?_
    refine bt_cV (As := [.int g, .int v]) (rest := []) (b := o) (ci := 1) (q0 := 0) ⟨hx, hb, hml, hown, hts⟩ (rM_till l D o b1 b2 b3 b4 b5 b6 d k t h r f j q u g v (bt_inTm c_5)) 2 (lw_V q227 q229 qs12 q21 q230) ⟨rfl, rfl⟩ (by decide +kernel) ⟨Nat.le_of_ble_eq_true rfl, Nat.le_of_ble_eq_true rfl⟩ hK hP rfl rfl rfl hl.1 rfl (Nat.le_of_ble_eq_true rfl) dX2_joined_11 ⟨Nat.zero_le _, Nat.zero_le _⟩ ?_
    refine lv_goto (tgt := 18) hx hb dX2_joined_14 (by decide) ?_
    exact bt_ri hx hb hr hlk (by simp [ms_joined, c_5]) dX2_joined_18
set_option maxHeartbeats 4000000 in
set_option maxRecDepth 100000 in
theorem rM_cut (g : Int32) (v : Int32) : Met l yX2_cut (ws_ yX2_cut cX2_cut 3 (some .int)) ({ frames := 2, cells := 0, slots := 0, locals := 41 } : Room) (va_Pc [.ref o, .int g, .int v] (bt_RP D [(d, .int)] (wM o b1 b2 b3 b4 b5 b6 d k t h r f j q u))) (QcRead (ms_cut t j q u g v)) 0 0 (fun _ => False) := by
  refine bt_met (by decide) (Nat.le_of_ble_eq_true rfl) ?_
  intro p e s m below meth c ls hx hb hr hlk hml hown hts hnm hl hB
  obtain ⟨hP, hK⟩ := hB
  have hown : s.vm.findClass RX2 = some m.cls := hown
  have hl : lv_has ls 3 [(0, .ref o), (1, .int g), (2, .int v)] := hl
  refine lv_iload_n hx hb dX2_cut_0 rfl (lv_at hl 1 rfl) ?_
  refine lv_iload_n hx hb dX2_cut_1 rfl (lv_at hl 2 rfl) ?_
  refine bt_cS (As := [.int g, .int v]) (rest := []) ⟨hx, hb, hml, hown, hts⟩ (rM_isBranch l g v) 2 (lw_S q224 q225 q21 q226) ⟨rfl, rfl⟩ (by decide +kernel) ⟨Nat.le_of_ble_eq_true rfl, Nat.le_of_ble_eq_true rfl⟩ rfl hl.1 rfl (Nat.le_of_ble_eq_true rfl) dX2_cut_2 ⟨Nat.zero_le _, Nat.zero_le _⟩ ?_
  refine lv_if_eq (tgt := 13) hx hb dX2_cut_5 (by decide) (fun c_5 => ?_) (fun c_5 => ?_)
  · have c_5 := bt_B0 c_5
    refine lv_iconst (v := -1) hx hb dX2_cut_13 (by decide) ?_
    exact bt_ri hx hb hr hlk (by simp [ms_cut, c_5]) dX2_cut_14
  · have c_5 := bt_B1 c_5
    refine lv_iload_n hx hb dX2_cut_8 rfl (lv_at hl 2 rfl) ?_
    refine lv_iconst (v := -1) hx hb dX2_cut_9 (by decide) ?_
    refine lv_icmp_ne (tgt := 15) hx hb dX2_cut_10 (by decide) (fun c_10 => ?_) (fun c_10 => ?_)
    · refine lv_aload_n hx hb dX2_cut_15 rfl (lv_at hl 0 rfl) ?_
      refine lv_iload_n hx hb dX2_cut_16 rfl (lv_at hl 1 rfl) ?_
      refine lv_iconst (v := -1) hx hb dX2_cut_17 (by decide) ?_
      refine bt_cV (As := [.int g, .int (-1)]) (rest := []) (b := o) (ci := 1) (q0 := 0) ⟨hx, hb, hml, hown, hts⟩ (rM_till l D o b1 b2 b3 b4 b5 b6 d k t h r f j q u g (-1) (bt_inTm (bt_tree0 (bt_tree_s c_5).1))) 2 (lw_V q227 q229 qs12 q21 q230) ⟨rfl, rfl⟩ (by decide +kernel) ⟨Nat.le_of_ble_eq_true rfl, Nat.le_of_ble_eq_true rfl⟩ hK hP rfl rfl rfl hl.1 rfl (Nat.le_of_ble_eq_true rfl) dX2_cut_18 ⟨Nat.zero_le _, Nat.zero_le _⟩ ?_
      refine lv_if_eq (tgt := 39) hx hb dX2_cut_21 (by decide) (fun c_21 => ?_) (fun c_21 => ?_)
      · refine lv_iconst (v := 0) hx hb dX2_cut_39 (by decide) ?_
        refine lv_goto (tgt := 54) hx hb dX2_cut_40 (by decide) ?_
        exact bt_ri hx hb hr hlk (by simp [ms_cut, c_5, c_10, c_21]) dX2_cut_54
      · refine lv_aload_n hx hb dX2_cut_24 rfl (lv_at hl 0 rfl) ?_
        refine va_get (D := D) (ci := 1) (v := .ref b6) (C := RX2) (T := TX2) (N := 8) hx hb hts in_X2 hown hK hP 0 rfl rfl 7 (by decide) (hts _ q165) (fun _ h9 => h9) rfl dX2_cut_25 ?_
        refine lv_bipush (v := 16) hx hb dX2_cut_28 (by decide) ?_
        refine lv_iload_n hx hb dX2_cut_30 rfl (lv_at hl 1 rfl) ?_
        refine lv_imul hx hb dX2_cut_31 ?_
        refine lv_iload_n hx hb dX2_cut_32 rfl (lv_at hl 2 rfl) ?_
        refine lv_iadd hx hb dX2_cut_33 ?_
        refine va_iald hx hb hK hP 6 0 rfl rfl (bt_inCsm c_5 c_10) dX2_cut_34 ?_
        refine lv_iconst (v := -1) hx hb dX2_cut_35 (by decide) ?_
        refine lv_icmp_ne (tgt := 43) hx hb dX2_cut_36 (by decide) (fun c_36 => ?_) (fun c_36 => ?_)
        · refine lv_aload_n hx hb dX2_cut_43 rfl (lv_at hl 0 rfl) ?_
          refine va_get (D := D) (ci := 1) (v := .ref b6) (C := RX2) (T := TX2) (N := 8) hx hb hts in_X2 hown hK hP 0 rfl rfl 7 (by decide) (hts _ q165) (fun _ h9 => h9) rfl dX2_cut_44 ?_
          refine lv_bipush (v := 16) hx hb dX2_cut_47 (by decide) ?_
          refine lv_iload_n hx hb dX2_cut_49 rfl (lv_at hl 1 rfl) ?_
          refine lv_imul hx hb dX2_cut_50 ?_
          refine lv_iload_n hx hb dX2_cut_51 rfl (lv_at hl 2 rfl) ?_
          refine lv_iadd hx hb dX2_cut_52 ?_
          refine va_iald hx hb hK hP 6 0 rfl rfl (bt_inCsm c_5 c_10) dX2_cut_53 ?_
          exact bt_ri hx hb hr hlk (by simp [ms_cut, c_5, c_10, c_21, c_36]) dX2_cut_54
        · refine lv_iconst (v := 0) hx hb dX2_cut_39 (by decide) ?_
          refine lv_goto (tgt := 54) hx hb dX2_cut_40 (by decide) ?_
          exact bt_ri hx hb hr hlk (by simp [ms_cut, c_5, c_10, c_21, c_36]) dX2_cut_54
    · refine lv_iconst (v := -1) hx hb dX2_cut_13 (by decide) ?_
      exact bt_ri hx hb hr hlk (by simp [ms_cut, c_5, c_10]) dX2_cut_14
set_option maxHeartbeats 4000000 in
set_option maxRecDepth 100000 in
theorem rM_isCutOff (g : Int32) (v : Int32) (hC : vp_in (16 * g + v) 128) : Met l yX2_isCutOff (ws_ yX2_isCutOff cX2_isCutOff 3 (some .boolean)) ({ frames := 0, cells := 0, slots := 0, locals := 0 } : Room) (va_Pc [.ref o, .int g, .int v] (bt_RP D [(d, .int)] (wM o b1 b2 b3 b4 b5 b6 d k t h r f j q u))) (QcRead (bt_B (ms_co t u g v))) 0 0 (fun _ => False) := by
  refine bt_met (by decide) (Nat.le_of_ble_eq_true rfl) ?_
  intro p e s m below meth c ls hx hb hr hlk hml hown hts hnm hl hB
  obtain ⟨hP, hK⟩ := hB
  have hown : s.vm.findClass RX2 = some m.cls := hown
  have hl : lv_has ls 3 [(0, .ref o), (1, .int g), (2, .int v)] := hl
  refine lv_aload_n hx hb dX2_isCutOff_0 rfl (lv_at hl 0 rfl) ?_
  refine va_get (D := D) (ci := 1) (v := .ref b6) (C := RX2) (T := TX2) (N := 8) hx hb hts in_X2 hown hK hP 0 rfl rfl 7 (by decide) (hts _ q165) (fun _ h9 => h9) rfl dX2_isCutOff_1 ?_
  refine lv_bipush (v := 16) hx hb dX2_isCutOff_4 (by decide) ?_
  refine lv_iload_n hx hb dX2_isCutOff_6 rfl (lv_at hl 1 rfl) ?_
  refine lv_imul hx hb dX2_isCutOff_7 ?_
  refine lv_iload_n hx hb dX2_isCutOff_8 rfl (lv_at hl 2 rfl) ?_
  refine lv_iadd hx hb dX2_isCutOff_9 ?_
  refine va_iald hx hb hK hP 6 0 rfl rfl hC dX2_isCutOff_10 ?_
  refine lv_iconst (v := -1) hx hb dX2_isCutOff_11 (by decide) ?_
  refine lv_icmp_eq (tgt := 37) hx hb dX2_isCutOff_12 (by decide) (fun c_12 => ?_) (fun c_12 => ?_)
  · refine lv_iconst (v := 0) hx hb dX2_isCutOff_37 (by decide) ?_
    exact bt_rz hx hb hr hlk (by simp [bt_B, ms_co, c_12]) dX2_isCutOff_38
  · refine lv_aload_n hx hb dX2_isCutOff_15 rfl (lv_at hl 0 rfl) ?_
    refine va_get (D := D) (ci := 1) (v := .int t) (C := RX2) (T := TX2) (N := 8) hx hb hts in_X2 hown hK hP 0 rfl rfl 1 (by decide) (hts _ q159) (fun _ h9 => h9) rfl dX2_isCutOff_16 ?_
    refine lv_aload_n hx hb dX2_isCutOff_19 rfl (lv_at hl 0 rfl) ?_
    refine va_get (D := D) (ci := 1) (v := .ref b6) (C := RX2) (T := TX2) (N := 8) hx hb hts in_X2 hown hK hP 0 rfl rfl 7 (by decide) (hts _ q165) (fun _ h9 => h9) rfl dX2_isCutOff_20 ?_
    refine lv_bipush (v := 16) hx hb dX2_isCutOff_23 (by decide) ?_
    refine lv_iload_n hx hb dX2_isCutOff_25 rfl (lv_at hl 1 rfl) ?_
    refine lv_imul hx hb dX2_isCutOff_26 ?_
    refine lv_iload_n hx hb dX2_isCutOff_27 rfl (lv_at hl 2 rfl) ?_
    refine lv_iadd hx hb dX2_isCutOff_28 ?_
    refine va_iald hx hb hK hP 6 0 rfl rfl hC dX2_isCutOff_29 ?_
    refine lv_icmp_lt (tgt := 37) hx hb dX2_isCutOff_30 (by decide) (fun c_30 => ?_) (fun c_30 => ?_)
    · refine lv_iconst (v := 0) hx hb dX2_isCutOff_37 (by decide) ?_
      exact bt_rz hx hb hr hlk (by simp [bt_B, ms_co, c_12, c_30]) dX2_isCutOff_38
    · refine lv_iconst (v := 1) hx hb dX2_isCutOff_33 (by decide) ?_
      refine lv_goto (tgt := 38) hx hb dX2_isCutOff_34 (by decide) ?_
      exact bt_rz hx hb hr hlk (by simp [bt_B, ms_co, c_12, c_30]) dX2_isCutOff_38
set_option maxHeartbeats 4000000 in
set_option maxRecDepth 100000 in
theorem rM_goes (g : Int32) : Met l yX2_goes (ws_ yX2_goes cX2_goes 6 (some .int)) ({ frames := 2, cells := 0, slots := 0, locals := 42 } : Room) (va_Pc [.ref o, .int g] (bt_RP D [(d, .int)] (wM o b1 b2 b3 b4 b5 b6 d k t h r f j q u))) (QcRead (ms_goes k t h r f j q u g)) 0 0 (fun _ => False) := by
  refine bt_met (by decide) (Nat.le_of_ble_eq_true rfl) ?_
  intro p e s m below meth c ls hx hb hr hlk hml hown hts hnm hl hB
  obtain ⟨hP, hK⟩ := hB
  have hown : s.vm.findClass RX2 = some m.cls := hown
  have hl : lv_has ls 6 [(0, .ref o), (1, .int g)] := hl
  refine lv_iload_n hx hb dX2_goes_0 rfl (lv_at hl 1 rfl) ?_
  refine bt_cS (As := [.int g]) (rest := []) ⟨hx, hb, hml, hown, hts⟩ (rM_isGroup l g) 1 (lw_S q196 q197 q21 q198) ⟨rfl, rfl⟩ (by decide +kernel) ⟨Nat.le_of_ble_eq_true rfl, Nat.le_of_ble_eq_true rfl⟩ rfl hl.1 rfl (Nat.le_of_ble_eq_true rfl) dX2_goes_1 ⟨Nat.zero_le _, Nat.zero_le _⟩ ?_
  refine lv_if_ne (tgt := 9) hx hb dX2_goes_4 (by decide) (fun c_4 => ?_) (fun c_4 => ?_)
  · have c_4 := bt_B1 c_4
    refine bt_cut (g2 := F0 m 29 ls [.int (bt_B (ms_own k t h r f g))]) ?_ (fun K => ?_)
    · refine lv_istore_n (lv' := [(2, .int (bt_B (ms_own k t h r f g))), (0, .ref o), (1, .int g)]) hx hb dX2_goes_29 rfl hl (by decide) rfl (fun ls hl => ?_)
      refine lv_iconst (v := 0) hx hb dX2_goes_30 (by decide) ?_
      refine lv_istore_n (lv' := [(3, .int 0), (2, .int (bt_B (ms_own k t h r f g))), (0, .ref o), (1, .int g)]) hx hb dX2_goes_31 rfl hl (by decide) rfl (fun ls hl => ?_)
      refine lv_iconst (v := 0) hx hb dX2_goes_32 (by decide) ?_
      refine lv_istore (lv' := [(4, .int 0), (3, .int 0), (2, .int (bt_B (ms_own k t h r f g))), (0, .ref o), (1, .int g)]) hx hb dX2_goes_33 hl (by decide) rfl (fun ls hl => ?_)
      refine bt_loop 16 (fun i ls => lv_has ls 6 [(0, .ref o), (1, .int g), (2, .int (bt_B (ms_own k t h r f g))), (3, .int (nI (bt_bits (fun i => ms_go k t h r f j q u g (nI i)) i))), (4, .int (nI i))]) ?_ ?_ 16 0 ls (by decide) (lv_sub hl [3, 4, 2, 1, 0] rfl)
      · intro ls hl
        have hl : lv_has ls 6 [(0, .ref o), (1, .int g), (2, .int (bt_B (ms_own k t h r f g))), (3, .int (nI (bt_bits (fun i => ms_go k t h r f j q u g (nI i)) 16))), (4, .int (nI 16))] := hl
        refine lv_iload hx hb dX2_goes_35 (lv_at hl 4 rfl) ?_
        refine lv_bipush (v := 16) hx hb dX2_goes_37 (by decide) ?_
        refine lv_icmp_ge (tgt := 100) hx hb dX2_goes_39 (by decide) (fun _ => ?_) (fun c_39 => absurd (by decide) c_39)
        refine lv_iload_n hx hb dX2_goes_100 rfl (lv_at hl 3 rfl) ?_
        exact bt_ri hx hb hr hlk (by unfold ms_goes; rw [if_pos c_4]) dX2_goes_101
      · intro i ls hi hl ih
        have hl : lv_has ls 6 [(0, .ref o), (1, .int g), (2, .int (bt_B (ms_own k t h r f g))), (3, .int (nI (bt_bits (fun i => ms_go k t h r f j q u g (nI i)) i))), (4, .int (nI i))] := hl
        refine lv_iload hx hb dX2_goes_35 (lv_at hl 4 rfl) ?_
        refine lv_bipush (v := 16) hx hb dX2_goes_37 (by decide) ?_
        refine lv_icmp_ge (tgt := 100) hx hb dX2_goes_39 (by decide) (fun c_39 => absurd c_39 (nI_ge hi (by decide))) (fun _ => ?_)
        refine bt_cut (g2 := F0 m 80 ls [.int (bt_B (ms_go k t h r f j q u g (nI i)))]) ?_ (fun K1 => ?_)
        · refine lv_istore (lv' := [(5, .int (bt_B (ms_go k t h r f j q u g (nI i)))), (0, .ref o), (1, .int g), (2, .int (bt_B (ms_own k t h r f g))), (3, .int (nI (bt_bits (fun i => ms_go k t h r f j q u g (nI i)) i))), (4, .int (nI i))]) hx hb dX2_goes_80 hl (by decide) rfl (fun ls hl => ?_)
          refine lv_iload hx hb dX2_goes_82 (lv_at hl 0 rfl) ?_
          refine lv_if_eq (tgt := 94) hx hb dX2_goes_84 (by decide) (fun c_84 => ?_) (fun c_84 => ?_)
          · have c_84 := bt_B0 c_84
            refine lv_iinc (v := nI (i + 1)) (lv' := [(4, .int (nI (i + 1))), (5, .int (bt_B (ms_go k t h r f j q u g (nI i)))), (0, .ref o), (1, .int g), (2, .int (bt_B (ms_own k t h r f g))), (3, .int (nI (bt_bits (fun i => ms_go k t h r f j q u g (nI i)) i)))]) hx hb dX2_goes_94 hl (k := 5) rfl (nI_1 i) (by decide) rfl (fun ls hl => ?_)
            refine lv_goto (tgt := 35) hx hb dX2_goes_97 (by decide) ?_
            have hl2 := lv_sub (l' := [(0, .ref o), (1, .int g), (2, .int (bt_B (ms_own k t h r f g))), (3, .int (nI (bt_bits (fun i => ms_go k t h r f j q u g (nI i)) i))), (4, .int (nI (i + 1)))]) hl [2, 3, 4, 5, 0] rfl
            rw [show nI (bt_bits (fun i => ms_go k t h r f j q u g (nI i)) i) = nI (bt_bits (fun i => ms_go k t h r f j q u g (nI i)) (i + 1)) from bt_bits0 c_84] at hl2
            exact ih ls hl2
          · have c_84 := bt_B1 c_84
            refine lv_iload_n hx hb dX2_goes_87 rfl (lv_at hl 4 rfl) ?_
            refine lv_iconst (v := 1) hx hb dX2_goes_88 (by decide) ?_
            refine lv_iload hx hb dX2_goes_89 (lv_at hl 5 rfl) ?_
            refine lv_ishl hx hb dX2_goes_91 ?_
            refine lv_ior hx hb dX2_goes_92 ?_
            refine bt_top (y := nI (bt_bits (fun i => ms_go k t h r f j q u g (nI i)) (i + 1))) (bt_bits1 (by omega) (c_84)) ?_
            refine lv_istore_n (lv' := [(3, .int (nI (bt_bits (fun i => ms_go k t h r f j q u g (nI i)) (i + 1)))), (5, .int (bt_B (ms_go k t h r f j q u g (nI i)))), (0, .ref o), (1, .int g), (2, .int (bt_B (ms_own k t h r f g))), (4, .int (nI i))]) hx hb dX2_goes_93 rfl hl (by decide) rfl (fun ls hl => ?_)
            refine lv_iinc (v := nI (i + 1)) (lv' := [(4, .int (nI (i + 1))), (3, .int (nI (bt_bits (fun i => ms_go k t h r f j q u g (nI i)) (i + 1)))), (5, .int (bt_B (ms_go k t h r f j q u g (nI i)))), (0, .ref o), (1, .int g), (2, .int (bt_B (ms_own k t h r f g)))]) hx hb dX2_goes_94 hl (k := 5) rfl (nI_1 i) (by decide) rfl (fun ls hl => ?_)
            refine lv_goto (tgt := 35) hx hb dX2_goes_97 (by decide) ?_
            have hl2 := lv_sub (l' := [(0, .ref o), (1, .int g), (2, .int (bt_B (ms_own k t h r f g))), (3, .int (nI (bt_bits (fun i => ms_go k t h r f j q u g (nI i)) (i + 1)))), (4, .int (nI (i + 1)))]) hl [3, 4, 5, 1, 0] rfl
            exact ih ls hl2
        · refine lv_iload_n hx hb dX2_goes_42 rfl (lv_at hl 2 rfl) ?_
          refine lv_if_ne (tgt := 75) hx hb dX2_goes_43 (by decide) (fun c_43 => ?_) (fun c_43 => ?_)
          · have c_43 := bt_B1 c_43
            refine lv_iconst (v := 1) hx hb dX2_goes_75 (by decide) ?_
            refine lv_goto (tgt := 80) hx hb dX2_goes_76 (by decide) ?_
            exact bt_top (y := bt_B (ms_go k t h r f j q u g (nI i))) (by simp [bt_B, ms_go, c_43]) K1
          · have c_43 := bt_B0 c_43
            refine lv_aload_n hx hb dX2_goes_46 rfl (lv_at hl 0 rfl) ?_
            refine lv_iload_n hx hb dX2_goes_47 rfl (lv_at hl 1 rfl) ?_
            refine lv_iload hx hb dX2_goes_48 (lv_at hl 4 rfl) ?_
            refine bt_cV (As := [.int g, .int (nI i)]) (rest := []) (b := o) (ci := 1) (q0 := 0) ⟨hx, hb, hml, hown, hts⟩ (rM_till l D o b1 b2 b3 b4 b5 b6 d k t h r f j q u g (nI i) (bt_inTm (bt_treeN c_4 hi))) 2 (lw_V q227 q229 qs12 q21 q230) ⟨rfl, rfl⟩ (by decide +kernel) ⟨Nat.le_of_ble_eq_true rfl, Nat.le_of_ble_eq_true rfl⟩ hK hP rfl rfl rfl hl.1 rfl (Nat.le_of_ble_eq_true rfl) dX2_goes_50 ⟨Nat.zero_le _, Nat.zero_le _⟩ ?_
            refine lv_if_gt (tgt := 75) hx hb dX2_goes_53 (by decide) (fun c_53 => ?_) (fun c_53 => ?_)
            · refine lv_iconst (v := 1) hx hb dX2_goes_75 (by decide) ?_
              refine lv_goto (tgt := 80) hx hb dX2_goes_76 (by decide) ?_
              exact bt_top (y := bt_B (ms_go k t h r f j q u g (nI i))) (by simp [bt_B, ms_go, c_43, c_53]) K1
            · refine lv_aload_n hx hb dX2_goes_56 rfl (lv_at hl 0 rfl) ?_
              refine lv_iload_n hx hb dX2_goes_57 rfl (lv_at hl 1 rfl) ?_
              refine lv_iconst (v := -1) hx hb dX2_goes_58 (by decide) ?_
              refine bt_cV (As := [.int g, .int (-1)]) (rest := []) (b := o) (ci := 1) (q0 := 0) ⟨hx, hb, hml, hown, hts⟩ (rM_till l D o b1 b2 b3 b4 b5 b6 d k t h r f j q u g (-1) (bt_inTm (bt_tree0 c_4))) 2 (lw_V q227 q229 qs12 q21 q230) ⟨rfl, rfl⟩ (by decide +kernel) ⟨Nat.le_of_ble_eq_true rfl, Nat.le_of_ble_eq_true rfl⟩ hK hP rfl rfl rfl hl.1 rfl (Nat.le_of_ble_eq_true rfl) dX2_goes_59 ⟨Nat.zero_le _, Nat.zero_le _⟩ ?_
              refine lv_if_le (tgt := 79) hx hb dX2_goes_62 (by decide) (fun c_62 => ?_) (fun c_62 => ?_)
              · refine lv_iconst (v := 0) hx hb dX2_goes_79 (by decide) ?_
                exact bt_top (y := bt_B (ms_go k t h r f j q u g (nI i))) (by simp [bt_B, ms_go, c_43, c_53, c_62]) K1
              · refine lv_aload_n hx hb dX2_goes_65 rfl (lv_at hl 0 rfl) ?_
                refine lv_iload_n hx hb dX2_goes_66 rfl (lv_at hl 1 rfl) ?_
                refine lv_iload hx hb dX2_goes_67 (lv_at hl 4 rfl) ?_
                refine bt_cV (As := [.int g, .int (nI i)]) (rest := []) (b := o) (ci := 1) (q0 := 0) ⟨hx, hb, hml, hown, hts⟩ (rM_isCutOff l D o b1 b2 b3 b4 b5 b6 d k t h r f j q u g (nI i) (bt_inCm c_4 hi)) 2 (lw_V q259 q261 qs15 q21 q262) ⟨rfl, rfl⟩ (by decide +kernel) ⟨Nat.le_of_ble_eq_true rfl, Nat.le_of_ble_eq_true rfl⟩ hK hP rfl rfl rfl hl.1 rfl (Nat.le_of_ble_eq_true rfl) dX2_goes_69 ⟨Nat.zero_le _, Nat.zero_le _⟩ ?_
                refine lv_if_ne (tgt := 79) hx hb dX2_goes_72 (by decide) (fun c_72 => ?_) (fun c_72 => ?_)
                · have c_72 := bt_B1 c_72
                  refine lv_iconst (v := 0) hx hb dX2_goes_79 (by decide) ?_
                  exact bt_top (y := bt_B (ms_go k t h r f j q u g (nI i))) (by simp [bt_B, ms_go, c_43, c_53, c_62, c_72]) K1
                · have c_72 := bt_B0 c_72
                  refine lv_iconst (v := 1) hx hb dX2_goes_75 (by decide) ?_
                  refine lv_goto (tgt := 80) hx hb dX2_goes_76 (by decide) ?_
                  exact bt_top (y := bt_B (ms_go k t h r f j q u g (nI i))) (by simp [bt_B, ms_go, c_43, c_53, c_62, c_72]) K1
    · refine lv_aload_n hx hb dX2_goes_9 rfl (lv_at hl 0 rfl) ?_
      refine lv_iload_n hx hb dX2_goes_10 rfl (lv_at hl 1 rfl) ?_
      refine bt_cV (As := [.int g]) (rest := []) (b := o) (ci := 1) (q0 := 0) ⟨hx, hb, hml, hown, hts⟩ (rM_memberTill l D o b1 b2 b3 b4 b5 b6 d k t h r f j q u g (bt_inG c_4)) 1 (lw_V q204 q206 qs9 q21 q207) ⟨rfl, rfl⟩ (by decide +kernel) ⟨Nat.le_of_ble_eq_true rfl, Nat.le_of_ble_eq_true rfl⟩ hK hP rfl rfl rfl hl.1 rfl (Nat.le_of_ble_eq_true rfl) dX2_goes_11 ⟨Nat.zero_le _, Nat.zero_le _⟩ ?_
      refine lv_if_le (tgt := 28) hx hb dX2_goes_14 (by decide) (fun c_14 => ?_) (fun c_14 => ?_)
      · refine lv_iconst (v := 0) hx hb dX2_goes_28 (by decide) ?_
        exact bt_top (y := bt_B (ms_own k t h r f g)) (by simp [bt_B, ms_own, c_14]) K
      · refine lv_aload_n hx hb dX2_goes_17 rfl (lv_at hl 0 rfl) ?_
        refine bt_cV (As := []) (rest := []) (b := o) (ci := 1) (q0 := 0) ⟨hx, hb, hml, hown, hts⟩ (rM_isFirst l D o b1 b2 b3 b4 b5 b6 d k t h r f j q u  ) 0 (lw_V q255 q257 qs14 q21 q258) ⟨rfl, rfl⟩ (by decide +kernel) ⟨Nat.le_of_ble_eq_true rfl, Nat.le_of_ble_eq_true rfl⟩ hK hP rfl rfl rfl hl.1 rfl (Nat.le_of_ble_eq_true rfl) dX2_goes_18 ⟨Nat.zero_le _, Nat.zero_le _⟩ ?_
        refine lv_if_eq (tgt := 28) hx hb dX2_goes_21 (by decide) (fun c_21 => ?_) (fun c_21 => ?_)
        · have c_21 := bt_B0 c_21
          refine lv_iconst (v := 0) hx hb dX2_goes_28 (by decide) ?_
          exact bt_top (y := bt_B (ms_own k t h r f g)) (by simp [bt_B, ms_own, c_14, c_21]) K
        · have c_21 := bt_B1 c_21
          refine lv_iconst (v := 1) hx hb dX2_goes_24 (by decide) ?_
          refine lv_goto (tgt := 29) hx hb dX2_goes_25 (by decide) ?_
          exact bt_top (y := bt_B (ms_own k t h r f g)) (by simp [bt_B, ms_own, c_14, c_21]) K
  · have c_4 := bt_B0 c_4
    refine lv_iconst (v := -1) hx hb dX2_goes_7 (by decide) ?_
    exact bt_ri hx hb hr hlk (by simp [ms_goes, c_4]) dX2_goes_8
set_option maxHeartbeats 4000000 in
set_option maxRecDepth 100000 in
theorem rM_going : Met l yX2_going (ws_ yX2_going cX2_going 3 (some .int)) ({ frames := 3, cells := 0, slots := 0, locals := 67 } : Room) (va_Pc [.ref o] (bt_RP D [(d, .int)] (wM o b1 b2 b3 b4 b5 b6 d k t h r f j q u))) (QcRead (nI (ms_going k t h r f j q u))) 0 0 (fun _ => False) := by
  refine bt_met (by decide) (Nat.le_of_ble_eq_true rfl) ?_
  intro p e s m below meth c ls hx hb hr hlk hml hown hts hnm hl hB
  obtain ⟨hP, hK⟩ := hB
  have hown : s.vm.findClass RX2 = some m.cls := hown
  have hl : lv_has ls 3 [(0, .ref o)] := hl
  refine lv_iconst (v := 0) hx hb dX2_going_0 (by decide) ?_
  refine lv_istore_n (lv' := [(1, .int 0), (0, .ref o)]) hx hb dX2_going_1 rfl hl (by decide) rfl (fun ls hl => ?_)
  refine lv_iconst (v := 0) hx hb dX2_going_2 (by decide) ?_
  refine lv_istore_n (lv' := [(2, .int 0), (1, .int 0), (0, .ref o)]) hx hb dX2_going_3 rfl hl (by decide) rfl (fun ls hl => ?_)
  refine bt_loop 8 (fun i ls => lv_has ls 3 [(0, .ref o), (1, .int (nI (bt_bits (fun i => !decide (ms_goes k t h r f j q u (nI i) = 0)) i))), (2, .int (nI i))]) ?_ ?_ 8 0 ls (by decide) (lv_sub hl [2, 1, 0] rfl)
  · intro ls hl
    have hl : lv_has ls 3 [(0, .ref o), (1, .int (nI (bt_bits (fun i => !decide (ms_goes k t h r f j q u (nI i) = 0)) 8))), (2, .int (nI 8))] := hl
    refine lv_iload_n hx hb dX2_going_4 rfl (lv_at hl 2 rfl) ?_
    refine lv_bipush (v := 8) hx hb dX2_going_5 (by decide) ?_
    refine lv_icmp_ge (tgt := 30) hx hb dX2_going_7 (by decide) (fun _ => ?_) (fun c_7 => absurd (by decide) c_7)
    refine lv_iload_n hx hb dX2_going_30 rfl (lv_at hl 1 rfl) ?_
    exact bt_ri hx hb hr hlk (rfl) dX2_going_31
  · intro i ls hi hl ih
    have hl : lv_has ls 3 [(0, .ref o), (1, .int (nI (bt_bits (fun i => !decide (ms_goes k t h r f j q u (nI i) = 0)) i))), (2, .int (nI i))] := hl
    refine lv_iload_n hx hb dX2_going_4 rfl (lv_at hl 2 rfl) ?_
    refine lv_bipush (v := 8) hx hb dX2_going_5 (by decide) ?_
    refine lv_icmp_ge (tgt := 30) hx hb dX2_going_7 (by decide) (fun c_7 => absurd c_7 (nI_ge hi (by decide))) (fun _ => ?_)
    refine lv_aload_n hx hb dX2_going_10 rfl (lv_at hl 0 rfl) ?_
    refine lv_iload_n hx hb dX2_going_11 rfl (lv_at hl 2 rfl) ?_
    refine bt_cV (As := [.int (nI i)]) (rest := []) (b := o) (ci := 1) (q0 := 0) ⟨hx, hb, hml, hown, hts⟩ (rM_goes l D o b1 b2 b3 b4 b5 b6 d k t h r f j q u (nI i) ) 1 (lw_V q271 q252 q253 q21 q254) ⟨rfl, rfl⟩ (by decide +kernel) ⟨Nat.le_of_ble_eq_true rfl, Nat.le_of_ble_eq_true rfl⟩ hK hP rfl rfl rfl hl.1 rfl (Nat.le_of_ble_eq_true rfl) dX2_going_12 ⟨Nat.zero_le _, Nat.zero_le _⟩ ?_
    refine lv_if_eq (tgt := 24) hx hb dX2_going_15 (by decide) (fun c_15 => ?_) (fun c_15 => ?_)
    · refine lv_iinc (v := nI (i + 1)) (lv' := [(2, .int (nI (i + 1))), (0, .ref o), (1, .int (nI (bt_bits (fun i => !decide (ms_goes k t h r f j q u (nI i) = 0)) i)))]) hx hb dX2_going_24 hl (k := 2) rfl (nI_1 i) (by decide) rfl (fun ls hl => ?_)
      refine lv_goto (tgt := 4) hx hb dX2_going_27 (by decide) ?_
      have hl2 := lv_sub (l' := [(0, .ref o), (1, .int (nI (bt_bits (fun i => !decide (ms_goes k t h r f j q u (nI i) = 0)) i))), (2, .int (nI (i + 1)))]) hl [1, 2, 0] rfl
      rw [show nI (bt_bits (fun i => !decide (ms_goes k t h r f j q u (nI i) = 0)) i) = nI (bt_bits (fun i => !decide (ms_goes k t h r f j q u (nI i) = 0)) (i + 1)) from bt_bits0 (by simp [c_15])] at hl2
      exact ih ls hl2
    · refine lv_iload_n hx hb dX2_going_18 rfl (lv_at hl 1 rfl) ?_
      refine lv_iconst (v := 1) hx hb dX2_going_19 (by decide) ?_
      refine lv_iload_n hx hb dX2_going_20 rfl (lv_at hl 2 rfl) ?_
      refine lv_ishl hx hb dX2_going_21 ?_
      refine lv_ior hx hb dX2_going_22 ?_
      refine bt_top (y := nI (bt_bits (fun i => !decide (ms_goes k t h r f j q u (nI i) = 0)) (i + 1))) (bt_bits1 (by omega) (by simp [c_15])) ?_
      refine lv_istore_n (lv' := [(1, .int (nI (bt_bits (fun i => !decide (ms_goes k t h r f j q u (nI i) = 0)) (i + 1)))), (0, .ref o), (2, .int (nI i))]) hx hb dX2_going_23 rfl hl (by decide) rfl (fun ls hl => ?_)
      refine lv_iinc (v := nI (i + 1)) (lv' := [(2, .int (nI (i + 1))), (1, .int (nI (bt_bits (fun i => !decide (ms_goes k t h r f j q u (nI i) = 0)) (i + 1)))), (0, .ref o)]) hx hb dX2_going_24 hl (k := 2) rfl (nI_1 i) (by decide) rfl (fun ls hl => ?_)
      refine lv_goto (tgt := 4) hx hb dX2_going_27 (by decide) ?_
      have hl2 := lv_sub (l' := [(0, .ref o), (1, .int (nI (bt_bits (fun i => !decide (ms_goes k t h r f j q u (nI i) = 0)) (i + 1)))), (2, .int (nI (i + 1)))]) hl [2, 1, 0] rfl
      exact ih ls hl2
set_option maxHeartbeats 4000000 in
set_option maxRecDepth 100000 in
theorem rM_branches : Met l yX2_branches (ws_ yX2_branches cX2_branches 3 (some .int)) ({ frames := 1, cells := 0, slots := 0, locals := 24 } : Room) (va_Pc [.ref o] (bt_RP D [(d, .int)] (wM o b1 b2 b3 b4 b5 b6 d k t h r f j q u))) (QcRead (nI (ms_branches t j q))) 0 0 (fun _ => False) := by
  refine bt_met (by decide) (Nat.le_of_ble_eq_true rfl) ?_
  intro p e s m below meth c ls hx hb hr hlk hml hown hts hnm hl hB
  obtain ⟨hP, hK⟩ := hB
  have hown : s.vm.findClass RX2 = some m.cls := hown
  have hl : lv_has ls 3 [(0, .ref o)] := hl
  refine lv_iconst (v := 0) hx hb dX2_branches_0 (by decide) ?_
  refine lv_istore_n (lv' := [(1, .int 0), (0, .ref o)]) hx hb dX2_branches_1 rfl hl (by decide) rfl (fun ls hl => ?_)
  refine lv_iconst (v := 0) hx hb dX2_branches_2 (by decide) ?_
  refine lv_istore_n (lv' := [(2, .int 0), (1, .int 0), (0, .ref o)]) hx hb dX2_branches_3 rfl hl (by decide) rfl (fun ls hl => ?_)
  refine bt_loop 136 (fun i ls => lv_has ls 3 [(0, .ref o), (1, .int (nI (bt_cnt (fun i => !decide (ms_tl t j q (nI (i / 17)) (nI (i % 17) - 1) ≤ 0)) i))), (2, .int (nI i))]) ?_ ?_ 136 0 ls (by decide) (lv_sub hl [2, 1, 0] rfl)
  · intro ls hl
    have hl : lv_has ls 3 [(0, .ref o), (1, .int (nI (bt_cnt (fun i => !decide (ms_tl t j q (nI (i / 17)) (nI (i % 17) - 1) ≤ 0)) 136))), (2, .int (nI 136))] := hl
    refine lv_iload_n hx hb dX2_branches_4 rfl (lv_at hl 2 rfl) ?_
    refine lv_sipush (v := 136) hx hb dX2_branches_5 (by decide) ?_
    refine lv_icmp_ge (tgt := 42) hx hb dX2_branches_8 (by decide) (fun _ => ?_) (fun c_8 => absurd (by decide) c_8)
    refine lv_iload_n hx hb dX2_branches_42 rfl (lv_at hl 1 rfl) ?_
    exact bt_ri hx hb hr hlk (rfl) dX2_branches_43
  · intro i ls hi hl ih
    have hl : lv_has ls 3 [(0, .ref o), (1, .int (nI (bt_cnt (fun i => !decide (ms_tl t j q (nI (i / 17)) (nI (i % 17) - 1) ≤ 0)) i))), (2, .int (nI i))] := hl
    refine lv_iload_n hx hb dX2_branches_4 rfl (lv_at hl 2 rfl) ?_
    refine lv_sipush (v := 136) hx hb dX2_branches_5 (by decide) ?_
    refine lv_icmp_ge (tgt := 42) hx hb dX2_branches_8 (by decide) (fun c_8 => absurd c_8 (nI_ge hi (by decide))) (fun _ => ?_)
    refine lv_iload_n hx hb dX2_branches_11 rfl (lv_at hl 1 rfl) ?_
    refine lv_aload_n hx hb dX2_branches_12 rfl (lv_at hl 0 rfl) ?_
    refine lv_iload_n hx hb dX2_branches_13 rfl (lv_at hl 2 rfl) ?_
    refine lv_bipush (v := 17) hx hb dX2_branches_14 (by decide) ?_
    refine lv_idiv hx hb dX2_branches_16 (by decide) ?_
    refine bt_top (y := nI (i / 17)) (pk_div (d := 17) (by omega) (by decide) (by decide)) ?_
    refine lv_iload_n hx hb dX2_branches_17 rfl (lv_at hl 2 rfl) ?_
    refine lv_bipush (v := 17) hx hb dX2_branches_18 (by decide) ?_
    refine lv_irem hx hb dX2_branches_20 (by decide) ?_
    refine bt_top (y := nI (i % 17)) (pk_rem (d := 17) (by omega) (by decide) (by decide)) ?_
    refine lv_iconst (v := 1) hx hb dX2_branches_21 (by decide) ?_
    refine lv_isub hx hb dX2_branches_22 ?_
    refine bt_cV (As := [.int (nI (i / 17)), .int ((nI (i % 17)) - 1)]) (rest := [.int (nI (bt_cnt (fun i => !decide (ms_tl t j q (nI (i / 17)) (nI (i % 17) - 1) ≤ 0)) i))]) (b := o) (ci := 1) (q0 := 0) ⟨hx, hb, hml, hown, hts⟩ (rM_till l D o b1 b2 b3 b4 b5 b6 d k t h r f j q u (nI (i / 17)) ((nI (i % 17)) - 1) (bt_inB hi)) 2 (lw_V q227 q229 qs12 q21 q230) ⟨rfl, rfl⟩ (by decide +kernel) ⟨Nat.le_of_ble_eq_true rfl, Nat.le_of_ble_eq_true rfl⟩ hK hP rfl rfl rfl hl.1 rfl (Nat.le_of_ble_eq_true rfl) dX2_branches_23 ⟨Nat.zero_le _, Nat.zero_le _⟩ ?_
    refine lv_if_le (tgt := 33) hx hb dX2_branches_26 (by decide) (fun c_26 => ?_) (fun c_26 => ?_)
    · refine lv_iconst (v := 0) hx hb dX2_branches_33 (by decide) ?_
      refine lv_iadd hx hb dX2_branches_34 ?_
      refine bt_top (y := nI (bt_cnt (fun i => !decide (ms_tl t j q (nI (i / 17)) (nI (i % 17) - 1) ≤ 0)) (i + 1))) (bt_cnt0 (by simp [c_26])) ?_
      refine lv_istore_n (lv' := [(1, .int (nI (bt_cnt (fun i => !decide (ms_tl t j q (nI (i / 17)) (nI (i % 17) - 1) ≤ 0)) (i + 1)))), (0, .ref o), (2, .int (nI i))]) hx hb dX2_branches_35 rfl hl (by decide) rfl (fun ls hl => ?_)
      refine lv_iinc (v := nI (i + 1)) (lv' := [(2, .int (nI (i + 1))), (1, .int (nI (bt_cnt (fun i => !decide (ms_tl t j q (nI (i / 17)) (nI (i % 17) - 1) ≤ 0)) (i + 1)))), (0, .ref o)]) hx hb dX2_branches_36 hl (k := 2) rfl (nI_1 i) (by decide) rfl (fun ls hl => ?_)
      refine lv_goto (tgt := 4) hx hb dX2_branches_39 (by decide) ?_
      have hl2 := lv_sub (l' := [(0, .ref o), (1, .int (nI (bt_cnt (fun i => !decide (ms_tl t j q (nI (i / 17)) (nI (i % 17) - 1) ≤ 0)) (i + 1)))), (2, .int (nI (i + 1)))]) hl [2, 1, 0] rfl
      exact ih ls hl2
    · refine lv_iconst (v := 1) hx hb dX2_branches_29 (by decide) ?_
      refine lv_goto (tgt := 34) hx hb dX2_branches_30 (by decide) ?_
      refine lv_iadd hx hb dX2_branches_34 ?_
      refine bt_top (y := nI (bt_cnt (fun i => !decide (ms_tl t j q (nI (i / 17)) (nI (i % 17) - 1) ≤ 0)) (i + 1))) (bt_cnt1 (by simp [c_26])) ?_
      refine lv_istore_n (lv' := [(1, .int (nI (bt_cnt (fun i => !decide (ms_tl t j q (nI (i / 17)) (nI (i % 17) - 1) ≤ 0)) (i + 1)))), (0, .ref o), (2, .int (nI i))]) hx hb dX2_branches_35 rfl hl (by decide) rfl (fun ls hl => ?_)
      refine lv_iinc (v := nI (i + 1)) (lv' := [(2, .int (nI (i + 1))), (1, .int (nI (bt_cnt (fun i => !decide (ms_tl t j q (nI (i / 17)) (nI (i % 17) - 1) ≤ 0)) (i + 1)))), (0, .ref o)]) hx hb dX2_branches_36 hl (k := 2) rfl (nI_1 i) (by decide) rfl (fun ls hl => ?_)
      refine lv_goto (tgt := 4) hx hb dX2_branches_39 (by decide) ?_
      have hl2 := lv_sub (l' := [(0, .ref o), (1, .int (nI (bt_cnt (fun i => !decide (ms_tl t j q (nI (i / 17)) (nI (i % 17) - 1) ≤ 0)) (i + 1)))), (2, .int (nI (i + 1)))]) hl [2, 1, 0] rfl
      exact ih ls hl2
set_option maxHeartbeats 4000000 in
set_option maxRecDepth 100000 in
theorem rM_look (w : Int32) (hk : k ≤ 9) : Met l yX2_look (ws_ yX2_look cX2_look 2 (some .int)) ({ frames := 4, cells := 0, slots := 0, locals := 89 } : Room) (va_Pc [.ref o, .int w] (bt_RP D [(d, .int)] (wM o b1 b2 b3 b4 b5 b6 d k t h r f j q u))) (QcRead (ms_look k t h r f j q u w)) 0 0 (fun _ => False) := by
  refine bt_met (by decide) (Nat.le_of_ble_eq_true rfl) ?_
  intro p e s m below meth c ls hx hb hr hlk hml hown hts hnm hl hB
  obtain ⟨hP, hK⟩ := hB
  have hown : s.vm.findClass RX2 = some m.cls := hown
  have hl : lv_has ls 2 [(0, .ref o), (1, .int w)] := hl
  refine lv_iload_n hx hb dX2_look_0 rfl (lv_at hl 1 rfl) ?_
  rcases bt_sw8 w with rfl | rfl | rfl | rfl | rfl | rfl | rfl | rfl | ⟨hne, hout⟩
  · refine lv_tableIn (tgt := 48) hx hb dX2_look_1 (by decide) (by decide) rfl (by decide) ?_
    refine lv_aload_n hx hb dX2_look_48 rfl (lv_at hl 0 rfl) ?_
    refine va_get (D := D) (ci := 1) (v := .int t) (C := RX2) (T := TX2) (N := 8) hx hb hts in_X2 hown hK hP 0 rfl rfl 1 (by decide) (hts _ q159) (fun _ h9 => h9) rfl dX2_look_49 ?_
    exact bt_ri hx hb hr hlk (rfl) dX2_look_52
  · refine lv_tableIn (tgt := 53) hx hb dX2_look_1 (by decide) (by decide) rfl (by decide) ?_
    refine lv_aload_n hx hb dX2_look_53 rfl (lv_at hl 0 rfl) ?_
    refine bt_cV (As := []) (rest := []) (b := o) (ci := 1) (q0 := 0) ⟨hx, hb, hml, hown, hts⟩ (rM_neighbours l D o b1 b2 b3 b4 b5 b6 d k t h r f j q u  ) 0 (lw_V q212 q214 qs11 q21 q215) ⟨rfl, rfl⟩ (by decide +kernel) ⟨Nat.le_of_ble_eq_true rfl, Nat.le_of_ble_eq_true rfl⟩ hK hP rfl rfl rfl hl.1 rfl (Nat.le_of_ble_eq_true rfl) dX2_look_54 ⟨Nat.zero_le _, Nat.zero_le _⟩ ?_
    exact bt_ri hx hb hr hlk (rfl) dX2_look_57
  · refine lv_tableIn (tgt := 58) hx hb dX2_look_1 (by decide) (by decide) rfl (by decide) ?_
    refine lv_aload_n hx hb dX2_look_58 rfl (lv_at hl 0 rfl) ?_
    refine bt_cV (As := []) (rest := []) (b := o) (ci := 1) (q0 := 0) ⟨hx, hb, hml, hown, hts⟩ (rM_isFirst l D o b1 b2 b3 b4 b5 b6 d k t h r f j q u  ) 0 (lw_V q255 q257 qs14 q21 q258) ⟨rfl, rfl⟩ (by decide +kernel) ⟨Nat.le_of_ble_eq_true rfl, Nat.le_of_ble_eq_true rfl⟩ hK hP rfl rfl rfl hl.1 rfl (Nat.le_of_ble_eq_true rfl) dX2_look_59 ⟨Nat.zero_le _, Nat.zero_le _⟩ ?_
    refine lv_if_eq (tgt := 69) hx hb dX2_look_62 (by decide) (fun c_62 => ?_) (fun c_62 => ?_)
    · have c_62 := bt_B0 c_62
      refine lv_iconst (v := 0) hx hb dX2_look_69 (by decide) ?_
      exact bt_ri hx hb hr hlk (by simp [ms_look, bt_B, c_62]) dX2_look_70
    · have c_62 := bt_B1 c_62
      refine lv_iconst (v := 1) hx hb dX2_look_65 (by decide) ?_
      refine lv_goto (tgt := 70) hx hb dX2_look_66 (by decide) ?_
      exact bt_ri hx hb hr hlk (by simp [ms_look, bt_B, c_62]) dX2_look_70
  · refine lv_tableIn (tgt := 71) hx hb dX2_look_1 (by decide) (by decide) rfl (by decide) ?_
    refine lv_aload_n hx hb dX2_look_71 rfl (lv_at hl 0 rfl) ?_
    refine bt_cV (As := []) (rest := []) (b := o) (ci := 1) (q0 := 0) ⟨hx, hb, hml, hown, hts⟩ (rM_isAsking l D o b1 b2 b3 b4 b5 b6 d k t h r f j q u  hk) 0 (lw_V q208 q210 qs10 q21 q211) ⟨rfl, rfl⟩ (by decide +kernel) ⟨Nat.le_of_ble_eq_true rfl, Nat.le_of_ble_eq_true rfl⟩ hK hP rfl rfl rfl hl.1 rfl (Nat.le_of_ble_eq_true rfl) dX2_look_72 ⟨Nat.zero_le _, Nat.zero_le _⟩ ?_
    refine lv_if_eq (tgt := 82) hx hb dX2_look_75 (by decide) (fun c_75 => ?_) (fun c_75 => ?_)
    · have c_75 := bt_B0 c_75
      refine lv_iconst (v := 0) hx hb dX2_look_82 (by decide) ?_
      exact bt_ri hx hb hr hlk (by simp [ms_look, bt_B, c_75]) dX2_look_83
    · have c_75 := bt_B1 c_75
      refine lv_iconst (v := 1) hx hb dX2_look_78 (by decide) ?_
      refine lv_goto (tgt := 83) hx hb dX2_look_79 (by decide) ?_
      exact bt_ri hx hb hr hlk (by simp [ms_look, bt_B, c_75]) dX2_look_83
  · refine lv_tableIn (tgt := 84) hx hb dX2_look_1 (by decide) (by decide) rfl (by decide) ?_
    refine lv_aload_n hx hb dX2_look_84 rfl (lv_at hl 0 rfl) ?_
    refine bt_cV (As := []) (rest := []) (b := o) (ci := 1) (q0 := 0) ⟨hx, hb, hml, hown, hts⟩ (rM_isCrowded l D o b1 b2 b3 b4 b5 b6 d k t h r f j q u  ) 0 (lw_V q231 q233 qs13 q21 q234) ⟨rfl, rfl⟩ (by decide +kernel) ⟨Nat.le_of_ble_eq_true rfl, Nat.le_of_ble_eq_true rfl⟩ hK hP rfl rfl rfl hl.1 rfl (Nat.le_of_ble_eq_true rfl) dX2_look_85 ⟨Nat.zero_le _, Nat.zero_le _⟩ ?_
    refine lv_if_eq (tgt := 95) hx hb dX2_look_88 (by decide) (fun c_88 => ?_) (fun c_88 => ?_)
    · have c_88 := bt_B0 c_88
      refine lv_iconst (v := 0) hx hb dX2_look_95 (by decide) ?_
      exact bt_ri hx hb hr hlk (by simp [ms_look, bt_B, c_88]) dX2_look_96
    · have c_88 := bt_B1 c_88
      refine lv_iconst (v := 1) hx hb dX2_look_91 (by decide) ?_
      refine lv_goto (tgt := 96) hx hb dX2_look_92 (by decide) ?_
      exact bt_ri hx hb hr hlk (by simp [ms_look, bt_B, c_88]) dX2_look_96
  · refine lv_tableIn (tgt := 97) hx hb dX2_look_1 (by decide) (by decide) rfl (by decide) ?_
    refine lv_aload_n hx hb dX2_look_97 rfl (lv_at hl 0 rfl) ?_
    refine va_get (D := D) (ci := 1) (v := .int (nI k)) (C := RX2) (T := TX2) (N := 8) hx hb hts in_X2 hown hK hP 0 rfl rfl 0 (by decide) (hts _ q158) (fun _ h9 => h9) rfl dX2_look_98 ?_
    exact bt_ri hx hb hr hlk (rfl) dX2_look_101
  · refine lv_tableIn (tgt := 102) hx hb dX2_look_1 (by decide) (by decide) rfl (by decide) ?_
    refine lv_aload_n hx hb dX2_look_102 rfl (lv_at hl 0 rfl) ?_
    refine bt_cV (As := []) (rest := []) (b := o) (ci := 1) (q0 := 0) ⟨hx, hb, hml, hown, hts⟩ (rM_going l D o b1 b2 b3 b4 b5 b6 d k t h r f j q u  ) 0 (lw_V q267 q269 qs16 q21 q270) ⟨rfl, rfl⟩ (by decide +kernel) ⟨Nat.le_of_ble_eq_true rfl, Nat.le_of_ble_eq_true rfl⟩ hK hP rfl rfl rfl hl.1 rfl (Nat.le_of_ble_eq_true rfl) dX2_look_103 ⟨Nat.zero_le _, Nat.zero_le _⟩ ?_
    exact bt_ri hx hb hr hlk (rfl) dX2_look_106
  · refine lv_tableIn (tgt := 107) hx hb dX2_look_1 (by decide) (by decide) rfl (by decide) ?_
    refine lv_aload_n hx hb dX2_look_107 rfl (lv_at hl 0 rfl) ?_
    refine bt_cV (As := []) (rest := []) (b := o) (ci := 1) (q0 := 0) ⟨hx, hb, hml, hown, hts⟩ (rM_branches l D o b1 b2 b3 b4 b5 b6 d k t h r f j q u  ) 0 (lw_V q272 q274 qs17 q21 q275) ⟨rfl, rfl⟩ (by decide +kernel) ⟨Nat.le_of_ble_eq_true rfl, Nat.le_of_ble_eq_true rfl⟩ hK hP rfl rfl rfl hl.1 rfl (Nat.le_of_ble_eq_true rfl) dX2_look_108 ⟨Nat.zero_le _, Nat.zero_le _⟩ ?_
    exact bt_ri hx hb hr hlk (rfl) dX2_look_111
  · refine lv_tableOut (tgt := 112) hx hb dX2_look_1 hout (by decide) ?_
    refine lv_iconst (v := -1) hx hb dX2_look_112 (by decide) ?_
    exact bt_ri hx hb hr hlk (by simp [ms_look, hne]) dX2_look_113
end MD
end
section
set_option maxHeartbeats 4000000 in
set_option maxRecDepth 100000 in
theorem iM_init (l : Launch) (D : va_G) (o : Nat) (d : ClassId) (x : Int32) (sz : Nat) : Met l yX2_init (ws_ yX2_init cX2_init 2 none) ({ frames := 1, cells := 6, slots := 426, locals := 21 } : Room) (va_Pc [.ref o, .int x] (bt_MP D [(d, .int)] [(o, .inr (1, [.int 0, .int 0, .null, .null, .null, .null, .null, .null]))] sz)) (bt_QI D [(d, .int)] (fun y : Nat × Nat × Nat × Nat × Nat × Nat => wM o y.1 y.2.1 y.2.2.1 y.2.2.2.1 y.2.2.2.2.1 y.2.2.2.2.2 d (bt_cl x) 0 (bt_fill (fun _ => 0) (-1) 10) (bt_fill (fun _ => 0) (-1) 8) (fun _ => 0) (bt_fill (fun _ => 0) (-1) 136) (fun _ => 0) (bt_fill (fun _ => 0) (-1) 128)) (va_A [(o, .inr (1, [.int 0, .int 0, .null, .null, .null, .null, .null, .null]))] sz)) 6 426 (va_A [(o, .inr (1, [.int 0, .int 0, .null, .null, .null, .null, .null, .null]))] sz) := by
  refine bt_metM (Qc := fun A => bt_QI D [(d, .int)] (fun y : Nat × Nat × Nat × Nat × Nat × Nat => wM o y.1 y.2.1 y.2.2.1 y.2.2.2.1 y.2.2.2.2.1 y.2.2.2.2.2 d (bt_cl x) 0 (bt_fill (fun _ => 0) (-1) 10) (bt_fill (fun _ => 0) (-1) 8) (fun _ => 0) (bt_fill (fun _ => 0) (-1) 136) (fun _ => 0) (bt_fill (fun _ => 0) (-1) 128)) A) (by decide) (Nat.le_of_ble_eq_true rfl) ?_
  intro p e s m below meth c ls A hx hb hr hlk hml hown hts hnm hl hP hK hD hS hA
  have hown : s.vm.findClass RX2 = some m.cls := hown
  have hnm : meth.name = "<init>" := hnm
  have hl : lv_has ls 2 [(0, .ref o), (1, .int x)] := hl
  refine lv_aload_n hx hb dX2_init_0 rfl (lv_at hl 0 rfl) ?_
  refine W.objInit hx hb hown (hts _ q153) (hts _ q28) (hts _ q29) rfl (by rw [hml]; exact hl.1) rfl dX2_init_1 (Nat.le_of_ble_eq_true rfl) (Nat.le_of_ble_eq_true rfl) ?_
  refine W.eq (g2 := F0 m 4 ls []) rfl ?_
  refine lv_aload_n hx hb dX2_init_4 rfl (lv_at hl 0 rfl) ?_
  refine lv_bipush (v := 10) hx hb dX2_init_5 (by decide) ?_
  refine va_newa (D := D) (atype := .int) hx hb (hts _ q59) rfl hK hP hD hS hA (a0 := (10, .inl (fun _ => 0))) (fun _ => rfl) (by decide) (by decide) (by decide) (Nat.le_of_ble_eq_true rfl) (Nat.le_of_ble_eq_true rfl) dX2_init_7 (fun b1 cA H hK hP hD hS => ?_)
  have e9 := bt_oneA hK
  subst e9
  have hK : va_K D vwCl [(d, .int)] s := hK.sub [0] rfl
  have hP : va_P D vwCl [(o, .inr (1, [.int 0, .int 0, .null, .null, .null, .null, .null, .null])), (b1, .inl (d, 10, .inl (fun _ => 0)))] H := hP
  have hD : va_D A [(o, .inr (1, [.int 0, .int 0, .null, .null, .null, .null, .null, .null])), (b1, .inl (d, 10, .inl (fun _ => 0)))] := hD
  refine W.widen (k := 1) (n := 10) (Nat.le_of_ble_eq_true rfl) (Nat.le_of_ble_eq_true rfl) ?_
  refine va_putF (D := D) (ci := 1) (v := .ref b1) (ty := .array .int) (C := RX2) (T := TX2) (N := 8) hx hb hts in_X2 tyX2 tyX2_ok nmX2 hown hK hP hD hS 0 rfl rfl 2 (by decide) (hts _ q160) (fun _ h9 => h9) rfl hnm rfl (by decide +kernel) rfl rfl (Nat.le_of_ble_eq_true rfl) dX2_init_9 (fun H locs hP hD hS => ?_)
  have hP : va_P D vwCl [(o, .inr (1, [.int 0, .int 0, .ref b1, .null, .null, .null, .null, .null])), (b1, .inl (d, 10, .inl (fun _ => 0)))] H := hP
  have hD : va_D A [(o, .inr (1, [.int 0, .int 0, .ref b1, .null, .null, .null, .null, .null])), (b1, .inl (d, 10, .inl (fun _ => 0)))] := hD
  refine lv_aload_n hx hb dX2_init_12 rfl (lv_at hl 0 rfl) ?_
  refine lv_bipush (v := 8) hx hb dX2_init_13 (by decide) ?_
  refine va_newa (D := D) (atype := .int) hx hb (hts _ q59) rfl hK hP hD hS hA (a0 := (8, .inl (fun _ => 0))) (fun _ => rfl) (by decide) (by decide) (by decide) (Nat.le_of_ble_eq_true rfl) (Nat.le_of_ble_eq_true rfl) dX2_init_15 (fun b2 cA H hK hP hD hS => ?_)
  have e9 := bt_oneA hK
  subst e9
  have hK : va_K D vwCl [(d, .int)] s := hK.sub [0] rfl
  have hP : va_P D vwCl [(o, .inr (1, [.int 0, .int 0, .ref b1, .null, .null, .null, .null, .null])), (b1, .inl (d, 10, .inl (fun _ => 0))), (b2, .inl (d, 8, .inl (fun _ => 0)))] H := hP
  have hD : va_D A [(o, .inr (1, [.int 0, .int 0, .ref b1, .null, .null, .null, .null, .null])), (b1, .inl (d, 10, .inl (fun _ => 0))), (b2, .inl (d, 8, .inl (fun _ => 0)))] := hD
  refine W.widen (k := 2) (n := 18) (Nat.le_of_ble_eq_true rfl) (Nat.le_of_ble_eq_true rfl) ?_
  refine va_putF (D := D) (ci := 1) (v := .ref b2) (ty := .array .int) (C := RX2) (T := TX2) (N := 8) hx hb hts in_X2 tyX2 tyX2_ok nmX2 hown hK hP hD hS 0 rfl rfl 3 (by decide) (hts _ q161) (fun _ h9 => h9) rfl hnm rfl (by decide +kernel) rfl rfl (Nat.le_of_ble_eq_true rfl) dX2_init_17 (fun H locs hP hD hS => ?_)
  have hP : va_P D vwCl [(o, .inr (1, [.int 0, .int 0, .ref b1, .ref b2, .null, .null, .null, .null])), (b1, .inl (d, 10, .inl (fun _ => 0))), (b2, .inl (d, 8, .inl (fun _ => 0)))] H := hP
  have hD : va_D A [(o, .inr (1, [.int 0, .int 0, .ref b1, .ref b2, .null, .null, .null, .null])), (b1, .inl (d, 10, .inl (fun _ => 0))), (b2, .inl (d, 8, .inl (fun _ => 0)))] := hD
  refine lv_aload_n hx hb dX2_init_20 rfl (lv_at hl 0 rfl) ?_
  refine lv_bipush (v := 8) hx hb dX2_init_21 (by decide) ?_
  refine va_newa (D := D) (atype := .int) hx hb (hts _ q59) rfl hK hP hD hS hA (a0 := (8, .inl (fun _ => 0))) (fun _ => rfl) (by decide) (by decide) (by decide) (Nat.le_of_ble_eq_true rfl) (Nat.le_of_ble_eq_true rfl) dX2_init_23 (fun b3 cA H hK hP hD hS => ?_)
  have e9 := bt_oneA hK
  subst e9
  have hK : va_K D vwCl [(d, .int)] s := hK.sub [0] rfl
  have hP : va_P D vwCl [(o, .inr (1, [.int 0, .int 0, .ref b1, .ref b2, .null, .null, .null, .null])), (b1, .inl (d, 10, .inl (fun _ => 0))), (b2, .inl (d, 8, .inl (fun _ => 0))), (b3, .inl (d, 8, .inl (fun _ => 0)))] H := hP
  have hD : va_D A [(o, .inr (1, [.int 0, .int 0, .ref b1, .ref b2, .null, .null, .null, .null])), (b1, .inl (d, 10, .inl (fun _ => 0))), (b2, .inl (d, 8, .inl (fun _ => 0))), (b3, .inl (d, 8, .inl (fun _ => 0)))] := hD
  refine W.widen (k := 3) (n := 26) (Nat.le_of_ble_eq_true rfl) (Nat.le_of_ble_eq_true rfl) ?_
  refine va_putF (D := D) (ci := 1) (v := .ref b3) (ty := .array .int) (C := RX2) (T := TX2) (N := 8) hx hb hts in_X2 tyX2 tyX2_ok nmX2 hown hK hP hD hS 0 rfl rfl 4 (by decide) (hts _ q162) (fun _ h9 => h9) rfl hnm rfl (by decide +kernel) rfl rfl (Nat.le_of_ble_eq_true rfl) dX2_init_25 (fun H locs hP hD hS => ?_)
  have hP : va_P D vwCl [(o, .inr (1, [.int 0, .int 0, .ref b1, .ref b2, .ref b3, .null, .null, .null])), (b1, .inl (d, 10, .inl (fun _ => 0))), (b2, .inl (d, 8, .inl (fun _ => 0))), (b3, .inl (d, 8, .inl (fun _ => 0)))] H := hP
  have hD : va_D A [(o, .inr (1, [.int 0, .int 0, .ref b1, .ref b2, .ref b3, .null, .null, .null])), (b1, .inl (d, 10, .inl (fun _ => 0))), (b2, .inl (d, 8, .inl (fun _ => 0))), (b3, .inl (d, 8, .inl (fun _ => 0)))] := hD
  refine lv_aload_n hx hb dX2_init_28 rfl (lv_at hl 0 rfl) ?_
  refine lv_sipush (v := 136) hx hb dX2_init_29 (by decide) ?_
  refine va_newa (D := D) (atype := .int) hx hb (hts _ q59) rfl hK hP hD hS hA (a0 := (136, .inl (fun _ => 0))) (fun _ => rfl) (by decide) (by decide) (by decide) (Nat.le_of_ble_eq_true rfl) (Nat.le_of_ble_eq_true rfl) dX2_init_32 (fun b4 cA H hK hP hD hS => ?_)
  have e9 := bt_oneA hK
  subst e9
  have hK : va_K D vwCl [(d, .int)] s := hK.sub [0] rfl
  have hP : va_P D vwCl [(o, .inr (1, [.int 0, .int 0, .ref b1, .ref b2, .ref b3, .null, .null, .null])), (b1, .inl (d, 10, .inl (fun _ => 0))), (b2, .inl (d, 8, .inl (fun _ => 0))), (b3, .inl (d, 8, .inl (fun _ => 0))), (b4, .inl (d, 136, .inl (fun _ => 0)))] H := hP
  have hD : va_D A [(o, .inr (1, [.int 0, .int 0, .ref b1, .ref b2, .ref b3, .null, .null, .null])), (b1, .inl (d, 10, .inl (fun _ => 0))), (b2, .inl (d, 8, .inl (fun _ => 0))), (b3, .inl (d, 8, .inl (fun _ => 0))), (b4, .inl (d, 136, .inl (fun _ => 0)))] := hD
  refine W.widen (k := 4) (n := 162) (Nat.le_of_ble_eq_true rfl) (Nat.le_of_ble_eq_true rfl) ?_
  refine va_putF (D := D) (ci := 1) (v := .ref b4) (ty := .array .int) (C := RX2) (T := TX2) (N := 8) hx hb hts in_X2 tyX2 tyX2_ok nmX2 hown hK hP hD hS 0 rfl rfl 5 (by decide) (hts _ q163) (fun _ h9 => h9) rfl hnm rfl (by decide +kernel) rfl rfl (Nat.le_of_ble_eq_true rfl) dX2_init_34 (fun H locs hP hD hS => ?_)
  have hP : va_P D vwCl [(o, .inr (1, [.int 0, .int 0, .ref b1, .ref b2, .ref b3, .ref b4, .null, .null])), (b1, .inl (d, 10, .inl (fun _ => 0))), (b2, .inl (d, 8, .inl (fun _ => 0))), (b3, .inl (d, 8, .inl (fun _ => 0))), (b4, .inl (d, 136, .inl (fun _ => 0)))] H := hP
  have hD : va_D A [(o, .inr (1, [.int 0, .int 0, .ref b1, .ref b2, .ref b3, .ref b4, .null, .null])), (b1, .inl (d, 10, .inl (fun _ => 0))), (b2, .inl (d, 8, .inl (fun _ => 0))), (b3, .inl (d, 8, .inl (fun _ => 0))), (b4, .inl (d, 136, .inl (fun _ => 0)))] := hD
  refine lv_aload_n hx hb dX2_init_37 rfl (lv_at hl 0 rfl) ?_
  refine lv_sipush (v := 136) hx hb dX2_init_38 (by decide) ?_
  refine va_newa (D := D) (atype := .int) hx hb (hts _ q59) rfl hK hP hD hS hA (a0 := (136, .inl (fun _ => 0))) (fun _ => rfl) (by decide) (by decide) (by decide) (Nat.le_of_ble_eq_true rfl) (Nat.le_of_ble_eq_true rfl) dX2_init_41 (fun b5 cA H hK hP hD hS => ?_)
  have e9 := bt_oneA hK
  subst e9
  have hK : va_K D vwCl [(d, .int)] s := hK.sub [0] rfl
  have hP : va_P D vwCl [(o, .inr (1, [.int 0, .int 0, .ref b1, .ref b2, .ref b3, .ref b4, .null, .null])), (b1, .inl (d, 10, .inl (fun _ => 0))), (b2, .inl (d, 8, .inl (fun _ => 0))), (b3, .inl (d, 8, .inl (fun _ => 0))), (b4, .inl (d, 136, .inl (fun _ => 0))), (b5, .inl (d, 136, .inl (fun _ => 0)))] H := hP
  have hD : va_D A [(o, .inr (1, [.int 0, .int 0, .ref b1, .ref b2, .ref b3, .ref b4, .null, .null])), (b1, .inl (d, 10, .inl (fun _ => 0))), (b2, .inl (d, 8, .inl (fun _ => 0))), (b3, .inl (d, 8, .inl (fun _ => 0))), (b4, .inl (d, 136, .inl (fun _ => 0))), (b5, .inl (d, 136, .inl (fun _ => 0)))] := hD
  refine W.widen (k := 5) (n := 298) (Nat.le_of_ble_eq_true rfl) (Nat.le_of_ble_eq_true rfl) ?_
  refine va_putF (D := D) (ci := 1) (v := .ref b5) (ty := .array .int) (C := RX2) (T := TX2) (N := 8) hx hb hts in_X2 tyX2 tyX2_ok nmX2 hown hK hP hD hS 0 rfl rfl 6 (by decide) (hts _ q164) (fun _ h9 => h9) rfl hnm rfl (by decide +kernel) rfl rfl (Nat.le_of_ble_eq_true rfl) dX2_init_43 (fun H locs hP hD hS => ?_)
  have hP : va_P D vwCl [(o, .inr (1, [.int 0, .int 0, .ref b1, .ref b2, .ref b3, .ref b4, .ref b5, .null])), (b1, .inl (d, 10, .inl (fun _ => 0))), (b2, .inl (d, 8, .inl (fun _ => 0))), (b3, .inl (d, 8, .inl (fun _ => 0))), (b4, .inl (d, 136, .inl (fun _ => 0))), (b5, .inl (d, 136, .inl (fun _ => 0)))] H := hP
  have hD : va_D A [(o, .inr (1, [.int 0, .int 0, .ref b1, .ref b2, .ref b3, .ref b4, .ref b5, .null])), (b1, .inl (d, 10, .inl (fun _ => 0))), (b2, .inl (d, 8, .inl (fun _ => 0))), (b3, .inl (d, 8, .inl (fun _ => 0))), (b4, .inl (d, 136, .inl (fun _ => 0))), (b5, .inl (d, 136, .inl (fun _ => 0)))] := hD
  refine lv_aload_n hx hb dX2_init_46 rfl (lv_at hl 0 rfl) ?_
  refine lv_sipush (v := 128) hx hb dX2_init_47 (by decide) ?_
  refine va_newa (D := D) (atype := .int) hx hb (hts _ q59) rfl hK hP hD hS hA (a0 := (128, .inl (fun _ => 0))) (fun _ => rfl) (by decide) (by decide) (by decide) (Nat.le_of_ble_eq_true rfl) (Nat.le_of_ble_eq_true rfl) dX2_init_50 (fun b6 cA H hK hP hD hS => ?_)
  have e9 := bt_oneA hK
  subst e9
  have hK : va_K D vwCl [(d, .int)] s := hK.sub [0] rfl
  have hP : va_P D vwCl [(o, .inr (1, [.int 0, .int 0, .ref b1, .ref b2, .ref b3, .ref b4, .ref b5, .null])), (b1, .inl (d, 10, .inl (fun _ => 0))), (b2, .inl (d, 8, .inl (fun _ => 0))), (b3, .inl (d, 8, .inl (fun _ => 0))), (b4, .inl (d, 136, .inl (fun _ => 0))), (b5, .inl (d, 136, .inl (fun _ => 0))), (b6, .inl (d, 128, .inl (fun _ => 0)))] H := hP
  have hD : va_D A [(o, .inr (1, [.int 0, .int 0, .ref b1, .ref b2, .ref b3, .ref b4, .ref b5, .null])), (b1, .inl (d, 10, .inl (fun _ => 0))), (b2, .inl (d, 8, .inl (fun _ => 0))), (b3, .inl (d, 8, .inl (fun _ => 0))), (b4, .inl (d, 136, .inl (fun _ => 0))), (b5, .inl (d, 136, .inl (fun _ => 0))), (b6, .inl (d, 128, .inl (fun _ => 0)))] := hD
  refine W.widen (k := 6) (n := 426) (Nat.le_of_ble_eq_true rfl) (Nat.le_of_ble_eq_true rfl) ?_
  refine va_putF (D := D) (ci := 1) (v := .ref b6) (ty := .array .int) (C := RX2) (T := TX2) (N := 8) hx hb hts in_X2 tyX2 tyX2_ok nmX2 hown hK hP hD hS 0 rfl rfl 7 (by decide) (hts _ q165) (fun _ h9 => h9) rfl hnm rfl (by decide +kernel) rfl rfl (Nat.le_of_ble_eq_true rfl) dX2_init_52 (fun H locs hP hD hS => ?_)
  have hP : va_P D vwCl [(o, .inr (1, [.int 0, .int 0, .ref b1, .ref b2, .ref b3, .ref b4, .ref b5, .ref b6])), (b1, .inl (d, 10, .inl (fun _ => 0))), (b2, .inl (d, 8, .inl (fun _ => 0))), (b3, .inl (d, 8, .inl (fun _ => 0))), (b4, .inl (d, 136, .inl (fun _ => 0))), (b5, .inl (d, 136, .inl (fun _ => 0))), (b6, .inl (d, 128, .inl (fun _ => 0)))] H := hP
  have hD : va_D A [(o, .inr (1, [.int 0, .int 0, .ref b1, .ref b2, .ref b3, .ref b4, .ref b5, .ref b6])), (b1, .inl (d, 10, .inl (fun _ => 0))), (b2, .inl (d, 8, .inl (fun _ => 0))), (b3, .inl (d, 8, .inl (fun _ => 0))), (b4, .inl (d, 136, .inl (fun _ => 0))), (b5, .inl (d, 136, .inl (fun _ => 0))), (b6, .inl (d, 128, .inl (fun _ => 0)))] := hD
  refine lv_aload_n hx hb dX2_init_55 rfl (lv_at hl 0 rfl) ?_
  refine bt_cut (g2 := F0 m 76 ls [.int (nI (bt_cl x)), .ref o]) ?_ (fun K => ?_)
  · refine va_putF (D := D) (ci := 1) (v := .int (nI (bt_cl x))) (ty := .int) (C := RX2) (T := TX2) (N := 8) hx hb hts in_X2 tyX2 tyX2_ok nmX2 hown hK hP hD hS 0 rfl rfl 0 (by decide) (hts _ q158) (fun _ h9 => h9) rfl hnm rfl (by decide +kernel) rfl rfl (Nat.le_of_ble_eq_true rfl) dX2_init_76 (fun H locs hP hD hS => ?_)
    have hP : va_P D vwCl (wM o b1 b2 b3 b4 b5 b6 d (bt_cl x) 0 (fun _ => 0) (fun _ => 0) (fun _ => 0) (fun _ => 0) (fun _ => 0) (fun _ => 0)) H := hP
    have hD : va_D A (wM o b1 b2 b3 b4 b5 b6 d (bt_cl x) 0 (fun _ => 0) (fun _ => 0) (fun _ => 0) (fun _ => 0) (fun _ => 0) (fun _ => 0)) := hD
    refine lv_aload_n hx hb dX2_init_79 rfl (lv_at hl 0 rfl) ?_
    refine bt_cWv (As := []) (rest := []) (b := o) (ci := 1) (q0 := 0) (wr := []) ⟨hx, hb, hml, hown, hts⟩ (wM_forgetAll l D o b1 b2 b3 b4 b5 b6 d (bt_cl x) 0 (fun _ => 0) (fun _ => 0) (fun _ => 0) (fun _ => 0) (fun _ => 0) (fun _ => 0) H.size) 0 (lw_V q154 q156 qs8 q21 q157) ⟨rfl, rfl⟩ (by decide +kernel) ⟨Nat.le_of_ble_eq_true rfl, Nat.le_of_ble_eq_true rfl⟩ hK hP hD hS hA [0, 1, 2, 3, 4, 5, 6] [] rfl rfl (by decide) (by decide) (by decide) rfl rfl rfl hl.1 rfl (Nat.le_of_ble_eq_true rfl) dX2_init_80 ⟨Nat.le_of_ble_eq_true rfl, Nat.le_of_ble_eq_true rfl⟩ (fun H locs hP hD hS => ?_)
    have hP : va_P D vwCl (wM o b1 b2 b3 b4 b5 b6 d (bt_cl x) 0 (bt_fill (fun _ => 0) (-1) 10) (bt_fill (fun _ => 0) (-1) 8) (fun _ => 0) (bt_fill (fun _ => 0) (-1) 136) (fun _ => 0) (bt_fill (fun _ => 0) (-1) 128)) H := hP
    have hD : va_D A (wM o b1 b2 b3 b4 b5 b6 d (bt_cl x) 0 (bt_fill (fun _ => 0) (-1) 10) (bt_fill (fun _ => 0) (-1) 8) (fun _ => 0) (bt_fill (fun _ => 0) (-1) 136) (fun _ => 0) (bt_fill (fun _ => 0) (-1) 128)) := hD
    exact W.vret hx hb hr (fun t ht hW => ⟨⟨(b1, b2, b3, b4, b5, b6), rfl, trivial, by rw [ht]; exact hP, va_K.moved hW.alike hK, hD⟩, hS.F ht⟩) hS.2.2 dX2_init_83 hlk
  · refine lv_iload_n hx hb dX2_init_56 rfl (lv_at hl 1 rfl) ?_
    refine lv_if_ge (tgt := 64) hx hb dX2_init_57 (by decide) (fun c_57 => ?_) (fun c_57 => ?_)
    · refine lv_iload_n hx hb dX2_init_64 rfl (lv_at hl 1 rfl) ?_
      refine lv_bipush (v := 9) hx hb dX2_init_65 (by decide) ?_
      refine lv_icmp_le (tgt := 75) hx hb dX2_init_67 (by decide) (fun c_67 => ?_) (fun c_67 => ?_)
      · refine lv_iload_n hx hb dX2_init_75 rfl (lv_at hl 1 rfl) ?_
        exact bt_top (y := nI (bt_cl x)) (by rw [bt_cl_eq]; grind) K
      · refine lv_bipush (v := 9) hx hb dX2_init_70 (by decide) ?_
        refine lv_goto (tgt := 76) hx hb dX2_init_72 (by decide) ?_
        exact bt_top (y := nI (bt_cl x)) (by rw [bt_cl_eq]; grind) K
    · refine lv_iconst (v := 0) hx hb dX2_init_60 (by decide) ?_
      refine lv_goto (tgt := 76) hx hb dX2_init_61 (by decide) ?_
      exact bt_top (y := nI (bt_cl x)) (by rw [bt_cl_eq]; grind) K
end
section
/-! the plain law: what BranchTimes holds against what its model holds; both answer alike, and stay so -/
def bt_Rel (t : Int32) (a b j h r f jj q : Nat → Int32) : Prop := (0 ≤ t ∧ t ≤ 100000) ∧ (∀ i, i < 10 → (h i = -1 ∧ a i = 0) ∨ (¬ h i = -1 ∧ a i = h i + 65)) ∧ (∀ i, i < 8 → (r i = -1 ∧ b i = 0) ∨ (¬ r i = -1 ∧ b i = ms_mv r f i)) ∧ (∀ i, i < 136 → (jj i = -1 ∧ j i = 0) ∨ (¬ jj i = -1 ∧ j i = ms_tv jj q i))
theorem bt_pos {t x : Int32} (h0 : 0 ≤ t) (h : ¬ x ≤ t) : ¬ x ≤ 0 ∧ ¬ x = 0 ∧ 0 < x := by
  simp only [Int32.lt_iff_toInt_lt, Int32.le_iff_toInt_le] at *
  have e0 : (0 : Int32).toInt = 0 := by decide
  refine ⟨by omega, ?_, by omega⟩
  intro e
  rw [e] at h
  omega
theorem bt_lt8 {g : Int32} (hg : bt_grp g = true) : g.toNatClampNeg < 8 := Nat.not_le.mp fun q => bt_inG hg (Or.inr q)
theorem bt_lt136 {g v : Int32} (hT : bt_tree g v = true) : (g * 17 + v + 1).toNatClampNeg < 136 := Nat.not_le.mp fun q => bt_inT hT (Or.inr q)
theorem bt_ixm (g v : Int32) : (17 * g + v + 1).toNatClampNeg = (g * 17 + v + 1).toNatClampNeg := by rw [bt_mulc 17 g]
theorem bt_ix6 (g v : Int32) : (16 * g + v).toNatClampNeg = (g * 16 + v).toNatClampNeg := by rw [bt_mulc 16 g]
section REL
variable {k : Nat} {t : Int32} {a b j u h r f jj q : Nat → Int32}
theorem la_near (R : bt_Rel t a b j h r f jj q) : ms_nb t h = xs_near t a := by
  refine bt_bits_cong (fun i hi => ?_)
  rcases R.2.1 i hi with ⟨h1, h2⟩ | ⟨h1, h2⟩
  · simp [h1, h2, R.1.1]
  · simp [h1, h2]
theorem la_mt (R : bt_Rel t a b j h r f jj q) {g : Int32} (hg : bt_grp g = true) : ms_mt t r f g = if b g.toNatClampNeg ≤ t then 0 else b g.toNatClampNeg := by
  unfold ms_mt
  rcases R.2.2.1 _ (bt_lt8 hg) with ⟨h1, h2⟩ | ⟨h1, h2⟩
  · rw [if_pos h1, h2, if_pos R.1.1]
  · rw [if_neg h1, h2]
theorem la_mt0 (R : bt_Rel t a b j h r f jj q) {g : Int32} (hg : bt_grp g = true) : decide (ms_mt t r f g = 0) = decide (b g.toNatClampNeg ≤ t) := by
  rw [la_mt R hg]
  by_cases c : b g.toNatClampNeg ≤ t
  · simp [c]
  · simp [c, (bt_pos R.1.1 c).2.1]
theorem la_mtl (R : bt_Rel t a b j h r f jj q) {g : Int32} (hg : bt_grp g = true) : decide (ms_mt t r f g ≤ 0) = decide (b g.toNatClampNeg ≤ t) := by
  rw [la_mt R hg]
  by_cases c : b g.toNatClampNeg ≤ t
  · simp [c]
  · rw [if_neg c, decide_eq_false c, decide_eq_false (bt_pos R.1.1 c).1]
theorem la_tl (R : bt_Rel t a b j h r f jj q) {g v : Int32} (hx : (g * 17 + v + 1).toNatClampNeg < 136) : ms_tl t jj q g v = if j (g * 17 + v + 1).toNatClampNeg ≤ t then 0 else j (g * 17 + v + 1).toNatClampNeg := by
  unfold ms_tl
  rw [bt_ixm]
  rcases R.2.2.2 _ hx with ⟨h1, h2⟩ | ⟨h1, h2⟩
  · rw [if_pos h1, h2, if_pos R.1.1]
  · rw [if_neg h1, h2]
theorem la_tl0 (R : bt_Rel t a b j h r f jj q) {g v : Int32} (hx : (g * 17 + v + 1).toNatClampNeg < 136) : decide (ms_tl t jj q g v = 0) = !xs_jd t j g v := by
  rw [la_tl R hx]
  unfold xs_jd
  by_cases c : j (g * 17 + v + 1).toNatClampNeg ≤ t
  · simp [c]
  · simp [c, (bt_pos R.1.1 c).2.1]
theorem la_tll (R : bt_Rel t a b j h r f jj q) {g v : Int32} (hx : (g * 17 + v + 1).toNatClampNeg < 136) : decide (ms_tl t jj q g v ≤ 0) = !xs_jd t j g v := by
  rw [la_tl R hx]
  unfold xs_jd
  by_cases c : j (g * 17 + v + 1).toNatClampNeg ≤ t
  · simp [c]
  · rw [if_neg c, decide_eq_false c, decide_eq_false (bt_pos R.1.1 c).1]
    rfl
theorem la_tlg (R : bt_Rel t a b j h r f jj q) {g v : Int32} (hx : (g * 17 + v + 1).toNatClampNeg < 136) : decide (0 < ms_tl t jj q g v) = xs_jd t j g v := by
  rw [la_tl R hx]
  unfold xs_jd
  by_cases c : j (g * 17 + v + 1).toNatClampNeg ≤ t
  · rw [if_pos c, decide_eq_true c]
    decide
  · rw [if_neg c, decide_eq_false c, decide_eq_true (bt_pos R.1.1 c).2.2]
    rfl
theorem la_was (R : bt_Rel t a b j h r f jj q) {g v : Int32} (hT : bt_tree g v = true) : ms_was t jj q g v = xs_jd t j g v := by
  unfold ms_was
  rw [la_tll R (bt_lt136 hT), Bool.not_not]
theorem la_fr (R : bt_Rel t a b j h r f jj q) : ms_fr t h = xs_fr t a := by
  unfold ms_fr xs_fr
  rw [la_near R]
  by_cases c : bt_crw (xs_near t a) = true
  · rw [if_pos c, if_pos c]
  · rw [if_neg c, if_neg c, bt_add0]
theorem la_hok (n : Int32) : ms_hok k n = xs_hok k n := by
  have e : decide (9 < n) = decide (10 ≤ n) := by
    have : (9 : Int32) < n ↔ 10 ≤ n := by
      simp only [Int32.lt_iff_toInt_lt, Int32.le_iff_toInt_le]
      have e0 : (9 : Int32).toInt = 9 := by decide
      have e1 : (10 : Int32).toInt = 10 := by decide
      omega
    exact decide_eq_decide.mpr this
  unfold ms_hok xs_hok
  rw [e]
theorem la_lok (R : bt_Rel t a b j h r f jj q) (g : Int32) : ms_lok k t h r f g = xs_lok k t a b g := by
  unfold ms_lok xs_lok
  rw [la_near R]
  cases hg : bt_grp g with
  | false => rfl
  | true => rw [la_mt0 R hg]
theorem la_pok (R : bt_Rel t a b j h r f jj q) (g v : Int32) : ms_pok t jj q g v = xs_pok t j g v := by
  unfold ms_pok xs_pok
  cases hT : bt_tree g v with
  | false => rfl
  | true => rw [la_tl0 R (bt_lt136 hT), Bool.not_not]
-- ===== answers
theorem la_joined (R : bt_Rel t a b j h r f jj q) (g v : Int32) : ms_joined t jj q g v = xs_joined t j g v := by
  unfold ms_joined xs_joined
  by_cases hT : bt_tree g v = true
  · rw [if_pos hT, if_pos hT, la_tl R (bt_lt136 hT)]
    unfold xs_jd
    by_cases c : j (g * 17 + v + 1).toNatClampNeg ≤ t
    · simp [c]
    · simp [c]
  · rw [if_neg hT, if_neg hT]
theorem la_cut (R : bt_Rel t a b j h r f jj q) (g v : Int32) : ms_cut t jj q u g v = xs_cut t j u g v := by
  unfold ms_cut xs_cut
  by_cases hT : bt_tree g v = true ∧ ¬ v = -1
  · rw [if_pos hT, if_pos hT, bt_ix6]
    have h0 := la_tl0 R (bt_lt136 (bt_tree0 (bt_tree_s hT.1).1))
    cases c : xs_jd t j g (-1) with
    | true =>
      rw [c] at h0
      have h1 : ¬ ms_tl t jj q g (-1) = 0 := by simpa using h0
      by_cases c2 : u (g * 16 + v).toNatClampNeg = -1
      · simp [c2]
      · simp [c2, h1]
    | false =>
      rw [c] at h0
      have h1 : ms_tl t jj q g (-1) = 0 := by simpa using h0
      simp [h1]
  · rw [if_neg hT, if_neg hT]
theorem la_members (R : bt_Rel t a b j h r f jj q) (g : Int32) : ms_members t r f g = xs_members t b g := by
  unfold ms_members xs_members
  by_cases hg : bt_grp g = true
  · rw [if_pos hg, if_pos hg, la_mt R hg]
  · rw [if_neg hg, if_neg hg]
theorem la_go (R : bt_Rel t a b j h r f jj q) {g v : Int32} (hg : bt_grp g = true) (hT : bt_tree g v = true) : ms_go k t h r f jj q u g v = xs_go k t a b j u g v := by
  unfold ms_go xs_go ms_own ms_co xs_isCut
  rw [la_tlg R (bt_lt136 hT), la_tll R (bt_lt136 (bt_tree0 hg)), la_mtl R hg, la_near R, bt_ix6]
  generalize xs_jd t j g (-1) = x1
  generalize xs_jd t j g v = x2
  generalize (!decide (b g.toNatClampNeg ≤ t) && bt_fst (xs_near t a) k) = x3
  generalize (!decide (u (g * 16 + v).toNatClampNeg = -1) && !decide (t < u (g * 16 + v).toNatClampNeg)) = x4
  cases x1 <;> cases x2 <;> cases x3 <;> cases x4 <;> rfl
theorem la_goes (R : bt_Rel t a b j h r f jj q) (g : Int32) : ms_goes k t h r f jj q u g = xs_goes k t a b j u g := by
  unfold ms_goes xs_goes
  by_cases hg : bt_grp g = true
  · rw [if_pos hg, if_pos hg, bt_bits_cong (fun i hi => la_go R hg (bt_treeN hg hi))]
  · rw [if_neg hg, if_neg hg]
theorem la_groups (R : bt_Rel t a b j h r f jj q) : ms_going k t h r f jj q u = xs_groups k t a b j u := by
  refine bt_bits_cong (fun i hi => ?_)
  rw [la_goes R]
theorem la_branches (R : bt_Rel t a b j h r f jj q) : ms_branches t jj q = xs_branches t j := by
  refine bt_cnt_cong (fun i hi => ?_)
  have e : (nI (i / 17) * 17 + (nI (i % 17) - 1) + 1).toNatClampNeg = i := by
    rw [← bt_ixm]
    exact bt_ixB i hi
  rw [la_tll R (by rw [e]; exact hi)]
  unfold xs_jd
  rw [e]
  cases decide (j i ≤ t) <;> rfl
theorem la_look (R : bt_Rel t a b j h r f jj q) (w : Int32) : ms_look k t h r f jj q u w = xs_look k t a b j u w := by
  unfold ms_look xs_look
  rw [la_near R, la_groups R, la_branches R]
-- ===== what stays so
theorem lr_tick (R : bt_Rel t a b j h r f jj q) (n : Int32) : bt_Rel (bt_tickT t n) a b j h r f jj q := by
  refine ⟨?_, R.2⟩
  obtain ⟨h1, h2⟩ := R.1
  unfold bt_tickT
  by_cases c : bt_tk t n = true
  · rw [if_pos c]
    unfold bt_tk at c
    simp only [Bool.and_eq_true, Bool.not_eq_true', decide_eq_false_iff_not, decide_eq_true_eq] at c
    obtain ⟨c1, c2, c3⟩ := c
    refine ⟨?_, c3⟩
    simp only [Int32.lt_iff_toInt_lt, Int32.le_iff_toInt_le] at *
    have e0 : (0 : Int32).toInt = 0 := by decide
    have e1 : (1 : Int32).toInt = 1 := by decide
    have e2 : (100 : Int32).toInt = 100 := by decide
    have e3 : (100000 : Int32).toInt = 100000 := by decide
    have e4 : (t + n).toInt = t.toInt + n.toInt := by
      rw [Int32.toInt_add]
      apply Int.bmod_eq_of_le <;> omega
    omega
  · rw [if_neg c]
    exact ⟨h1, h2⟩
theorem lr_hello (R : bt_Rel t a b j h r f jj q) (n : Int32) : bt_Rel t (xs_helloA k t a n) b j (ms_helloH k t h n) r f jj q := by
  unfold xs_helloA ms_helloH
  rw [la_hok]
  by_cases c : xs_hok k n = true
  · rw [if_pos c, if_pos c]
    refine ⟨R.1, fun i hi => ?_, R.2.2⟩
    by_cases e : i = n.toNatClampNeg
    · refine Or.inr ⟨?_, ?_⟩
      · rw [e, pk_us]
        intro e2
        have := R.1.1
        rw [e2] at this
        exact absurd this (by decide)
      · rw [e, pk_us, pk_us]
    · rw [pk_un e, pk_un e]
      exact R.2.1 i hi
  · rw [if_neg c, if_neg c]
    exact R
theorem bt_far {t x : Int32} (h1 : 0 ≤ t) (h2 : t ≤ 100000) (hx : x = 60 ∨ x = 70) : t + x ≤ 1000000 := by
  have e4 : (t + x).toInt = t.toInt + x.toInt := by
    rw [Int32.toInt_add]
    simp only [Int32.le_iff_toInt_le] at *
    have e0 : (0 : Int32).toInt = 0 := by decide
    have e3 : (100000 : Int32).toInt = 100000 := by decide
    have e5 : (60 : Int32).toInt = 60 := by decide
    have e6 : (70 : Int32).toInt = 70 := by decide
    apply Int.bmod_eq_of_le <;> rcases hx with hx | hx <;> rw [hx] <;> omega
  simp only [Int32.le_iff_toInt_le] at *
  have e3 : (100000 : Int32).toInt = 100000 := by decide
  have e7 : (1000000 : Int32).toInt = 1000000 := by decide
  have e5 : (60 : Int32).toInt = 60 := by decide
  have e6 : (70 : Int32).toInt = 70 := by decide
  rw [e4]
  rcases hx with hx | hx <;> rw [hx] <;> omega
theorem lr_report (R : bt_Rel t a b j h r f jj q) (g : Int32) : bt_Rel t a (xs_reportB t b g) j h (ms_reportR t r g) (ms_reportF f g) jj q := by
  unfold xs_reportB ms_reportR ms_reportF
  by_cases c : bt_grp g = true
  · rw [if_pos c, if_pos c, if_pos c]
    refine ⟨R.1, R.2.1, fun i hi => ?_, R.2.2.2⟩
    by_cases e : i = g.toNatClampNeg
    · refine Or.inr ⟨?_, ?_⟩
      · rw [e, pk_us]
        intro e2
        have := R.1.1
        rw [e2] at this
        exact absurd this (by decide)
      · unfold ms_mv
        rw [e, pk_us, pk_us, pk_us, if_pos (bt_far R.1.1 R.1.2 (Or.inl rfl))]
    · unfold ms_mv
      rw [pk_un e, pk_un e, pk_un e]
      exact R.2.2.1 i hi
  · rw [if_neg c, if_neg c, if_neg c]
    exact R
/-- the less of two, said in two ways -/
theorem bt_min3 (x y z : Int32) : (if z < (if x ≤ y then x else y) then z else (if x ≤ y then x else y)) = if x ≤ (if y ≤ z then y else z) then x else (if y ≤ z then y else z) := by
  by_cases c1 : x ≤ y <;> by_cases c2 : y ≤ z <;> by_cases c3 : x ≤ z <;> by_cases c4 : z < x <;> by_cases c5 : z < y <;> simp only [c1, c2, c3, c4, c5, if_true, if_false] <;>
    (simp only [Int32.lt_iff_toInt_lt, Int32.le_iff_toInt_le] at *; first | rfl | (exfalso; omega) | (apply Int32.toInt_inj.mp; omega))
theorem lr_leave (R : bt_Rel t a b j h r f jj q) (g : Int32) : bt_Rel t a (xs_leaveB k t a b g) j h r (ms_leaveF k t h r f g) jj q := by
  unfold xs_leaveB ms_leaveF
  rw [la_lok R]
  by_cases c : xs_lok k t a b g = true
  · rw [if_pos c, if_pos c]
    have c2 := c
    unfold xs_lok at c2
    simp only [Bool.and_eq_true, Bool.not_eq_true', decide_eq_false_iff_not] at c2
    refine ⟨R.1, R.2.1, fun i hi => ?_, R.2.2.2⟩
    by_cases e : i = g.toNatClampNeg
    · rcases R.2.2.1 i hi with ⟨h1, h2⟩ | ⟨h1, h2⟩
      · rw [e] at h2
        rw [h2] at c2
        exact absurd R.1.1 c2.2.1
      · refine Or.inr ⟨h1, ?_⟩
        unfold ms_mv at h2 ⊢
        rw [e] at h2 ⊢
        rw [pk_us, pk_us, h2]
        exact bt_min3 _ _ _
    · unfold ms_mv
      rw [pk_un e, pk_un e]
      exact R.2.2.1 i hi
  · rw [if_neg c, if_neg c]
    exact R
theorem lr_join (R : bt_Rel t a b j h r f jj q) (g v : Int32) : bt_Rel t a b (xs_joinJ t j g v) h r f (ms_joinJ t jj g v) (ms_joinQ q g v) := by
  unfold xs_joinJ ms_joinJ ms_joinQ
  by_cases c : bt_tree g v = true
  · rw [if_pos c, if_pos c, if_pos c, bt_ixm]
    refine ⟨R.1, R.2.1, R.2.2.1, fun i hi => ?_⟩
    by_cases e : i = (g * 17 + v + 1).toNatClampNeg
    · refine Or.inr ⟨?_, ?_⟩
      · rw [e, pk_us]
        intro e2
        have := R.1.1
        rw [e2] at this
        exact absurd this (by decide)
      · unfold ms_tv
        rw [e, pk_us, pk_us, pk_us, if_pos (bt_far R.1.1 R.1.2 (Or.inr rfl))]
    · unfold ms_tv
      rw [pk_un e, pk_un e, pk_un e]
      exact R.2.2.2 i hi
  · rw [if_neg c, if_neg c, if_neg c]
    exact R
theorem bt_and1 (x : Int32) : x &&& 1 = 0 ∨ x &&& 1 = 1 := by
  have h := pk_and x (m := 1) 1 (by decide)
  rw [h]
  rcases Nat.mod_two_eq_zero_or_one x.toBitVec.toNat with e | e
  · exact Or.inl (by rw [show 2 ^ 1 = 2 from rfl, e]; decide)
  · exact Or.inr (by rw [show 2 ^ 1 = 2 from rfl, e]; decide)
theorem la_told (z : Int32) : ms_told z = xs_told z := by
  funext i
  unfold ms_told xs_told
  rcases bt_and1 (z >>> (nI i &&& 31)) with e | e
  · rw [e]
    decide
  · rw [e]
    decide
theorem la_ix (g : Int32) : ms_ix g = xs_ix g := by
  funext i
  unfold ms_ix xs_ix
  exact bt_ix6 g (nI i)
theorem la_joinU (R : bt_Rel t a b j h r f jj q) (g v z : Int32) : ms_joinU t h jj q u g v z = xs_joinU t a j u g v z := by
  unfold ms_joinU xs_joinU
  by_cases c : bt_tree g v = true ∧ v = -1
  · rw [if_pos c, if_pos c, la_told, la_ix, la_was R c.1, la_fr R]
  · rw [if_neg c, if_neg c]
theorem lr_prune (R : bt_Rel t a b j h r f jj q) (g v : Int32) : bt_Rel t a b (xs_pruneJ t a j g v) h r f jj (ms_pruneQ t h jj q g v) := by
  unfold xs_pruneJ ms_pruneQ
  rw [la_pok R]
  by_cases c : xs_pok t j g v = true
  · rw [if_pos c, if_pos c, la_fr R, bt_ixm]
    have c2 := c
    unfold xs_pok xs_jd at c2
    simp only [Bool.and_eq_true, Bool.not_eq_true', decide_eq_false_iff_not] at c2
    refine ⟨R.1, R.2.1, R.2.2.1, fun i hi => ?_⟩
    by_cases e : i = (g * 17 + v + 1).toNatClampNeg
    · rcases R.2.2.2 i hi with ⟨h1, h2⟩ | ⟨h1, h2⟩
      · rw [e] at h2
        rw [h2] at c2
        exact absurd R.1.1 c2.2
      · refine Or.inr ⟨h1, ?_⟩
        unfold ms_tv at h2 ⊢
        rw [e] at h2 ⊢
        rw [pk_us, pk_us, h2]
        exact bt_min3 _ _ _
    · unfold ms_tv
      rw [pk_un e, pk_un e]
      exact R.2.2.2 i hi
  · rw [if_neg c, if_neg c]
    exact R
theorem lr_forget (R : bt_Rel t a b j h r f jj q) : bt_Rel t (bt_fill a 0 10) (bt_fill b 0 8) (bt_fill j 0 136) (bt_fill h (-1) 10) (bt_fill r (-1) 8) f (bt_fill jj (-1) 136) q := by
  refine ⟨R.1, fun i hi => Or.inl ?_, fun i hi => Or.inl ?_, fun i hi => Or.inl ?_⟩ <;> simp [bt_fill, hi]
theorem lr_init : bt_Rel 0 (bt_fill (fun _ => 0) 0 10) (bt_fill (fun _ => 0) 0 8) (bt_fill (fun _ => 0) 0 136) (bt_fill (fun _ => 0) (-1) 10) (bt_fill (fun _ => 0) (-1) 8) (fun _ => 0) (bt_fill (fun _ => 0) (-1) 136) (fun _ => 0) := by
  refine ⟨by decide, fun i hi => Or.inl ?_, fun i hi => Or.inl ?_, fun i hi => Or.inl ?_⟩ <;> simp [bt_fill, hi]
end REL
end
section
/-! the law: the words of the claim's end (out of the skeleton), its own method, its state -/
def R_law : String := "BranchTimesLaw"
def lw_P (b : Addr) (xs : List Int32) (args : Array Value) (s : State) : Prop := args = #[.ref b] ∧ s.IntsAt b xs ∧ xs.length ≤ 257 ∧ (Jvm.Cond.and given_1 narrow_1).before args s = true
def lw_Q (_ : Array Value) (s : State) (o : Outcome) (t : State) : Prop := o = .returned (some (.int 1)) ∧ Framed s o t [] 600000 7290000
def lw_Z (below : List Frame) (a : Array Value) (s : State) : State → Prop := fun t => ∃ o, t.status = .running ∧ Ended t below o ∧ lw_Q a s o t
/-- the law's own end, with 1 on the stack, nothing written that was there before, its room as the claim has it -/
theorem lw_ret {p : Program} {l : Launch} {e : Env} {s : State} {m : MethodId} {below : List Frame} {meth : Method} {c : Code} {b : Nat} (hx : p.tables.exec = Jvm.exec) (hb : c.code = code) (hr : meth.sig.returnType = ret) (hlocks : meth.locks = false) {pc : Nat} {H : Heap} {ls : Array Slot} (hdg : decode code pc = .ok (.ireturn, 1)) : W p l e room_1 s m #[Value.ref b] below meth c H [] 600000 7290000 (lw_Z below #[Value.ref b] s) (F0 m pc ls [.int 1]) := by
  intro T hT X
  obtain ⟨fs, hret, hrun, hended, hW, hframe⟩ := X.leave (v := some (.int 1)) (hlocks := hlocks) (fun h => by rw [hr] at h; cases h)
  have hmeth' : T.vm.method? m = some meth := X.method'
  refine ⟨T.setFrames fs, ?_, .returned (some (.int 1)), hrun, hended, rfl, ⟨_, rfl⟩, hW, hframe⟩
  jvm_step X.here [X.here.top, hx, hb, hdg, hmeth', hr, ret, narrow_b1]
  (try refine ⟨rfl, ?_⟩); (try refine ⟨rfl, ?_⟩)
  first | (intro acts; rw [hret _ acts rfl rfl rfl]) | rw [hret _ _ rfl rfl rfl]
  exact Steps.refl _
/-- what holds at the law's entry: the machine, the code, the tables' words (any of lw_tbl by 'hts w (by decide +kernel)'), the script of L ints xs at the cell b, what the Statement gives of the start (any of its parts by flat_of_before) -/
def lw_At (p : Program) (s : State) (m : MethodId) (meth : Method) (c : Code) (b L : Nat) (xs : Nat → Int32) : Prop :=
  p.tables.exec = Jvm.exec ∧ c.code = code ∧ meth.sig.returnType = ret ∧ c.maxLocals = 4 ∧ s.vm.findClass R_law = some m.cls ∧ (∀ w ∈ lw_tbl, w.before #[Value.ref b] s = true) ∧ va_X b L xs s s.heap ∧ b < s.heap.size ∧ meth.locks = false ∧ (Jvm.Cond.and given_1 narrow_1).before #[Value.ref b] s = true
def bt_arg (L : Nat) (xs : Nat → Int32) : Int32 := if L = 0 then 0 else xs 0
set_option maxHeartbeats 4000000 in
set_option maxRecDepth 100000 in
theorem rL_cell (l : Launch) (bs L : Nat) (xs : Nat → Int32) (hL : L ≤ 257) : Met l yX0_cell (ws_ yX0_cell cX0_cell 2 (some .int)) ({ frames := 0, cells := 0, slots := 0, locals := 0 } : Room) (va_Pc [.ref bs, .int 0] (fun U => va_X bs L xs U U.heap)) (QcRead (bt_arg L xs)) 0 0 (fun _ => False) := by
  refine bt_met (by decide) (Nat.le_of_ble_eq_true rfl) ?_
  intro p e s m below meth c ls hx hb hr hlk hml hown hts hnm hl hX
  have hown : s.vm.findClass RX0 = some m.cls := hown
  have hl : lv_has ls 2 [(0, .ref bs), (1, .int 0)] := hl
  have hbl : bs < s.heap.size := by
    obtain ⟨scr, h1, -⟩ := hX
    exact (Array.getElem?_eq_some_iff.mp h1).1
  have hbA : ¬ (fun _ : Nat => False) bs := fun q => q
  have hS : va_S (fun _ => False) s.heap s.heap [] := va_S.rf
  refine lv_iload_n hx hb dX0_cell_0 rfl (lv_at hl 1 rfl) ?_
  refine lv_aload_n hx hb dX0_cell_1 rfl (lv_at hl 0 rfl) ?_
  refine va_slen hx hb hX hbl hbA hS dX0_cell_2 ?_
  refine lv_icmp_ge (tgt := 12) hx hb dX0_cell_3 (by decide) (fun c_3 => ?_) (fun c_3 => ?_)
  · have h0 : L = 0 := by
      have h1 : nI L ≤ nI 0 := c_3
      have h2 := (nI_leI (by omega) (by decide)).mp h1
      omega
    refine lv_iconst (v := 0) hx hb dX0_cell_12 (by decide) ?_
    exact bt_ri hx hb hr hlk (by unfold bt_arg; rw [if_pos h0]) dX0_cell_13
  · have h0 : ¬ L = 0 := by
      intro h1
      rw [h1] at c_3
      exact c_3 (by decide)
    refine lv_aload_n hx hb dX0_cell_6 rfl (lv_at hl 0 rfl) ?_
    refine lv_iload_n hx hb dX0_cell_7 rfl (lv_at hl 1 rfl) ?_
    refine va_sld hx hb hX hbl hbA hS (vp_in_nI (n := 0) (N := L) (by omega) (by omega)) dX0_cell_8 ?_
    refine lv_goto (tgt := 13) hx hb dX0_cell_9 (by decide) ?_
    exact bt_ri hx hb hr hlk (by unfold bt_arg; rw [if_neg h0]; rfl) dX0_cell_13
/-- the script read at a counted place -/
theorem bt_sld {p : Program} {l : Launch} {e : Env} {R : Room} {s : State} {m : MethodId} {args : Array Value} {below : List Frame} {meth : Method} {c : Code} {H : Heap} {locs : List Loc} {cells slots : Nat} {Q : State → Prop} {cc : ByteArray} {pc : Nat} {ls : Array Slot} {rest : List Value} {A : Nat → Prop} {H0 : Heap} (hexec : p.tables.exec = Jvm.exec) (hb : c.code = cc) {b L : Nat} {xs : Nat → Int32} (hX : va_X b L xs s H0) (hbl : b < H0.size) (hbA : ¬ A b) (hS : va_S A H0 H locs) {i : Nat} (hi : i < L) (hL : L ≤ 257) (hdg : decode cc pc = .ok (.iaload, 1))
    (kk : W p l e R s m args below meth c H locs cells slots Q (F0 m (pc + 1) ls (.int (xs i) :: rest))) : W p l e R s m args below meth c H locs cells slots Q (F0 m pc ls (.int (nI i) :: .ref b :: rest)) := by
  refine va_sld hexec hb hX hbl hbA hS (vp_in_nI hi (by omega)) hdg ?_
  rw [nI_clamp (show i < 2 ^ 31 by omega)]
  exact kk
theorem bt_head {L i : Nat} (hL : L ≤ 257) (hi : i ≤ 1000) (h : ¬ nI L - 4 < nI i) : i + 4 ≤ L := by
  rw [Int32.lt_iff_toInt_lt] at h
  have e : (nI L - nI 4).toInt = (L : Int) - (4 : Nat) := pk_sub_toInt (by omega) (by decide)
  have e2 : (nI i).toInt = (i : Int) := nI_toInt (by omega)
  have e3 : nI L - 4 = nI L - nI 4 := rfl
  rw [e3, e, e2] at h
  omega
/-- between two calls: both objects' cells, alike; the law's locals -/
def lw_St (D : va_G) (s : State) (bs h a1 a2 a3 a4 o b1 b2 b3 b4 b5 b6 : Nat) (d : ClassId) (k i : Nat) (t : Int32) (a b j u hh r f jj q : Nat → Int32) (H : Heap) (locs : List Loc) (ls : Array Slot) : Prop := bt_Rel t a b j hh r f jj q ∧ va_P D vwCl (wX h a1 a2 a3 a4 d k t a b j u ++ wM o b1 b2 b3 b4 b5 b6 d k t hh r f jj q u) H ∧ va_D (fun q : Nat => s.heap.size ≤ q) (wX h a1 a2 a3 a4 d k t a b j u ++ wM o b1 b2 b3 b4 b5 b6 d k t hh r f jj q u) ∧ va_S (fun q : Nat => s.heap.size ≤ q) s.heap H locs ∧ lv_has ls 4 [(0, .ref bs), (1, .ref h), (2, .ref o), (3, .int (nI i))]
/-- what goes on behind a call -/
def lw_K (p : Program) (l : Launch) (e : Env) (m : MethodId) (below : List Frame) (meth : Method) (c : Code) (D : va_G) (s : State) (bs h a1 a2 a3 a4 o b1 b2 b3 b4 b5 b6 : Nat) (d : ClassId) (k i : Nat) : Prop := ∀ (t : Int32) (a b j u hh r f jj q : Nat → Int32) (H : Heap) (locs : List Loc) (ls : Array Slot), lw_St D s bs h a1 a2 a3 a4 o b1 b2 b3 b4 b5 b6 d k i t a b j u hh r f jj q H locs ls → W p l e room_1 s m #[Value.ref bs] below meth c H locs 12 722 (lw_Z below #[Value.ref bs] s) (F0 m 418 ls [])
end
section
section LC0
variable {p : Program} {l : Launch} {e : Env} {s : State} {m : MethodId} {below : List Frame} {meth : Method} {c : Code} {D : va_G} {bs L : Nat} {xs : Nat → Int32} {h a1 a2 a3 a4 o b1 b2 b3 b4 b5 b6 : Nat} {d : ClassId} {k i : Nat} {t : Int32} {a b j u hh r f jj q : Nat → Int32} {H : Heap} {locs : List Loc} {ls : Array Slot}
set_option maxHeartbeats 4000000 in
set_option maxRecDepth 100000 in
theorem lc_tick (hL : L ≤ 257) (C0 : lw_At p s m meth c bs L xs) (hK : va_K D vwCl [(d, .int)] s) (hk : k ≤ 9) (hi : i + 4 ≤ L) (K : lw_K p l e m below meth c D s bs h a1 a2 a3 a4 o b1 b2 b3 b4 b5 b6 d k i) (G : lw_St D s bs h a1 a2 a3 a4 o b1 b2 b3 b4 b5 b6 d k i t a b j u hh r f jj q H locs ls) : W p l e room_1 s m #[Value.ref bs] below meth c H locs 12 722 (lw_Z below #[Value.ref bs] s) (F0 m 104 ls []) := by
  obtain ⟨hx, hb, hr, hml, hown, hts0, hX, hbl, hlocks, hgv⟩ := C0
  have hts : ∀ w ∈ lw_all, w.before #[Value.ref bs] s = true := fun w h => hts0 w (lw_all_tbl h)
  have hown : s.vm.findClass RX0 = some m.cls := hown
  have hA : ∀ q : Nat, s.heap.size ≤ q → (fun q : Nat => s.heap.size ≤ q) q := fun _ h => h
  have hbA : ¬ (fun q : Nat => s.heap.size ≤ q) bs := Nat.not_le.mpr hbl
  obtain ⟨R, hP, hD, hS, hl⟩ := G
  refine lv_aload_n hx hb dL_law_104 rfl (lv_at hl 1 rfl) ?_
  refine lv_aload_n hx hb dL_law_105 rfl (lv_at hl 0 rfl) ?_
  refine lv_iload_n hx hb dL_law_106 rfl (lv_at hl 3 rfl) ?_
  refine lv_iconst (v := 1) hx hb dL_law_107 (by decide) ?_
  refine lv_iadd hx hb dL_law_108 ?_
  refine bt_top (y := nI (i + 1)) (nI_add i 1) ?_
  refine bt_sld hx hb hX hbl hbA hS (by omega) hL dL_law_109 ?_
  refine bt_cWi (As := [.int (xs (i + 1))]) (rest := []) (b := h) (ci := 0) (q0 := 0) (wr := wM o b1 b2 b3 b4 b5 b6 d k t hh r f jj q u) ⟨hx, hb, hml, hown, hts⟩ (wX_tick l D h a1 a2 a3 a4 d k t a b j u (xs (i + 1)) H.size) 1 (lw_V q60 q61 q62 q19 q63) ⟨rfl, rfl⟩ (by decide +kernel) ⟨Nat.le_of_ble_eq_true rfl, Nat.le_of_ble_eq_true rfl⟩ hK hP hD hS hA [0, 1, 2, 3, 4] [5, 6, 7, 8, 9, 10, 11] rfl rfl (by decide) (by decide) (by decide) rfl rfl rfl hl.1 rfl (Nat.le_of_ble_eq_true rfl) dL_law_110 ⟨Nat.le_of_ble_eq_true rfl, Nat.le_of_ble_eq_true rfl⟩ (fun H locs hP hD hS => ?_)
  refine lv_aload_n hx hb dL_law_113 rfl (lv_at hl 2 rfl) ?_
  refine lv_aload_n hx hb dL_law_114 rfl (lv_at hl 0 rfl) ?_
  refine lv_iload_n hx hb dL_law_115 rfl (lv_at hl 3 rfl) ?_
  refine lv_iconst (v := 1) hx hb dL_law_116 (by decide) ?_
  refine lv_iadd hx hb dL_law_117 ?_
  refine bt_top (y := nI (i + 1)) (nI_add i 1) ?_
  refine bt_sld hx hb hX hbl hbA hS (by omega) hL dL_law_118 ?_
  refine bt_cWi (As := [.int (xs (i + 1))]) (rest := [.int (bt_tickR t (xs (i + 1)))]) (b := o) (ci := 1) (q0 := 0) (wr := wX h a1 a2 a3 a4 d k (bt_tickT t (xs (i + 1))) a b j u) ⟨hx, hb, hml, hown, hts⟩ (wM_tick l D o b1 b2 b3 b4 b5 b6 d k t hh r f jj q u (xs (i + 1)) H.size) 1 (lw_V q183 q184 q185 q21 q186) ⟨rfl, rfl⟩ (by decide +kernel) ⟨Nat.le_of_ble_eq_true rfl, Nat.le_of_ble_eq_true rfl⟩ hK hP hD hS hA [0, 1, 2, 3, 4, 5, 6] [7, 8, 9, 10, 11] rfl rfl (by decide) (by decide) (by decide) rfl rfl rfl hl.1 rfl (Nat.le_of_ble_eq_true rfl) dL_law_119 ⟨Nat.le_of_ble_eq_true rfl, Nat.le_of_ble_eq_true rfl⟩ (fun H locs hP hD hS => ?_)
  refine lv_icmp_eq (tgt := 418) hx hb dL_law_122 (by decide) (fun _ => ?_) (fun c_1 => absurd (rfl) c_1)
  exact K (bt_tickT t (xs (i + 1))) a b j u hh r f jj q _ _ _ ⟨lr_tick R _, hP, hD, hS, hl⟩
set_option maxHeartbeats 4000000 in
set_option maxRecDepth 100000 in
theorem lc_hello (hL : L ≤ 257) (C0 : lw_At p s m meth c bs L xs) (hK : va_K D vwCl [(d, .int)] s) (hk : k ≤ 9) (hi : i + 4 ≤ L) (K : lw_K p l e m below meth c D s bs h a1 a2 a3 a4 o b1 b2 b3 b4 b5 b6 d k i) (G : lw_St D s bs h a1 a2 a3 a4 o b1 b2 b3 b4 b5 b6 d k i t a b j u hh r f jj q H locs ls) : W p l e room_1 s m #[Value.ref bs] below meth c H locs 12 722 (lw_Z below #[Value.ref bs] s) (F0 m 127 ls []) := by
  obtain ⟨hx, hb, hr, hml, hown, hts0, hX, hbl, hlocks, hgv⟩ := C0
  have hts : ∀ w ∈ lw_all, w.before #[Value.ref bs] s = true := fun w h => hts0 w (lw_all_tbl h)
  have hown : s.vm.findClass RX0 = some m.cls := hown
  have hA : ∀ q : Nat, s.heap.size ≤ q → (fun q : Nat => s.heap.size ≤ q) q := fun _ h => h
  have hbA : ¬ (fun q : Nat => s.heap.size ≤ q) bs := Nat.not_le.mpr hbl
  obtain ⟨R, hP, hD, hS, hl⟩ := G
  refine lv_aload_n hx hb dL_law_127 rfl (lv_at hl 1 rfl) ?_
  refine lv_aload_n hx hb dL_law_128 rfl (lv_at hl 0 rfl) ?_
  refine lv_iload_n hx hb dL_law_129 rfl (lv_at hl 3 rfl) ?_
  refine lv_iconst (v := 1) hx hb dL_law_130 (by decide) ?_
  refine lv_iadd hx hb dL_law_131 ?_
  refine bt_top (y := nI (i + 1)) (nI_add i 1) ?_
  refine bt_sld hx hb hX hbl hbA hS (by omega) hL dL_law_132 ?_
  refine bt_cWi (As := [.int (xs (i + 1))]) (rest := []) (b := h) (ci := 0) (q0 := 0) (wr := wM o b1 b2 b3 b4 b5 b6 d k t hh r f jj q u) ⟨hx, hb, hml, hown, hts⟩ (wX_hello l D h a1 a2 a3 a4 d k t a b j u (xs (i + 1)) H.size) 1 (lw_V q65 q66 q67 q19 q68) ⟨rfl, rfl⟩ (by decide +kernel) ⟨Nat.le_of_ble_eq_true rfl, Nat.le_of_ble_eq_true rfl⟩ hK hP hD hS hA [0, 1, 2, 3, 4] [5, 6, 7, 8, 9, 10, 11] rfl rfl (by decide) (by decide) (by decide) rfl rfl rfl hl.1 rfl (Nat.le_of_ble_eq_true rfl) dL_law_133 ⟨Nat.le_of_ble_eq_true rfl, Nat.le_of_ble_eq_true rfl⟩ (fun H locs hP hD hS => ?_)
  refine lv_aload_n hx hb dL_law_136 rfl (lv_at hl 2 rfl) ?_
  refine lv_aload_n hx hb dL_law_137 rfl (lv_at hl 0 rfl) ?_
  refine lv_iload_n hx hb dL_law_138 rfl (lv_at hl 3 rfl) ?_
  refine lv_iconst (v := 1) hx hb dL_law_139 (by decide) ?_
  refine lv_iadd hx hb dL_law_140 ?_
  refine bt_top (y := nI (i + 1)) (nI_add i 1) ?_
  refine bt_sld hx hb hX hbl hbA hS (by omega) hL dL_law_141 ?_
  refine bt_cWi (As := [.int (xs (i + 1))]) (rest := [.int (bt_B (xs_hok k (xs (i + 1))))]) (b := o) (ci := 1) (q0 := 0) (wr := wX h a1 a2 a3 a4 d k t (xs_helloA k t a (xs (i + 1))) b j u) ⟨hx, hb, hml, hown, hts⟩ (wM_hello l D o b1 b2 b3 b4 b5 b6 d k t hh r f jj q u (xs (i + 1)) H.size) 1 (lw_V q188 q189 q190 q21 q191) ⟨rfl, rfl⟩ (by decide +kernel) ⟨Nat.le_of_ble_eq_true rfl, Nat.le_of_ble_eq_true rfl⟩ hK hP hD hS hA [0, 1, 2, 3, 4, 5, 6] [7, 8, 9, 10, 11] rfl rfl (by decide) (by decide) (by decide) rfl rfl rfl hl.1 rfl (Nat.le_of_ble_eq_true rfl) dL_law_142 ⟨Nat.le_of_ble_eq_true rfl, Nat.le_of_ble_eq_true rfl⟩ (fun H locs hP hD hS => ?_)
  refine lv_icmp_eq (tgt := 418) hx hb dL_law_145 (by decide) (fun _ => ?_) (fun c_1 => absurd ((congrArg bt_B (la_hok _)).symm) c_1)
  exact K t (xs_helloA k t a (xs (i + 1))) b j u (ms_helloH k t hh (xs (i + 1))) r f jj q _ _ _ ⟨lr_hello R _, hP, hD, hS, hl⟩
set_option maxHeartbeats 4000000 in
set_option maxRecDepth 100000 in
theorem lc_report (hL : L ≤ 257) (C0 : lw_At p s m meth c bs L xs) (hK : va_K D vwCl [(d, .int)] s) (hk : k ≤ 9) (hi : i + 4 ≤ L) (K : lw_K p l e m below meth c D s bs h a1 a2 a3 a4 o b1 b2 b3 b4 b5 b6 d k i) (G : lw_St D s bs h a1 a2 a3 a4 o b1 b2 b3 b4 b5 b6 d k i t a b j u hh r f jj q H locs ls) : W p l e room_1 s m #[Value.ref bs] below meth c H locs 12 722 (lw_Z below #[Value.ref bs] s) (F0 m 150 ls []) := by
  obtain ⟨hx, hb, hr, hml, hown, hts0, hX, hbl, hlocks, hgv⟩ := C0
  have hts : ∀ w ∈ lw_all, w.before #[Value.ref bs] s = true := fun w h => hts0 w (lw_all_tbl h)
  have hown : s.vm.findClass RX0 = some m.cls := hown
  have hA : ∀ q : Nat, s.heap.size ≤ q → (fun q : Nat => s.heap.size ≤ q) q := fun _ h => h
  have hbA : ¬ (fun q : Nat => s.heap.size ≤ q) bs := Nat.not_le.mpr hbl
  obtain ⟨R, hP, hD, hS, hl⟩ := G
  refine lv_aload_n hx hb dL_law_150 rfl (lv_at hl 1 rfl) ?_
  refine lv_aload_n hx hb dL_law_151 rfl (lv_at hl 0 rfl) ?_
  refine lv_iload_n hx hb dL_law_152 rfl (lv_at hl 3 rfl) ?_
  refine lv_iconst (v := 1) hx hb dL_law_153 (by decide) ?_
  refine lv_iadd hx hb dL_law_154 ?_
  refine bt_top (y := nI (i + 1)) (nI_add i 1) ?_
  refine bt_sld hx hb hX hbl hbA hS (by omega) hL dL_law_155 ?_
  refine bt_cWi (As := [.int (xs (i + 1))]) (rest := []) (b := h) (ci := 0) (q0 := 0) (wr := wM o b1 b2 b3 b4 b5 b6 d k t hh r f jj q u) ⟨hx, hb, hml, hown, hts⟩ (wX_report l D h a1 a2 a3 a4 d k t a b j u (xs (i + 1)) H.size) 1 (lw_V q69 q70 q71 q19 q72) ⟨rfl, rfl⟩ (by decide +kernel) ⟨Nat.le_of_ble_eq_true rfl, Nat.le_of_ble_eq_true rfl⟩ hK hP hD hS hA [0, 1, 2, 3, 4] [5, 6, 7, 8, 9, 10, 11] rfl rfl (by decide) (by decide) (by decide) rfl rfl rfl hl.1 rfl (Nat.le_of_ble_eq_true rfl) dL_law_156 ⟨Nat.le_of_ble_eq_true rfl, Nat.le_of_ble_eq_true rfl⟩ (fun H locs hP hD hS => ?_)
  refine lv_aload_n hx hb dL_law_159 rfl (lv_at hl 2 rfl) ?_
  refine lv_aload_n hx hb dL_law_160 rfl (lv_at hl 0 rfl) ?_
  refine lv_iload_n hx hb dL_law_161 rfl (lv_at hl 3 rfl) ?_
  refine lv_iconst (v := 1) hx hb dL_law_162 (by decide) ?_
  refine lv_iadd hx hb dL_law_163 ?_
  refine bt_top (y := nI (i + 1)) (nI_add i 1) ?_
  refine bt_sld hx hb hX hbl hbA hS (by omega) hL dL_law_164 ?_
  refine bt_cWi (As := [.int (xs (i + 1))]) (rest := [.int (bt_B (bt_grp (xs (i + 1))))]) (b := o) (ci := 1) (q0 := 0) (wr := wX h a1 a2 a3 a4 d k t a (xs_reportB t b (xs (i + 1))) j u) ⟨hx, hb, hml, hown, hts⟩ (wM_report l D o b1 b2 b3 b4 b5 b6 d k t hh r f jj q u (xs (i + 1)) H.size) 1 (lw_V q192 q193 q194 q21 q195) ⟨rfl, rfl⟩ (by decide +kernel) ⟨Nat.le_of_ble_eq_true rfl, Nat.le_of_ble_eq_true rfl⟩ hK hP hD hS hA [0, 1, 2, 3, 4, 5, 6] [7, 8, 9, 10, 11] rfl rfl (by decide) (by decide) (by decide) rfl rfl rfl hl.1 rfl (Nat.le_of_ble_eq_true rfl) dL_law_165 ⟨Nat.le_of_ble_eq_true rfl, Nat.le_of_ble_eq_true rfl⟩ (fun H locs hP hD hS => ?_)
  refine lv_icmp_eq (tgt := 418) hx hb dL_law_168 (by decide) (fun _ => ?_) (fun c_1 => absurd (rfl) c_1)
  exact K t a (xs_reportB t b (xs (i + 1))) j u hh (ms_reportR t r (xs (i + 1))) (ms_reportF f (xs (i + 1))) jj q _ _ _ ⟨lr_report R _, hP, hD, hS, hl⟩
set_option maxHeartbeats 4000000 in
set_option maxRecDepth 100000 in
theorem lc_leave (hL : L ≤ 257) (C0 : lw_At p s m meth c bs L xs) (hK : va_K D vwCl [(d, .int)] s) (hk : k ≤ 9) (hi : i + 4 ≤ L) (K : lw_K p l e m below meth c D s bs h a1 a2 a3 a4 o b1 b2 b3 b4 b5 b6 d k i) (G : lw_St D s bs h a1 a2 a3 a4 o b1 b2 b3 b4 b5 b6 d k i t a b j u hh r f jj q H locs ls) : W p l e room_1 s m #[Value.ref bs] below meth c H locs 12 722 (lw_Z below #[Value.ref bs] s) (F0 m 173 ls []) := by
  obtain ⟨hx, hb, hr, hml, hown, hts0, hX, hbl, hlocks, hgv⟩ := C0
  have hts : ∀ w ∈ lw_all, w.before #[Value.ref bs] s = true := fun w h => hts0 w (lw_all_tbl h)
  have hown : s.vm.findClass RX0 = some m.cls := hown
  have hA : ∀ q : Nat, s.heap.size ≤ q → (fun q : Nat => s.heap.size ≤ q) q := fun _ h => h
  have hbA : ¬ (fun q : Nat => s.heap.size ≤ q) bs := Nat.not_le.mpr hbl
  obtain ⟨R, hP, hD, hS, hl⟩ := G
  refine lv_aload_n hx hb dL_law_173 rfl (lv_at hl 1 rfl) ?_
  refine lv_aload_n hx hb dL_law_174 rfl (lv_at hl 0 rfl) ?_
  refine lv_iload_n hx hb dL_law_175 rfl (lv_at hl 3 rfl) ?_
  refine lv_iconst (v := 1) hx hb dL_law_176 (by decide) ?_
  refine lv_iadd hx hb dL_law_177 ?_
  refine bt_top (y := nI (i + 1)) (nI_add i 1) ?_
  refine bt_sld hx hb hX hbl hbA hS (by omega) hL dL_law_178 ?_
  refine bt_cWi (As := [.int (xs (i + 1))]) (rest := []) (b := h) (ci := 0) (q0 := 0) (wr := wM o b1 b2 b3 b4 b5 b6 d k t hh r f jj q u) ⟨hx, hb, hml, hown, hts⟩ (wX_leave l D h a1 a2 a3 a4 d k t a b j u (xs (i + 1)) H.size hk) 1 (lw_V q76 q77 q78 q19 q79) ⟨rfl, rfl⟩ (by decide +kernel) ⟨Nat.le_of_ble_eq_true rfl, Nat.le_of_ble_eq_true rfl⟩ hK hP hD hS hA [0, 1, 2, 3, 4] [5, 6, 7, 8, 9, 10, 11] rfl rfl (by decide) (by decide) (by decide) rfl rfl rfl hl.1 rfl (Nat.le_of_ble_eq_true rfl) dL_law_179 ⟨Nat.le_of_ble_eq_true rfl, Nat.le_of_ble_eq_true rfl⟩ (fun H locs hP hD hS => ?_)
  refine lv_aload_n hx hb dL_law_182 rfl (lv_at hl 2 rfl) ?_
  refine lv_aload_n hx hb dL_law_183 rfl (lv_at hl 0 rfl) ?_
  refine lv_iload_n hx hb dL_law_184 rfl (lv_at hl 3 rfl) ?_
  refine lv_iconst (v := 1) hx hb dL_law_185 (by decide) ?_
  refine lv_iadd hx hb dL_law_186 ?_
  refine bt_top (y := nI (i + 1)) (nI_add i 1) ?_
  refine bt_sld hx hb hX hbl hbA hS (by omega) hL dL_law_187 ?_
  refine bt_cWi (As := [.int (xs (i + 1))]) (rest := [.int (bt_B (xs_lok k t a b (xs (i + 1))))]) (b := o) (ci := 1) (q0 := 0) (wr := wX h a1 a2 a3 a4 d k t a (xs_leaveB k t a b (xs (i + 1))) j u) ⟨hx, hb, hml, hown, hts⟩ (wM_leave l D o b1 b2 b3 b4 b5 b6 d k t hh r f jj q u (xs (i + 1)) H.size hk) 1 (lw_V q200 q201 q202 q21 q203) ⟨rfl, rfl⟩ (by decide +kernel) ⟨Nat.le_of_ble_eq_true rfl, Nat.le_of_ble_eq_true rfl⟩ hK hP hD hS hA [0, 1, 2, 3, 4, 5, 6] [7, 8, 9, 10, 11] rfl rfl (by decide) (by decide) (by decide) rfl rfl rfl hl.1 rfl (Nat.le_of_ble_eq_true rfl) dL_law_188 ⟨Nat.le_of_ble_eq_true rfl, Nat.le_of_ble_eq_true rfl⟩ (fun H locs hP hD hS => ?_)
  refine lv_icmp_eq (tgt := 418) hx hb dL_law_191 (by decide) (fun _ => ?_) (fun c_1 => absurd ((congrArg bt_B (la_lok R _)).symm) c_1)
  exact K t a (xs_leaveB k t a b (xs (i + 1))) j u hh r (ms_leaveF k t hh r f (xs (i + 1))) jj q _ _ _ ⟨lr_leave R _, hP, hD, hS, hl⟩
end LC0
end
section
section LC1
variable {p : Program} {l : Launch} {e : Env} {s : State} {m : MethodId} {below : List Frame} {meth : Method} {c : Code} {D : va_G} {bs L : Nat} {xs : Nat → Int32} {h a1 a2 a3 a4 o b1 b2 b3 b4 b5 b6 : Nat} {d : ClassId} {k i : Nat} {t : Int32} {a b j u hh r f jj q : Nat → Int32} {H : Heap} {locs : List Loc} {ls : Array Slot}
set_option maxHeartbeats 4000000 in
set_option maxRecDepth 100000 in
theorem lc_join (hL : L ≤ 257) (C0 : lw_At p s m meth c bs L xs) (hK : va_K D vwCl [(d, .int)] s) (hk : k ≤ 9) (hi : i + 4 ≤ L) (K : lw_K p l e m below meth c D s bs h a1 a2 a3 a4 o b1 b2 b3 b4 b5 b6 d k i) (G : lw_St D s bs h a1 a2 a3 a4 o b1 b2 b3 b4 b5 b6 d k i t a b j u hh r f jj q H locs ls) : W p l e room_1 s m #[Value.ref bs] below meth c H locs 12 722 (lw_Z below #[Value.ref bs] s) (F0 m 196 ls []) := by
  obtain ⟨hx, hb, hr, hml, hown, hts0, hX, hbl, hlocks, hgv⟩ := C0
  have hts : ∀ w ∈ lw_all, w.before #[Value.ref bs] s = true := fun w h => hts0 w (lw_all_tbl h)
  have hown : s.vm.findClass RX0 = some m.cls := hown
  have hA : ∀ q : Nat, s.heap.size ≤ q → (fun q : Nat => s.heap.size ≤ q) q := fun _ h => h
  have hbA : ¬ (fun q : Nat => s.heap.size ≤ q) bs := Nat.not_le.mpr hbl
  obtain ⟨R, hP, hD, hS, hl⟩ := G
  refine lv_aload_n hx hb dL_law_196 rfl (lv_at hl 1 rfl) ?_
  refine lv_aload_n hx hb dL_law_197 rfl (lv_at hl 0 rfl) ?_
  refine lv_iload_n hx hb dL_law_198 rfl (lv_at hl 3 rfl) ?_
  refine lv_iconst (v := 1) hx hb dL_law_199 (by decide) ?_
  refine lv_iadd hx hb dL_law_200 ?_
  refine bt_top (y := nI (i + 1)) (nI_add i 1) ?_
  refine bt_sld hx hb hX hbl hbA hS (by omega) hL dL_law_201 ?_
  refine lv_aload_n hx hb dL_law_202 rfl (lv_at hl 0 rfl) ?_
  refine lv_iload_n hx hb dL_law_203 rfl (lv_at hl 3 rfl) ?_
  refine lv_iconst (v := 2) hx hb dL_law_204 (by decide) ?_
  refine lv_iadd hx hb dL_law_205 ?_
  refine bt_top (y := nI (i + 2)) (nI_add i 2) ?_
  refine bt_sld hx hb hX hbl hbA hS (by omega) hL dL_law_206 ?_
  refine lv_aload_n hx hb dL_law_207 rfl (lv_at hl 0 rfl) ?_
  refine lv_iload_n hx hb dL_law_208 rfl (lv_at hl 3 rfl) ?_
  refine lv_iconst (v := 3) hx hb dL_law_209 (by decide) ?_
  refine lv_iadd hx hb dL_law_210 ?_
  refine bt_top (y := nI (i + 3)) (nI_add i 3) ?_
  refine bt_sld hx hb hX hbl hbA hS (by omega) hL dL_law_211 ?_
  refine bt_cWi (As := [.int (xs (i + 1)), .int (xs (i + 2)), .int (xs (i + 3))]) (rest := []) (b := h) (ci := 0) (q0 := 0) (wr := wM o b1 b2 b3 b4 b5 b6 d k t hh r f jj q u) ⟨hx, hb, hml, hown, hts⟩ (wX_join l D h a1 a2 a3 a4 d k t a b j u (xs (i + 1)) (xs (i + 2)) (xs (i + 3)) H.size) 3 (lw_V q88 q89 q90 q19 q91) ⟨rfl, rfl⟩ (by decide +kernel) ⟨Nat.le_of_ble_eq_true rfl, Nat.le_of_ble_eq_true rfl⟩ hK hP hD hS hA [0, 1, 2, 3, 4] [5, 6, 7, 8, 9, 10, 11] rfl rfl (by decide) (by decide) (by decide) rfl rfl rfl hl.1 rfl (Nat.le_of_ble_eq_true rfl) dL_law_212 ⟨Nat.le_of_ble_eq_true rfl, Nat.le_of_ble_eq_true rfl⟩ (fun H locs hP hD hS => ?_)
  refine lv_aload_n hx hb dL_law_215 rfl (lv_at hl 2 rfl) ?_
  refine lv_aload_n hx hb dL_law_216 rfl (lv_at hl 0 rfl) ?_
  refine lv_iload_n hx hb dL_law_217 rfl (lv_at hl 3 rfl) ?_
  refine lv_iconst (v := 1) hx hb dL_law_218 (by decide) ?_
  refine lv_iadd hx hb dL_law_219 ?_
  refine bt_top (y := nI (i + 1)) (nI_add i 1) ?_
  refine bt_sld hx hb hX hbl hbA hS (by omega) hL dL_law_220 ?_
  refine lv_aload_n hx hb dL_law_221 rfl (lv_at hl 0 rfl) ?_
  refine lv_iload_n hx hb dL_law_222 rfl (lv_at hl 3 rfl) ?_
  refine lv_iconst (v := 2) hx hb dL_law_223 (by decide) ?_
  refine lv_iadd hx hb dL_law_224 ?_
  refine bt_top (y := nI (i + 2)) (nI_add i 2) ?_
  refine bt_sld hx hb hX hbl hbA hS (by omega) hL dL_law_225 ?_
  refine lv_aload_n hx hb dL_law_226 rfl (lv_at hl 0 rfl) ?_
  refine lv_iload_n hx hb dL_law_227 rfl (lv_at hl 3 rfl) ?_
  refine lv_iconst (v := 3) hx hb dL_law_228 (by decide) ?_
  refine lv_iadd hx hb dL_law_229 ?_
  refine bt_top (y := nI (i + 3)) (nI_add i 3) ?_
  refine bt_sld hx hb hX hbl hbA hS (by omega) hL dL_law_230 ?_
  refine bt_cWi (As := [.int (xs (i + 1)), .int (xs (i + 2)), .int (xs (i + 3))]) (rest := [.int (bt_B (bt_tree (xs (i + 1)) (xs (i + 2))))]) (b := o) (ci := 1) (q0 := 0) (wr := wX h a1 a2 a3 a4 d k t a b (xs_joinJ t j (xs (i + 1)) (xs (i + 2))) (xs_joinU t a j u (xs (i + 1)) (xs (i + 2)) (xs (i + 3)))) ⟨hx, hb, hml, hown, hts⟩ (wM_join l D o b1 b2 b3 b4 b5 b6 d k t hh r f jj q u (xs (i + 1)) (xs (i + 2)) (xs (i + 3)) H.size) 3 (lw_V q220 q221 q222 q21 q223) ⟨rfl, rfl⟩ (by decide +kernel) ⟨Nat.le_of_ble_eq_true rfl, Nat.le_of_ble_eq_true rfl⟩ hK hP hD hS hA [0, 1, 2, 3, 4, 5, 6] [7, 8, 9, 10, 11] rfl rfl (by decide) (by decide) (by decide) rfl rfl rfl hl.1 rfl (Nat.le_of_ble_eq_true rfl) dL_law_231 ⟨Nat.le_of_ble_eq_true rfl, Nat.le_of_ble_eq_true rfl⟩ (fun H locs hP hD hS => ?_)
  refine lv_icmp_eq (tgt := 418) hx hb dL_law_234 (by decide) (fun _ => ?_) (fun c_1 => absurd (rfl) c_1)
  rw [la_joinU R] at hP hD
  exact K t a b (xs_joinJ t j (xs (i + 1)) (xs (i + 2))) (xs_joinU t a j u (xs (i + 1)) (xs (i + 2)) (xs (i + 3))) hh r f (ms_joinJ t jj (xs (i + 1)) (xs (i + 2))) (ms_joinQ q (xs (i + 1)) (xs (i + 2))) _ _ _ ⟨lr_join R _ _, hP, hD, hS, hl⟩
set_option maxHeartbeats 4000000 in
set_option maxRecDepth 100000 in
theorem lc_prune (hL : L ≤ 257) (C0 : lw_At p s m meth c bs L xs) (hK : va_K D vwCl [(d, .int)] s) (hk : k ≤ 9) (hi : i + 4 ≤ L) (K : lw_K p l e m below meth c D s bs h a1 a2 a3 a4 o b1 b2 b3 b4 b5 b6 d k i) (G : lw_St D s bs h a1 a2 a3 a4 o b1 b2 b3 b4 b5 b6 d k i t a b j u hh r f jj q H locs ls) : W p l e room_1 s m #[Value.ref bs] below meth c H locs 12 722 (lw_Z below #[Value.ref bs] s) (F0 m 239 ls []) := by
  obtain ⟨hx, hb, hr, hml, hown, hts0, hX, hbl, hlocks, hgv⟩ := C0
  have hts : ∀ w ∈ lw_all, w.before #[Value.ref bs] s = true := fun w h => hts0 w (lw_all_tbl h)
  have hown : s.vm.findClass RX0 = some m.cls := hown
  have hA : ∀ q : Nat, s.heap.size ≤ q → (fun q : Nat => s.heap.size ≤ q) q := fun _ h => h
  have hbA : ¬ (fun q : Nat => s.heap.size ≤ q) bs := Nat.not_le.mpr hbl
  obtain ⟨R, hP, hD, hS, hl⟩ := G
  refine lv_aload_n hx hb dL_law_239 rfl (lv_at hl 1 rfl) ?_
  refine lv_aload_n hx hb dL_law_240 rfl (lv_at hl 0 rfl) ?_
  refine lv_iload_n hx hb dL_law_241 rfl (lv_at hl 3 rfl) ?_
  refine lv_iconst (v := 1) hx hb dL_law_242 (by decide) ?_
  refine lv_iadd hx hb dL_law_243 ?_
  refine bt_top (y := nI (i + 1)) (nI_add i 1) ?_
  refine bt_sld hx hb hX hbl hbA hS (by omega) hL dL_law_244 ?_
  refine lv_aload_n hx hb dL_law_245 rfl (lv_at hl 0 rfl) ?_
  refine lv_iload_n hx hb dL_law_246 rfl (lv_at hl 3 rfl) ?_
  refine lv_iconst (v := 2) hx hb dL_law_247 (by decide) ?_
  refine lv_iadd hx hb dL_law_248 ?_
  refine bt_top (y := nI (i + 2)) (nI_add i 2) ?_
  refine bt_sld hx hb hX hbl hbA hS (by omega) hL dL_law_249 ?_
  refine bt_cWi (As := [.int (xs (i + 1)), .int (xs (i + 2))]) (rest := []) (b := h) (ci := 0) (q0 := 0) (wr := wM o b1 b2 b3 b4 b5 b6 d k t hh r f jj q u) ⟨hx, hb, hml, hown, hts⟩ (wX_prune l D h a1 a2 a3 a4 d k t a b j u (xs (i + 1)) (xs (i + 2)) H.size) 2 (lw_V q103 q104 q105 q19 q106) ⟨rfl, rfl⟩ (by decide +kernel) ⟨Nat.le_of_ble_eq_true rfl, Nat.le_of_ble_eq_true rfl⟩ hK hP hD hS hA [0, 1, 2, 3, 4] [5, 6, 7, 8, 9, 10, 11] rfl rfl (by decide) (by decide) (by decide) rfl rfl rfl hl.1 rfl (Nat.le_of_ble_eq_true rfl) dL_law_250 ⟨Nat.le_of_ble_eq_true rfl, Nat.le_of_ble_eq_true rfl⟩ (fun H locs hP hD hS => ?_)
  refine lv_aload_n hx hb dL_law_253 rfl (lv_at hl 2 rfl) ?_
  refine lv_aload_n hx hb dL_law_254 rfl (lv_at hl 0 rfl) ?_
  refine lv_iload_n hx hb dL_law_255 rfl (lv_at hl 3 rfl) ?_
  refine lv_iconst (v := 1) hx hb dL_law_256 (by decide) ?_
  refine lv_iadd hx hb dL_law_257 ?_
  refine bt_top (y := nI (i + 1)) (nI_add i 1) ?_
  refine bt_sld hx hb hX hbl hbA hS (by omega) hL dL_law_258 ?_
  refine lv_aload_n hx hb dL_law_259 rfl (lv_at hl 0 rfl) ?_
  refine lv_iload_n hx hb dL_law_260 rfl (lv_at hl 3 rfl) ?_
  refine lv_iconst (v := 2) hx hb dL_law_261 (by decide) ?_
  refine lv_iadd hx hb dL_law_262 ?_
  refine bt_top (y := nI (i + 2)) (nI_add i 2) ?_
  refine bt_sld hx hb hX hbl hbA hS (by omega) hL dL_law_263 ?_
  refine bt_cWi (As := [.int (xs (i + 1)), .int (xs (i + 2))]) (rest := [.int (bt_B (xs_pok t j (xs (i + 1)) (xs (i + 2))))]) (b := o) (ci := 1) (q0 := 0) (wr := wX h a1 a2 a3 a4 d k t a b (xs_pruneJ t a j (xs (i + 1)) (xs (i + 2))) u) ⟨hx, hb, hml, hown, hts⟩ (wM_prune l D o b1 b2 b3 b4 b5 b6 d k t hh r f jj q u (xs (i + 1)) (xs (i + 2)) H.size) 2 (lw_V q235 q236 q237 q21 q238) ⟨rfl, rfl⟩ (by decide +kernel) ⟨Nat.le_of_ble_eq_true rfl, Nat.le_of_ble_eq_true rfl⟩ hK hP hD hS hA [0, 1, 2, 3, 4, 5, 6] [7, 8, 9, 10, 11] rfl rfl (by decide) (by decide) (by decide) rfl rfl rfl hl.1 rfl (Nat.le_of_ble_eq_true rfl) dL_law_264 ⟨Nat.le_of_ble_eq_true rfl, Nat.le_of_ble_eq_true rfl⟩ (fun H locs hP hD hS => ?_)
  refine lv_icmp_eq (tgt := 418) hx hb dL_law_267 (by decide) (fun _ => ?_) (fun c_1 => absurd ((congrArg bt_B (la_pok R _ _)).symm) c_1)
  exact K t a b (xs_pruneJ t a j (xs (i + 1)) (xs (i + 2))) u hh r f jj (ms_pruneQ t hh jj q (xs (i + 1)) (xs (i + 2))) _ _ _ ⟨lr_prune R _ _, hP, hD, hS, hl⟩
set_option maxHeartbeats 4000000 in
set_option maxRecDepth 100000 in
theorem lc_forget (hL : L ≤ 257) (C0 : lw_At p s m meth c bs L xs) (hK : va_K D vwCl [(d, .int)] s) (hk : k ≤ 9) (hi : i + 4 ≤ L) (K : lw_K p l e m below meth c D s bs h a1 a2 a3 a4 o b1 b2 b3 b4 b5 b6 d k i) (G : lw_St D s bs h a1 a2 a3 a4 o b1 b2 b3 b4 b5 b6 d k i t a b j u hh r f jj q H locs ls) : W p l e room_1 s m #[Value.ref bs] below meth c H locs 12 722 (lw_Z below #[Value.ref bs] s) (F0 m 272 ls []) := by
  obtain ⟨hx, hb, hr, hml, hown, hts0, hX, hbl, hlocks, hgv⟩ := C0
  have hts : ∀ w ∈ lw_all, w.before #[Value.ref bs] s = true := fun w h => hts0 w (lw_all_tbl h)
  have hown : s.vm.findClass RX0 = some m.cls := hown
  have hA : ∀ q : Nat, s.heap.size ≤ q → (fun q : Nat => s.heap.size ≤ q) q := fun _ h => h
  have hbA : ¬ (fun q : Nat => s.heap.size ≤ q) bs := Nat.not_le.mpr hbl
  obtain ⟨R, hP, hD, hS, hl⟩ := G
  refine lv_aload_n hx hb dL_law_272 rfl (lv_at hl 1 rfl) ?_
  refine bt_cWv (As := []) (rest := []) (b := h) (ci := 0) (q0 := 0) (wr := wM o b1 b2 b3 b4 b5 b6 d k t hh r f jj q u) ⟨hx, hb, hml, hown, hts⟩ (wX_forget l D h a1 a2 a3 a4 d k t a b j u  H.size) 0 (lw_V q107 q37 q38 q19 q39) ⟨rfl, rfl⟩ (by decide +kernel) ⟨Nat.le_of_ble_eq_true rfl, Nat.le_of_ble_eq_true rfl⟩ hK hP hD hS hA [0, 1, 2, 3, 4] [5, 6, 7, 8, 9, 10, 11] rfl rfl (by decide) (by decide) (by decide) rfl rfl rfl hl.1 rfl (Nat.le_of_ble_eq_true rfl) dL_law_273 ⟨Nat.le_of_ble_eq_true rfl, Nat.le_of_ble_eq_true rfl⟩ (fun H locs hP hD hS => ?_)
  refine lv_aload_n hx hb dL_law_276 rfl (lv_at hl 2 rfl) ?_
  refine bt_cWv (As := []) (rest := []) (b := o) (ci := 1) (q0 := 0) (wr := wX h a1 a2 a3 a4 d k t (bt_fill a 0 10) (bt_fill b 0 8) (bt_fill j 0 136) (bt_fill u (-1) 128)) ⟨hx, hb, hml, hown, hts⟩ (wM_forget l D o b1 b2 b3 b4 b5 b6 d k t hh r f jj q u  H.size) 0 (lw_V q239 q240 q241 q21 q242) ⟨rfl, rfl⟩ (by decide +kernel) ⟨Nat.le_of_ble_eq_true rfl, Nat.le_of_ble_eq_true rfl⟩ hK hP hD hS hA [0, 1, 2, 3, 4, 5, 6] [7, 8, 9, 10, 11] rfl rfl (by decide) (by decide) (by decide) rfl rfl rfl hl.1 rfl (Nat.le_of_ble_eq_true rfl) dL_law_277 ⟨Nat.le_of_ble_eq_true rfl, Nat.le_of_ble_eq_true rfl⟩ (fun H locs hP hD hS => ?_)
  refine lv_goto (tgt := 418) hx hb dL_law_280 (by decide) ?_
  exact K t (bt_fill a 0 10) (bt_fill b 0 8) (bt_fill j 0 136) (bt_fill u (-1) 128) (bt_fill hh (-1) 10) (bt_fill r (-1) 8) f (bt_fill jj (-1) 136) q _ _ _ ⟨lr_forget R, hP, hD, hS, hl⟩
end LC1
end
section
section LC2
variable {p : Program} {l : Launch} {e : Env} {s : State} {m : MethodId} {below : List Frame} {meth : Method} {c : Code} {D : va_G} {bs L : Nat} {xs : Nat → Int32} {h a1 a2 a3 a4 o b1 b2 b3 b4 b5 b6 : Nat} {d : ClassId} {k i : Nat} {t : Int32} {a b j u hh r f jj q : Nat → Int32} {H : Heap} {locs : List Loc} {ls : Array Slot}
set_option maxHeartbeats 4000000 in
set_option maxRecDepth 100000 in
theorem lc_joined (hL : L ≤ 257) (C0 : lw_At p s m meth c bs L xs) (hK : va_K D vwCl [(d, .int)] s) (hk : k ≤ 9) (hi : i + 4 ≤ L) (K : lw_K p l e m below meth c D s bs h a1 a2 a3 a4 o b1 b2 b3 b4 b5 b6 d k i) (G : lw_St D s bs h a1 a2 a3 a4 o b1 b2 b3 b4 b5 b6 d k i t a b j u hh r f jj q H locs ls) : W p l e room_1 s m #[Value.ref bs] below meth c H locs 12 722 (lw_Z below #[Value.ref bs] s) (F0 m 283 ls []) := by
  obtain ⟨hx, hb, hr, hml, hown, hts0, hX, hbl, hlocks, hgv⟩ := C0
  have hts : ∀ w ∈ lw_all, w.before #[Value.ref bs] s = true := fun w h => hts0 w (lw_all_tbl h)
  have hown : s.vm.findClass RX0 = some m.cls := hown
  have hA : ∀ q : Nat, s.heap.size ≤ q → (fun q : Nat => s.heap.size ≤ q) q := fun _ h => h
  have hbA : ¬ (fun q : Nat => s.heap.size ≤ q) bs := Nat.not_le.mpr hbl
  obtain ⟨R, hP, hD, hS, hl⟩ := G
  refine lv_aload_n hx hb dL_law_283 rfl (lv_at hl 1 rfl) ?_
  refine lv_aload_n hx hb dL_law_284 rfl (lv_at hl 0 rfl) ?_
  refine lv_iload_n hx hb dL_law_285 rfl (lv_at hl 3 rfl) ?_
  refine lv_iconst (v := 1) hx hb dL_law_286 (by decide) ?_
  refine lv_iadd hx hb dL_law_287 ?_
  refine bt_top (y := nI (i + 1)) (nI_add i 1) ?_
  refine bt_sld hx hb hX hbl hbA hS (by omega) hL dL_law_288 ?_
  refine lv_aload_n hx hb dL_law_289 rfl (lv_at hl 0 rfl) ?_
  refine lv_iload_n hx hb dL_law_290 rfl (lv_at hl 3 rfl) ?_
  refine lv_iconst (v := 2) hx hb dL_law_291 (by decide) ?_
  refine lv_iadd hx hb dL_law_292 ?_
  refine bt_top (y := nI (i + 2)) (nI_add i 2) ?_
  refine bt_sld hx hb hX hbl hbA hS (by omega) hL dL_law_293 ?_
  refine bt_cV (As := [.int (xs (i + 1)), .int (xs (i + 2))]) (rest := []) (b := h) (ci := 0) (q0 := 0) ⟨hx, hb, hml, hown, hts⟩ (rX_joined l D h a1 a2 a3 a4 d k t a b j u (xs (i + 1)) (xs (i + 2))) 2 (lw_V q108 q109 q110 q19 q111) ⟨rfl, rfl⟩ (by decide +kernel) ⟨Nat.le_of_ble_eq_true rfl, Nat.le_of_ble_eq_true rfl⟩ hK (hP.sub [0, 1, 2, 3, 4] rfl) rfl rfl rfl hl.1 rfl (Nat.le_of_ble_eq_true rfl) dL_law_294 ⟨Nat.le_of_ble_eq_true rfl, Nat.le_of_ble_eq_true rfl⟩ ?_
  refine lv_aload_n hx hb dL_law_297 rfl (lv_at hl 2 rfl) ?_
  refine lv_aload_n hx hb dL_law_298 rfl (lv_at hl 0 rfl) ?_
  refine lv_iload_n hx hb dL_law_299 rfl (lv_at hl 3 rfl) ?_
  refine lv_iconst (v := 1) hx hb dL_law_300 (by decide) ?_
  refine lv_iadd hx hb dL_law_301 ?_
  refine bt_top (y := nI (i + 1)) (nI_add i 1) ?_
  refine bt_sld hx hb hX hbl hbA hS (by omega) hL dL_law_302 ?_
  refine lv_aload_n hx hb dL_law_303 rfl (lv_at hl 0 rfl) ?_
  refine lv_iload_n hx hb dL_law_304 rfl (lv_at hl 3 rfl) ?_
  refine lv_iconst (v := 2) hx hb dL_law_305 (by decide) ?_
  refine lv_iadd hx hb dL_law_306 ?_
  refine bt_top (y := nI (i + 2)) (nI_add i 2) ?_
  refine bt_sld hx hb hX hbl hbA hS (by omega) hL dL_law_307 ?_
  refine bt_cV (As := [.int (xs (i + 1)), .int (xs (i + 2))]) (rest := [.int (xs_joined t j (xs (i + 1)) (xs (i + 2)))]) (b := o) (ci := 1) (q0 := 0) ⟨hx, hb, hml, hown, hts⟩ (rM_joined l D o b1 b2 b3 b4 b5 b6 d k t hh r f jj q u (xs (i + 1)) (xs (i + 2))) 2 (lw_V q243 q244 q245 q21 q246) ⟨rfl, rfl⟩ (by decide +kernel) ⟨Nat.le_of_ble_eq_true rfl, Nat.le_of_ble_eq_true rfl⟩ hK (hP.sub [5, 6, 7, 8, 9, 10, 11] rfl) rfl rfl rfl hl.1 rfl (Nat.le_of_ble_eq_true rfl) dL_law_308 ⟨Nat.le_of_ble_eq_true rfl, Nat.le_of_ble_eq_true rfl⟩ ?_
  refine lv_icmp_eq (tgt := 418) hx hb dL_law_311 (by decide) (fun _ => ?_) (fun c_1 => absurd ((la_joined R _ _).symm) c_1)
  exact K t a b j u hh r f jj q _ _ _ ⟨R, hP, hD, hS, hl⟩
set_option maxHeartbeats 4000000 in
set_option maxRecDepth 100000 in
theorem lc_cut (hL : L ≤ 257) (C0 : lw_At p s m meth c bs L xs) (hK : va_K D vwCl [(d, .int)] s) (hk : k ≤ 9) (hi : i + 4 ≤ L) (K : lw_K p l e m below meth c D s bs h a1 a2 a3 a4 o b1 b2 b3 b4 b5 b6 d k i) (G : lw_St D s bs h a1 a2 a3 a4 o b1 b2 b3 b4 b5 b6 d k i t a b j u hh r f jj q H locs ls) : W p l e room_1 s m #[Value.ref bs] below meth c H locs 12 722 (lw_Z below #[Value.ref bs] s) (F0 m 316 ls []) := by
  obtain ⟨hx, hb, hr, hml, hown, hts0, hX, hbl, hlocks, hgv⟩ := C0
  have hts : ∀ w ∈ lw_all, w.before #[Value.ref bs] s = true := fun w h => hts0 w (lw_all_tbl h)
  have hown : s.vm.findClass RX0 = some m.cls := hown
  have hA : ∀ q : Nat, s.heap.size ≤ q → (fun q : Nat => s.heap.size ≤ q) q := fun _ h => h
  have hbA : ¬ (fun q : Nat => s.heap.size ≤ q) bs := Nat.not_le.mpr hbl
  obtain ⟨R, hP, hD, hS, hl⟩ := G
  refine lv_aload_n hx hb dL_law_316 rfl (lv_at hl 1 rfl) ?_
  refine lv_aload_n hx hb dL_law_317 rfl (lv_at hl 0 rfl) ?_
  refine lv_iload_n hx hb dL_law_318 rfl (lv_at hl 3 rfl) ?_
  refine lv_iconst (v := 1) hx hb dL_law_319 (by decide) ?_
  refine lv_iadd hx hb dL_law_320 ?_
  refine bt_top (y := nI (i + 1)) (nI_add i 1) ?_
  refine bt_sld hx hb hX hbl hbA hS (by omega) hL dL_law_321 ?_
  refine lv_aload_n hx hb dL_law_322 rfl (lv_at hl 0 rfl) ?_
  refine lv_iload_n hx hb dL_law_323 rfl (lv_at hl 3 rfl) ?_
  refine lv_iconst (v := 2) hx hb dL_law_324 (by decide) ?_
  refine lv_iadd hx hb dL_law_325 ?_
  refine bt_top (y := nI (i + 2)) (nI_add i 2) ?_
  refine bt_sld hx hb hX hbl hbA hS (by omega) hL dL_law_326 ?_
  refine bt_cV (As := [.int (xs (i + 1)), .int (xs (i + 2))]) (rest := []) (b := h) (ci := 0) (q0 := 0) ⟨hx, hb, hml, hown, hts⟩ (rX_cut l D h a1 a2 a3 a4 d k t a b j u (xs (i + 1)) (xs (i + 2))) 2 (lw_V q112 q113 q114 q19 q115) ⟨rfl, rfl⟩ (by decide +kernel) ⟨Nat.le_of_ble_eq_true rfl, Nat.le_of_ble_eq_true rfl⟩ hK (hP.sub [0, 1, 2, 3, 4] rfl) rfl rfl rfl hl.1 rfl (Nat.le_of_ble_eq_true rfl) dL_law_327 ⟨Nat.le_of_ble_eq_true rfl, Nat.le_of_ble_eq_true rfl⟩ ?_
  refine lv_aload_n hx hb dL_law_330 rfl (lv_at hl 2 rfl) ?_
  refine lv_aload_n hx hb dL_law_331 rfl (lv_at hl 0 rfl) ?_
  refine lv_iload_n hx hb dL_law_332 rfl (lv_at hl 3 rfl) ?_
  refine lv_iconst (v := 1) hx hb dL_law_333 (by decide) ?_
  refine lv_iadd hx hb dL_law_334 ?_
  refine bt_top (y := nI (i + 1)) (nI_add i 1) ?_
  refine bt_sld hx hb hX hbl hbA hS (by omega) hL dL_law_335 ?_
  refine lv_aload_n hx hb dL_law_336 rfl (lv_at hl 0 rfl) ?_
  refine lv_iload_n hx hb dL_law_337 rfl (lv_at hl 3 rfl) ?_
  refine lv_iconst (v := 2) hx hb dL_law_338 (by decide) ?_
  refine lv_iadd hx hb dL_law_339 ?_
  refine bt_top (y := nI (i + 2)) (nI_add i 2) ?_
  refine bt_sld hx hb hX hbl hbA hS (by omega) hL dL_law_340 ?_
  refine bt_cV (As := [.int (xs (i + 1)), .int (xs (i + 2))]) (rest := [.int (xs_cut t j u (xs (i + 1)) (xs (i + 2)))]) (b := o) (ci := 1) (q0 := 0) ⟨hx, hb, hml, hown, hts⟩ (rM_cut l D o b1 b2 b3 b4 b5 b6 d k t hh r f jj q u (xs (i + 1)) (xs (i + 2))) 2 (lw_V q247 q248 q249 q21 q250) ⟨rfl, rfl⟩ (by decide +kernel) ⟨Nat.le_of_ble_eq_true rfl, Nat.le_of_ble_eq_true rfl⟩ hK (hP.sub [5, 6, 7, 8, 9, 10, 11] rfl) rfl rfl rfl hl.1 rfl (Nat.le_of_ble_eq_true rfl) dL_law_341 ⟨Nat.le_of_ble_eq_true rfl, Nat.le_of_ble_eq_true rfl⟩ ?_
  refine lv_icmp_eq (tgt := 418) hx hb dL_law_344 (by decide) (fun _ => ?_) (fun c_1 => absurd ((la_cut R _ _).symm) c_1)
  exact K t a b j u hh r f jj q _ _ _ ⟨R, hP, hD, hS, hl⟩
set_option maxHeartbeats 4000000 in
set_option maxRecDepth 100000 in
theorem lc_members (hL : L ≤ 257) (C0 : lw_At p s m meth c bs L xs) (hK : va_K D vwCl [(d, .int)] s) (hk : k ≤ 9) (hi : i + 4 ≤ L) (K : lw_K p l e m below meth c D s bs h a1 a2 a3 a4 o b1 b2 b3 b4 b5 b6 d k i) (G : lw_St D s bs h a1 a2 a3 a4 o b1 b2 b3 b4 b5 b6 d k i t a b j u hh r f jj q H locs ls) : W p l e room_1 s m #[Value.ref bs] below meth c H locs 12 722 (lw_Z below #[Value.ref bs] s) (F0 m 349 ls []) := by
  obtain ⟨hx, hb, hr, hml, hown, hts0, hX, hbl, hlocks, hgv⟩ := C0
  have hts : ∀ w ∈ lw_all, w.before #[Value.ref bs] s = true := fun w h => hts0 w (lw_all_tbl h)
  have hown : s.vm.findClass RX0 = some m.cls := hown
  have hA : ∀ q : Nat, s.heap.size ≤ q → (fun q : Nat => s.heap.size ≤ q) q := fun _ h => h
  have hbA : ¬ (fun q : Nat => s.heap.size ≤ q) bs := Nat.not_le.mpr hbl
  obtain ⟨R, hP, hD, hS, hl⟩ := G
  refine lv_aload_n hx hb dL_law_349 rfl (lv_at hl 1 rfl) ?_
  refine lv_aload_n hx hb dL_law_350 rfl (lv_at hl 0 rfl) ?_
  refine lv_iload_n hx hb dL_law_351 rfl (lv_at hl 3 rfl) ?_
  refine lv_iconst (v := 1) hx hb dL_law_352 (by decide) ?_
  refine lv_iadd hx hb dL_law_353 ?_
  refine bt_top (y := nI (i + 1)) (nI_add i 1) ?_
  refine bt_sld hx hb hX hbl hbA hS (by omega) hL dL_law_354 ?_
  refine bt_cV (As := [.int (xs (i + 1))]) (rest := []) (b := h) (ci := 0) (q0 := 0) ⟨hx, hb, hml, hown, hts⟩ (rX_members l D h a1 a2 a3 a4 d k t a b j u (xs (i + 1))) 1 (lw_V q116 q117 q118 q19 q119) ⟨rfl, rfl⟩ (by decide +kernel) ⟨Nat.le_of_ble_eq_true rfl, Nat.le_of_ble_eq_true rfl⟩ hK (hP.sub [0, 1, 2, 3, 4] rfl) rfl rfl rfl hl.1 rfl (Nat.le_of_ble_eq_true rfl) dL_law_355 ⟨Nat.le_of_ble_eq_true rfl, Nat.le_of_ble_eq_true rfl⟩ ?_
  refine lv_aload_n hx hb dL_law_358 rfl (lv_at hl 2 rfl) ?_
  refine lv_aload_n hx hb dL_law_359 rfl (lv_at hl 0 rfl) ?_
  refine lv_iload_n hx hb dL_law_360 rfl (lv_at hl 3 rfl) ?_
  refine lv_iconst (v := 1) hx hb dL_law_361 (by decide) ?_
  refine lv_iadd hx hb dL_law_362 ?_
  refine bt_top (y := nI (i + 1)) (nI_add i 1) ?_
  refine bt_sld hx hb hX hbl hbA hS (by omega) hL dL_law_363 ?_
  refine bt_cV (As := [.int (xs (i + 1))]) (rest := [.int (xs_members t b (xs (i + 1)))]) (b := o) (ci := 1) (q0 := 0) ⟨hx, hb, hml, hown, hts⟩ (rM_members l D o b1 b2 b3 b4 b5 b6 d k t hh r f jj q u (xs (i + 1))) 1 (lw_V q216 q217 q218 q21 q219) ⟨rfl, rfl⟩ (by decide +kernel) ⟨Nat.le_of_ble_eq_true rfl, Nat.le_of_ble_eq_true rfl⟩ hK (hP.sub [5, 6, 7, 8, 9, 10, 11] rfl) rfl rfl rfl hl.1 rfl (Nat.le_of_ble_eq_true rfl) dL_law_364 ⟨Nat.le_of_ble_eq_true rfl, Nat.le_of_ble_eq_true rfl⟩ ?_
  refine lv_icmp_eq (tgt := 418) hx hb dL_law_367 (by decide) (fun _ => ?_) (fun c_1 => absurd ((la_members R _).symm) c_1)
  exact K t a b j u hh r f jj q _ _ _ ⟨R, hP, hD, hS, hl⟩
set_option maxHeartbeats 4000000 in
set_option maxRecDepth 100000 in
theorem lc_goes (hL : L ≤ 257) (C0 : lw_At p s m meth c bs L xs) (hK : va_K D vwCl [(d, .int)] s) (hk : k ≤ 9) (hi : i + 4 ≤ L) (K : lw_K p l e m below meth c D s bs h a1 a2 a3 a4 o b1 b2 b3 b4 b5 b6 d k i) (G : lw_St D s bs h a1 a2 a3 a4 o b1 b2 b3 b4 b5 b6 d k i t a b j u hh r f jj q H locs ls) : W p l e room_1 s m #[Value.ref bs] below meth c H locs 12 722 (lw_Z below #[Value.ref bs] s) (F0 m 372 ls []) := by
  obtain ⟨hx, hb, hr, hml, hown, hts0, hX, hbl, hlocks, hgv⟩ := C0
  have hts : ∀ w ∈ lw_all, w.before #[Value.ref bs] s = true := fun w h => hts0 w (lw_all_tbl h)
  have hown : s.vm.findClass RX0 = some m.cls := hown
  have hA : ∀ q : Nat, s.heap.size ≤ q → (fun q : Nat => s.heap.size ≤ q) q := fun _ h => h
  have hbA : ¬ (fun q : Nat => s.heap.size ≤ q) bs := Nat.not_le.mpr hbl
  obtain ⟨R, hP, hD, hS, hl⟩ := G
  refine lv_aload_n hx hb dL_law_372 rfl (lv_at hl 1 rfl) ?_
  refine lv_aload_n hx hb dL_law_373 rfl (lv_at hl 0 rfl) ?_
  refine lv_iload_n hx hb dL_law_374 rfl (lv_at hl 3 rfl) ?_
  refine lv_iconst (v := 1) hx hb dL_law_375 (by decide) ?_
  refine lv_iadd hx hb dL_law_376 ?_
  refine bt_top (y := nI (i + 1)) (nI_add i 1) ?_
  refine bt_sld hx hb hX hbl hbA hS (by omega) hL dL_law_377 ?_
  refine bt_cV (As := [.int (xs (i + 1))]) (rest := []) (b := h) (ci := 0) (q0 := 0) ⟨hx, hb, hml, hown, hts⟩ (rX_goes l D h a1 a2 a3 a4 d k t a b j u (xs (i + 1))) 1 (lw_V q120 q121 q122 q19 q123) ⟨rfl, rfl⟩ (by decide +kernel) ⟨Nat.le_of_ble_eq_true rfl, Nat.le_of_ble_eq_true rfl⟩ hK (hP.sub [0, 1, 2, 3, 4] rfl) rfl rfl rfl hl.1 rfl (Nat.le_of_ble_eq_true rfl) dL_law_378 ⟨Nat.le_of_ble_eq_true rfl, Nat.le_of_ble_eq_true rfl⟩ ?_
  refine lv_aload_n hx hb dL_law_381 rfl (lv_at hl 2 rfl) ?_
  refine lv_aload_n hx hb dL_law_382 rfl (lv_at hl 0 rfl) ?_
  refine lv_iload_n hx hb dL_law_383 rfl (lv_at hl 3 rfl) ?_
  refine lv_iconst (v := 1) hx hb dL_law_384 (by decide) ?_
  refine lv_iadd hx hb dL_law_385 ?_
  refine bt_top (y := nI (i + 1)) (nI_add i 1) ?_
  refine bt_sld hx hb hX hbl hbA hS (by omega) hL dL_law_386 ?_
  refine bt_cV (As := [.int (xs (i + 1))]) (rest := [.int (xs_goes k t a b j u (xs (i + 1)))]) (b := o) (ci := 1) (q0 := 0) ⟨hx, hb, hml, hown, hts⟩ (rM_goes l D o b1 b2 b3 b4 b5 b6 d k t hh r f jj q u (xs (i + 1))) 1 (lw_V q251 q252 q253 q21 q254) ⟨rfl, rfl⟩ (by decide +kernel) ⟨Nat.le_of_ble_eq_true rfl, Nat.le_of_ble_eq_true rfl⟩ hK (hP.sub [5, 6, 7, 8, 9, 10, 11] rfl) rfl rfl rfl hl.1 rfl (Nat.le_of_ble_eq_true rfl) dL_law_387 ⟨Nat.le_of_ble_eq_true rfl, Nat.le_of_ble_eq_true rfl⟩ ?_
  refine lv_icmp_eq (tgt := 418) hx hb dL_law_390 (by decide) (fun _ => ?_) (fun c_1 => absurd ((la_goes R _).symm) c_1)
  exact K t a b j u hh r f jj q _ _ _ ⟨R, hP, hD, hS, hl⟩
set_option maxHeartbeats 4000000 in
set_option maxRecDepth 100000 in
theorem lc_look (hL : L ≤ 257) (C0 : lw_At p s m meth c bs L xs) (hK : va_K D vwCl [(d, .int)] s) (hk : k ≤ 9) (hi : i + 4 ≤ L) (K : lw_K p l e m below meth c D s bs h a1 a2 a3 a4 o b1 b2 b3 b4 b5 b6 d k i) (G : lw_St D s bs h a1 a2 a3 a4 o b1 b2 b3 b4 b5 b6 d k i t a b j u hh r f jj q H locs ls) : W p l e room_1 s m #[Value.ref bs] below meth c H locs 12 722 (lw_Z below #[Value.ref bs] s) (F0 m 395 ls []) := by
  obtain ⟨hx, hb, hr, hml, hown, hts0, hX, hbl, hlocks, hgv⟩ := C0
  have hts : ∀ w ∈ lw_all, w.before #[Value.ref bs] s = true := fun w h => hts0 w (lw_all_tbl h)
  have hown : s.vm.findClass RX0 = some m.cls := hown
  have hA : ∀ q : Nat, s.heap.size ≤ q → (fun q : Nat => s.heap.size ≤ q) q := fun _ h => h
  have hbA : ¬ (fun q : Nat => s.heap.size ≤ q) bs := Nat.not_le.mpr hbl
  obtain ⟨R, hP, hD, hS, hl⟩ := G
  refine lv_aload_n hx hb dL_law_395 rfl (lv_at hl 1 rfl) ?_
  refine lv_aload_n hx hb dL_law_396 rfl (lv_at hl 0 rfl) ?_
  refine lv_iload_n hx hb dL_law_397 rfl (lv_at hl 3 rfl) ?_
  refine lv_iconst (v := 1) hx hb dL_law_398 (by decide) ?_
  refine lv_iadd hx hb dL_law_399 ?_
  refine bt_top (y := nI (i + 1)) (nI_add i 1) ?_
  refine bt_sld hx hb hX hbl hbA hS (by omega) hL dL_law_400 ?_
  refine bt_cV (As := [.int (xs (i + 1))]) (rest := []) (b := h) (ci := 0) (q0 := 0) ⟨hx, hb, hml, hown, hts⟩ (rX_look l D h a1 a2 a3 a4 d k t a b j u (xs (i + 1)) hk) 1 (lw_V q132 q133 q134 q19 q135) ⟨rfl, rfl⟩ (by decide +kernel) ⟨Nat.le_of_ble_eq_true rfl, Nat.le_of_ble_eq_true rfl⟩ hK (hP.sub [0, 1, 2, 3, 4] rfl) rfl rfl rfl hl.1 rfl (Nat.le_of_ble_eq_true rfl) dL_law_401 ⟨Nat.le_of_ble_eq_true rfl, Nat.le_of_ble_eq_true rfl⟩ ?_
  refine lv_aload_n hx hb dL_law_404 rfl (lv_at hl 2 rfl) ?_
  refine lv_aload_n hx hb dL_law_405 rfl (lv_at hl 0 rfl) ?_
  refine lv_iload_n hx hb dL_law_406 rfl (lv_at hl 3 rfl) ?_
  refine lv_iconst (v := 1) hx hb dL_law_407 (by decide) ?_
  refine lv_iadd hx hb dL_law_408 ?_
  refine bt_top (y := nI (i + 1)) (nI_add i 1) ?_
  refine bt_sld hx hb hX hbl hbA hS (by omega) hL dL_law_409 ?_
  refine bt_cV (As := [.int (xs (i + 1))]) (rest := [.int (xs_look k t a b j u (xs (i + 1)))]) (b := o) (ci := 1) (q0 := 0) ⟨hx, hb, hml, hown, hts⟩ (rM_look l D o b1 b2 b3 b4 b5 b6 d k t hh r f jj q u (xs (i + 1)) hk) 1 (lw_V q263 q264 q265 q21 q266) ⟨rfl, rfl⟩ (by decide +kernel) ⟨Nat.le_of_ble_eq_true rfl, Nat.le_of_ble_eq_true rfl⟩ hK (hP.sub [5, 6, 7, 8, 9, 10, 11] rfl) rfl rfl rfl hl.1 rfl (Nat.le_of_ble_eq_true rfl) dL_law_410 ⟨Nat.le_of_ble_eq_true rfl, Nat.le_of_ble_eq_true rfl⟩ ?_
  refine lv_icmp_eq (tgt := 418) hx hb dL_law_413 (by decide) (fun _ => ?_) (fun c_1 => absurd ((la_look R _).symm) c_1)
  exact K t a b j u hh r f jj q _ _ _ ⟨R, hP, hD, hS, hl⟩
end LC2
end
section
set_option maxHeartbeats 4000000 in
set_option maxRecDepth 100000 in
/-- THE LAW'S LOOP, at its head with i ints read -/
theorem law_loop {p : Program} {l : Launch} {e : Env} {s : State} {m : MethodId} {below : List Frame} {meth : Method} {c : Code} {D : va_G} {bs L : Nat} {xs : Nat → Int32} {h a1 a2 a3 a4 o b1 b2 b3 b4 b5 b6 : Nat} {d : ClassId} {k : Nat} (hL : L ≤ 257) (C0 : lw_At p s m meth c bs L xs) (hK : va_K D vwCl [(d, .int)] s) (hk : k ≤ 9) :
    ∀ (n i : Nat) (t : Int32) (a b j u hh r f jj q : Nat → Int32) (H : Heap) (locs : List Loc) (ls : Array Slot), i ≤ L + 1 → L + 2 ≤ i + n → lw_St D s bs h a1 a2 a3 a4 o b1 b2 b3 b4 b5 b6 d k i t a b j u hh r f jj q H locs ls → W p l e room_1 s m #[Value.ref bs] below meth c H locs 12 722 (lw_Z below #[Value.ref bs] s) (F0 m 28 ls []) := by
  obtain ⟨hx, hb, hr, hml, hown, hts0, hX, hbl, hlocks, hgv⟩ := id C0
  have hbA : ¬ (fun q : Nat => s.heap.size ≤ q) bs := Nat.not_le.mpr hbl
  intro n
  induction n with
  | zero =>
    intro i t a b j u hh r f jj q H locs ls h1 h2
    exact absurd h2 (by omega)
  | succ n ih =>
    intro i t a b j u hh r f jj q H locs ls h1 h2 G
    obtain ⟨R, hP, hD, hS, hl⟩ := id G
    refine lv_iload_n hx hb dL_law_28 rfl (lv_at hl 3 rfl) ?_
    refine lv_aload_n hx hb dL_law_29 rfl (lv_at hl 0 rfl) ?_
    refine va_slen hx hb hX hbl hbA hS dL_law_30 ?_
    refine lv_iconst (v := 4) hx hb dL_law_31 (by decide) ?_
    refine lv_isub hx hb dL_law_32 ?_
    refine lv_icmp_gt (tgt := 424) hx hb dL_law_33 (by decide) (fun c_33 => ?_) (fun c_33 => ?_)
    · refine lv_iconst (v := 1) hx hb dL_law_424 (by decide) ?_
      refine va_forget (fun q hq => hS.2.2 q hq) ?_
      refine W.widen (k := 600000) (n := 7290000) (Nat.le_of_ble_eq_true rfl) (Nat.le_of_ble_eq_true rfl) ?_
      exact lw_ret hx hb hr hlocks dL_law_425
    · have hi : i + 4 ≤ L := bt_head hL (by omega) c_33
      have K : lw_K p l e m below meth c D s bs h a1 a2 a3 a4 o b1 b2 b3 b4 b5 b6 d k i := by
        intro t a b j u hh r f jj q H locs ls G
        obtain ⟨R, hP, hD, hS, hl⟩ := G
        refine lv_iinc (v := nI (i + 4)) (lv' := [(3, .int (nI (i + 4))), (0, .ref bs), (1, .ref h), (2, .ref o)]) hx hb dL_law_418 hl (k := 3) rfl (nI_add i 4) (by decide) rfl (fun ls hl => ?_)
        refine lv_goto (tgt := 28) hx hb dL_law_421 (by decide) ?_
        exact ih (i + 4) t a b j u hh r f jj q H locs ls (by omega) (by omega) ⟨R, hP, hD, hS, lv_sub hl [1, 2, 3, 0] rfl⟩
      refine lv_aload_n hx hb dL_law_36 rfl (lv_at hl 0 rfl) ?_
      refine lv_iload_n hx hb dL_law_37 rfl (lv_at hl 3 rfl) ?_
      refine bt_sld hx hb hX hbl hbA hS (by omega) hL dL_law_38 ?_
      refine lv_bipush (v := 15) hx hb dL_law_39 (by decide) ?_
      refine lv_iand hx hb dL_law_41 ?_
      rcases bt_sw12 (xs i &&& 15) with ev | ev | ev | ev | ev | ev | ev | ev | ev | ev | ev | ev | ev
      · refine bt_top (y := 0) ev ?_
        refine lv_tableIn (tgt := 104) hx hb dL_law_42 (by decide) (by decide) rfl (by decide) ?_
        exact lc_tick hL C0 hK hk hi K G
      · refine bt_top (y := 1) ev ?_
        refine lv_tableIn (tgt := 127) hx hb dL_law_42 (by decide) (by decide) rfl (by decide) ?_
        exact lc_hello hL C0 hK hk hi K G
      · refine bt_top (y := 2) ev ?_
        refine lv_tableIn (tgt := 150) hx hb dL_law_42 (by decide) (by decide) rfl (by decide) ?_
        exact lc_report hL C0 hK hk hi K G
      · refine bt_top (y := 3) ev ?_
        refine lv_tableIn (tgt := 173) hx hb dL_law_42 (by decide) (by decide) rfl (by decide) ?_
        exact lc_leave hL C0 hK hk hi K G
      · refine bt_top (y := 4) ev ?_
        refine lv_tableIn (tgt := 196) hx hb dL_law_42 (by decide) (by decide) rfl (by decide) ?_
        exact lc_join hL C0 hK hk hi K G
      · refine bt_top (y := 5) ev ?_
        refine lv_tableIn (tgt := 239) hx hb dL_law_42 (by decide) (by decide) rfl (by decide) ?_
        exact lc_prune hL C0 hK hk hi K G
      · refine bt_top (y := 6) ev ?_
        refine lv_tableIn (tgt := 272) hx hb dL_law_42 (by decide) (by decide) rfl (by decide) ?_
        exact lc_forget hL C0 hK hk hi K G
      · refine bt_top (y := 7) ev ?_
        refine lv_tableIn (tgt := 283) hx hb dL_law_42 (by decide) (by decide) rfl (by decide) ?_
        exact lc_joined hL C0 hK hk hi K G
      · refine bt_top (y := 8) ev ?_
        refine lv_tableIn (tgt := 316) hx hb dL_law_42 (by decide) (by decide) rfl (by decide) ?_
        exact lc_cut hL C0 hK hk hi K G
      · refine bt_top (y := 9) ev ?_
        refine lv_tableIn (tgt := 349) hx hb dL_law_42 (by decide) (by decide) rfl (by decide) ?_
        exact lc_members hL C0 hK hk hi K G
      · refine bt_top (y := 10) ev ?_
        refine lv_tableIn (tgt := 372) hx hb dL_law_42 (by decide) (by decide) rfl (by decide) ?_
        exact lc_goes hL C0 hK hk hi K G
      · refine bt_top (y := 11) ev ?_
        refine lv_tableIn (tgt := 395) hx hb dL_law_42 (by decide) (by decide) rfl (by decide) ?_
        exact lc_look hL C0 hK hk hi K G
      · refine lv_tableOut (tgt := 418) hx hb dL_law_42 ev (by decide) ?_
        exact K t a b j u hh r f jj q _ _ _ G
set_option maxHeartbeats 4000000 in
set_option maxRecDepth 100000 in
/-- THE LAW, from its entry -/
theorem whole_start {p : Program} {e : Env} {s : State} {m : MethodId} {below : List Frame} {meth : Method} {c : Code} (l : Launch) {b L : Nat} {xs : Nat → Int32} (hL : L ≤ 257) (C0 : lw_At p s m meth c b L xs) : W p l e room_1 s m #[Value.ref b] below meth c s.heap [] 0 0 (lw_Z below #[Value.ref b] s) (entryFrame m ([Value.ref b] : List Value).toArray 4) := by
  obtain ⟨hx, hb, hr, hml, hown, hts0, hX, hbl, hlocks, hgv⟩ := id C0
  have hts : ∀ w ∈ lw_all, w.before #[Value.ref b] s = true := fun w h => hts0 w (lw_all_tbl h)
  have hown : s.vm.findClass RX0 = some m.cls := hown
  have hA : ∀ q : Nat, s.heap.size ≤ q → (fun q : Nat => s.heap.size ≤ q) q := fun _ h => h
  have hbA : ¬ (fun q : Nat => s.heap.size ≤ q) b := Nat.not_le.mpr hbl
  obtain ⟨c0, iS0, hKn0⟩ := u_known (C := RX1) (T := TX1) (N := 6) (n := 6) hts in_X1 (hts _ q23)
  obtain ⟨c1, iS1, hKn1⟩ := u_known (C := RX2) (T := TX2) (N := 8) (n := 8) hts in_X2 (hts _ q149)
  obtain ⟨dC, dI, hKc⟩ : ∃ (dC : Nat → ClassId) (dI : Nat → Nat → Nat), ∀ (k : Nat) (q : vw_C), vwCl[k]? = some q → u_Kn s q.1 q.2.1 q.2.2 (dC k) (dI k) := by
    refine ⟨fun k => if k = 0 then c0 else c1, fun k => if k = 0 then iS0 else iS1, ?_⟩
    intro k q hq
    match k, hq with
    | 0, hq => cases hq; exact hKn0
    | 1, hq => cases hq; exact hKn1
    | k + 2, hq => simp [vwCl] at hq
  obtain ⟨D, hDe⟩ : ∃ D : va_G, D = (dC, dI) := ⟨_, rfl⟩
  have hK0 : va_K D vwCl [] s := by
    rw [hDe]
    exact ⟨hKc, fun k q h => by simp at h⟩
  obtain ⟨d, hK⟩ := bt_arrK hK0 (hts _ q59)
  have hS : va_S (fun q : Nat => s.heap.size ≤ q) s.heap s.heap [] := va_S.rf
  have hP : va_P D vwCl [] s.heap := fun k q h => by simp at h
  have hD : va_D (fun q : Nat => s.heap.size ≤ q) [] := ⟨fun i j p q h => by simp at h, fun k q h => by simp at h⟩
  have hl := lv_entry ([.ref b]) (n := 4) (Nat.le_of_ble_eq_true rfl)
  rw [lg_entry_eq]
  generalize (lg_sl ([.ref b]) ++ List.replicate (4 - (lg_sl ([.ref b])).length) Slot.unset).toArray = ls at hl ⊢
  have hl : lv_has ls 4 [(0, .ref b)] := hl
  refine va_new (D := D) (ci := 0) (fs := [.int 0, .int 0, .null, .null, .null, .null]) (C := RX1) (T := TX1) (N := 6) hx hb hts in_X1 tyX1 tyX1_ok hown (hts _ q22) (hts _ q23) (hts _ q19) hK hP hD hS hA rfl (fun j hj => by rcases (show j = 0 ∨ j = 1 ∨ j = 2 ∨ j = 3 ∨ j = 4 ∨ j = 5 by omega) with rfl | rfl | rfl | rfl | rfl | rfl <;> rfl) (Nat.le_of_ble_eq_true rfl) (Nat.le_of_ble_eq_true rfl) dL_law_0 (fun qx H hP hD hS => ?_)
  have hP : va_P D vwCl [(qx, .inr (0, [.int 0, .int 0, .null, .null, .null, .null]))] H := hP
  have hD : va_D (fun q : Nat => s.heap.size ≤ q) [(qx, .inr (0, [.int 0, .int 0, .null, .null, .null, .null]))] := hD
  refine W.widen (k := 1) (n := 6) (Nat.le_of_ble_eq_true rfl) (Nat.le_of_ble_eq_true rfl) ?_
  refine lv_dup hx hb dL_law_3 rfl ?_
  refine lv_aload_n hx hb dL_law_4 rfl (lv_at hl 0 rfl) ?_
  refine lv_iconst (v := 0) hx hb dL_law_5 (by decide) ?_
  refine bt_cX (As := [.ref b, .int 0]) (rest := [.ref qx, .ref qx]) ⟨hx, hb, hml, hown, hts⟩ (rL_cell l b L xs hL) 2 (lw_S q145 q146 q18 q147) ⟨rfl, rfl⟩ (by decide +kernel) ⟨Nat.le_of_ble_eq_true rfl, Nat.le_of_ble_eq_true rfl⟩ hX hbl hbA hS rfl hl.1 rfl (Nat.le_of_ble_eq_true rfl) dL_law_6 ⟨Nat.le_of_ble_eq_true rfl, Nat.le_of_ble_eq_true rfl⟩ ?_
  refine bt_cI (As := [.int (bt_arg L xs)]) (rest := [.ref qx]) (b := qx) (wr := []) ⟨hx, hb, hml, hown, hts⟩ (iX_init l D qx d (bt_arg L xs) H.size) 1 q26 q19 q24 q25 rfl ⟨rfl, rfl⟩ (by decide +kernel) ⟨Nat.le_of_ble_eq_true rfl, Nat.le_of_ble_eq_true rfl⟩ hK hP hD hS hA [0] [] rfl rfl (by decide) (by decide) (by decide) rfl hl.1 rfl (Nat.le_of_ble_eq_true rfl) dL_law_9 ⟨Nat.le_of_ble_eq_true rfl, Nat.le_of_ble_eq_true rfl⟩ (fun yx H locs hP hD hS => ?_)
  have hP : va_P D vwCl (wX qx yx.1 yx.2.1 yx.2.2.1 yx.2.2.2 d (bt_cl (bt_arg L xs)) 0 (bt_fill (fun _ => 0) 0 10) (bt_fill (fun _ => 0) 0 8) (bt_fill (fun _ => 0) 0 136) (bt_fill (fun _ => 0) (-1) 128)) H := hP
  have hD : va_D (fun q : Nat => s.heap.size ≤ q) (wX qx yx.1 yx.2.1 yx.2.2.1 yx.2.2.2 d (bt_cl (bt_arg L xs)) 0 (bt_fill (fun _ => 0) 0 10) (bt_fill (fun _ => 0) 0 8) (bt_fill (fun _ => 0) 0 136) (bt_fill (fun _ => 0) (-1) 128)) := hD
  refine W.widen (k := 5) (n := 288) (Nat.le_of_ble_eq_true rfl) (Nat.le_of_ble_eq_true rfl) ?_
  refine lv_astore_n (lv' := [(1, .ref qx), (0, .ref b)]) hx hb dL_law_12 rfl hl (by decide) rfl (fun ls hl => ?_)
  refine va_new (D := D) (ci := 1) (fs := [.int 0, .int 0, .null, .null, .null, .null, .null, .null]) (C := RX2) (T := TX2) (N := 8) hx hb hts in_X2 tyX2 tyX2_ok hown (hts _ q148) (hts _ q149) (hts _ q21) hK hP hD hS hA rfl (fun j hj => by rcases (show j = 0 ∨ j = 1 ∨ j = 2 ∨ j = 3 ∨ j = 4 ∨ j = 5 ∨ j = 6 ∨ j = 7 by omega) with rfl | rfl | rfl | rfl | rfl | rfl | rfl | rfl <;> rfl) (Nat.le_of_ble_eq_true rfl) (Nat.le_of_ble_eq_true rfl) dL_law_13 (fun qm H hP hD hS => ?_)
  have hP : va_P D vwCl (wX qx yx.1 yx.2.1 yx.2.2.1 yx.2.2.2 d (bt_cl (bt_arg L xs)) 0 (bt_fill (fun _ => 0) 0 10) (bt_fill (fun _ => 0) 0 8) (bt_fill (fun _ => 0) 0 136) (bt_fill (fun _ => 0) (-1) 128) ++ [(qm, .inr (1, [.int 0, .int 0, .null, .null, .null, .null, .null, .null]))]) H := hP
  have hD : va_D (fun q : Nat => s.heap.size ≤ q) (wX qx yx.1 yx.2.1 yx.2.2.1 yx.2.2.2 d (bt_cl (bt_arg L xs)) 0 (bt_fill (fun _ => 0) 0 10) (bt_fill (fun _ => 0) 0 8) (bt_fill (fun _ => 0) 0 136) (bt_fill (fun _ => 0) (-1) 128) ++ [(qm, .inr (1, [.int 0, .int 0, .null, .null, .null, .null, .null, .null]))]) := hD
  refine W.widen (k := 6) (n := 296) (Nat.le_of_ble_eq_true rfl) (Nat.le_of_ble_eq_true rfl) ?_
  refine lv_dup hx hb dL_law_16 rfl ?_
  refine lv_aload_n hx hb dL_law_17 rfl (lv_at hl 1 rfl) ?_
  refine lv_iconst (v := 0) hx hb dL_law_18 (by decide) ?_
  refine bt_cX (As := [.ref b, .int 0]) (rest := [.ref qm, .ref qm]) ⟨hx, hb, hml, hown, hts⟩ (rL_cell l b L xs hL) 2 (lw_S q145 q146 q18 q147) ⟨rfl, rfl⟩ (by decide +kernel) ⟨Nat.le_of_ble_eq_true rfl, Nat.le_of_ble_eq_true rfl⟩ hX hbl hbA hS rfl hl.1 rfl (Nat.le_of_ble_eq_true rfl) dL_law_19 ⟨Nat.le_of_ble_eq_true rfl, Nat.le_of_ble_eq_true rfl⟩ ?_
  refine bt_cI (As := [.int (bt_arg L xs)]) (rest := [.ref qm]) (b := qm) (wr := wX qx yx.1 yx.2.1 yx.2.2.1 yx.2.2.2 d (bt_cl (bt_arg L xs)) 0 (bt_fill (fun _ => 0) 0 10) (bt_fill (fun _ => 0) 0 8) (bt_fill (fun _ => 0) 0 136) (bt_fill (fun _ => 0) (-1) 128)) ⟨hx, hb, hml, hown, hts⟩ (iM_init l D qm d (bt_arg L xs) H.size) 1 q152 q21 q150 q151 rfl ⟨rfl, rfl⟩ (by decide +kernel) ⟨Nat.le_of_ble_eq_true rfl, Nat.le_of_ble_eq_true rfl⟩ hK hP hD hS hA [5] [0, 1, 2, 3, 4] rfl rfl (by decide) (by decide) (by decide) rfl hl.1 rfl (Nat.le_of_ble_eq_true rfl) dL_law_22 ⟨Nat.le_of_ble_eq_true rfl, Nat.le_of_ble_eq_true rfl⟩ (fun ym H locs hP hD hS => ?_)
  refine W.widen (k := 12) (n := 722) (Nat.le_of_ble_eq_true rfl) (Nat.le_of_ble_eq_true rfl) ?_
  refine lv_astore_n (lv' := [(2, .ref qm), (1, .ref qx), (0, .ref b)]) hx hb dL_law_25 rfl hl (by decide) rfl (fun ls hl => ?_)
  refine lv_iconst (v := 1) hx hb dL_law_26 (by decide) ?_
  refine lv_istore_n (lv' := [(3, .int 1), (2, .ref qm), (1, .ref qx), (0, .ref b)]) hx hb dL_law_27 rfl hl (by decide) rfl (fun ls hl => ?_)
  exact law_loop hL C0 hK (bt_cl_le _) (L + 1) 1 0 _ _ _ _ _ _ _ _ _ H locs ls (by omega) (by omega) ⟨lr_init, hP, hD, hS, lv_sub hl [3, 2, 1, 0] rfl⟩
end
section
set_option maxHeartbeats 4000000 in
theorem lw_walk (l : Launch) (b : Addr) (xs : List Int32) : MetFree l x (headSpec (Jvm.Cond.code x code maxLocals ret :: tables_1) room_1) (lw_P b xs) (fun _ _ _ _ _ => True) lw_Q := by
  refine MetFree.of_bodyS (code := code) (maxLocals := maxLocals) (ret := ret) (by decide) ?_ ?_
  · intro args s m h hn
    obtain ⟨meth, c, h1, h2, h3, h4, h5, h6, -, -⟩ := Cond.code_spec hn (atoms_spec (ws := Jvm.Cond.code x code maxLocals ret :: tables_1) h _ List.mem_cons_self)
    exact ⟨meth, c, h1, h2, h3, h4, h5, h6⟩
  · intro p e s m args below meth c s₁ B hml0 hP _
    obtain ⟨rfl, hx, hbd, hgv⟩ := hP
    obtain ⟨scr, harrAt, hlist, hof, hsmall⟩ := hx
    obtain ⟨hcb, hkn, -, -⟩ := State.arrayAt?_spec harrAt
    have hown : s.vm.findClass R_law = some m.cls := findClass_of_methodNamed B.named
    have hts0 : ∀ c ∈ (Jvm.Cond.code x code maxLocals ret :: tables_1), c.before #[Value.ref b] s = true := atoms_spec (ws := Jvm.Cond.code x code maxLocals ret :: tables_1) B.pre
    have hts : ∀ w ∈ lw_tbl, w.before #[Value.ref b] s = true := k2_hts_sels lw_privs (fun w hw => hts0 w (List.mem_cons_of_mem _ hw)) lw_privs_ok
    have hml : c.maxLocals = 4 := B.maxLocals_eq (hts0 _ List.mem_cons_self)
    have X₀ : Stand p l e room_1 s m #[Value.ref b] below meth c s₁ [] 0 0 := Stand.of_body B
    have hh0 : s₁.heap = s.heap := by rw [B.state]; rfl
    have hsz : scr.slots.size = xs.length := by rw [← Array.length_toList, hlist, List.length_map]
    have hval : ∀ j : Nat, j < xs.length → scr.slots[j]? = some (.int (xs.getD j 0)) := fun j hj => by
      rw [← Array.getElem?_toList, hlist]
      simp [hj]
    have hbl : b < s.heap.size := (Array.getElem?_eq_some_iff.mp hcb).1
    have hX : va_X b xs.length (fun j => xs.getD j 0) s s.heap := ⟨scr, hcb, hof, hkn, hsz, hval⟩
    have K : W p l e room_1 s m #[Value.ref b] below meth c s₁.heap [] 0 0 (lw_Z below #[Value.ref b] s) (entryFrame m ([Value.ref b] : List Value).toArray 4) := by
      rw [hh0]
      exact whole_start l hbd ⟨B.exec, B.bytes, B.returns, hml, hown, hts, hX, hbl, B.notSynchronized, hgv⟩
    obtain ⟨t, a1, o, b1, b2, b3⟩ := K s₁ rfl X₀
    exact ⟨t, o, a1, b1, b2, b3⟩
theorem lw_pre_spec {args : Array Value} {s : State} (h : (Jvm.Cond.and given_1 narrow_1).before args s = true) (hr : rest_1_c.before args s = true) : ∃ (b : Addr) (xs : List Int32), lw_P b xs args s := by
  have hs := flat_of_before _ h
  have hq := flat_of_before _ hr
  have hc : (Cond.count 1).before args s = true := hs _ (by decide +kernel)
  have harr : (Cond.arrayOf (.arg 0) .int).before args s = true := hs _ (by decide +kernel)
  have hle : (Cond.le (.length (.arg 0)) (.int 257)).before args s = true := hs _ (by decide +kernel)
  have hlen : (Cond.isInt (.length (.arg 0))).before args s = true := hq _ (by decide +kernel)
  have hall : (Cond.all (.arg 0) (.isInt (.elem (.arg 0) (.index 0)))).before args s = true := hq _ (by decide +kernel)
  obtain ⟨b, xs, hb, hx⟩ := State.ints_of_pre rfl harr hlen hall
  have hsm : xs.length < 2 ^ 31 := hx.choose_spec.2.2.2
  have hev : (Term.length (.arg 0)).eval args s none [] s = some (.int xs.length.toInt32) := hx.length_eval hb
  have hv := Cond.le_ints hev (show (Term.int 257).eval args s none [] s = some (.int 257) from rfl)
  have hd : xs.length.toInt32 ≤ 257 := by
    simpa [Cond.before, Cond.holds, hv] using hle
  have hN : xs.length ≤ 257 := (Int32.ofNat_le_ofNat hsm (by decide)).mp (show Int32.ofNat xs.length ≤ Int32.ofNat 257 from hd)
  exact ⟨b, xs, Cond.one_arg hc (show args[0]? = some (.ref b) from hb), hx, hN, h⟩
theorem lw_comes (l : Launch) : Comes l x (Jvm.Cond.code x code maxLocals ret :: tables_1) room_1 (fun tb e args s => Calls_1 tb e args s ∧ rest_1 tb e args s ∧ Pre_1 tb e args s)
    (fun _ _ args s o t => lw_Q args s o t) := by
  intro p e ha hc hk s m args below hf hfit hheap happ hpre
  obtain ⟨b, xs, hP⟩ := lw_pre_spec hpre.2.2 hpre.2.1
  obtain ⟨k, o, h1, h2, h3, hQ⟩ := lw_walk l b xs p e ha hc hk s m args below hf ((Spec.applies_iff_loose hf).mp happ).1 hP trivial
  exact ⟨k, o, h1, h2, h3, hQ⟩
theorem lw_frame {s t : State} {o : Outcome} {args : Array Value} (h : Framed s o t [] 600000 7290000) :
    Framed s o t (fieldLocs frame_1_writes args s ++ arrayLocs frame_1_arrays args s ++ staticLocs frame_1_statics s) 600000 7290000 := h
theorem lw_limb (L : Cond) (hL : ∀ (args : Array Value) (s t : State), L.after args s (.returned (some (.int 1))) t = true) :
    ArmFor flags0 classFile x code maxLocals ret World_1 tables_1 room_1 Calls_1 rest_1 Pre_1
      (fun tb e a s o t => postC L tb e a s o t ∧ Framed s o t (fieldLocs frame_1_writes a s ++ arrayLocs frame_1_arrays a s ++ staticLocs frame_1_statics s) 600000 7290000) := by
  intro l _ _ _ p e ha hc hk s m args below hf hfit hheap happ hpre
  obtain ⟨k, o, h1, h2, h3, rfl, hF⟩ := lw_comes l p e ha hc hk s m args below hf hfit hheap happ hpre
  exact ⟨k, _, h1, h2, h3, hL args s _, lw_frame hF⟩
theorem i_vc : Claimed_1_1 ∧ Claimed_1_2 := ⟨lw_limb limb_1_1 (fun args s t => by simp [limb_1_1, Cond.after, Cond.holds, Cond.value]), lw_limb limb_1_2 (fun args s t => Cond.after_iff.mpr (by
  first | (rw [show limb_1_2 = Cond.eq .result (.int 1) from rfl, Cond.eq_ints (x := 1) (y := 1) rfl rfl]; simp; done) | (simp [limb_1_2, Cond.value, Term.eval]; done)))⟩
end
