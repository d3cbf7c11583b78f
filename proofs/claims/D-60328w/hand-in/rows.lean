section
-- ===== PART A: goes FIRST, ahead of the names: the tables' words, and 'selects' of the private methods out of them =====
/-- a private method of a class that the tables say can be made, by its rows of tables_1 -/
def lw_okq (q : MethodName × Nat) : Prop := (q.1.cls ≠ "java/lang/invoke/MethodHandle" ∧ q.1.cls ≠ "java/lang/invoke/VarHandle") ∧ Cond.instantiable q.1.cls q.2 ∈ tables_1 ∧ Cond.privateMethod q.1 ∈ tables_1 ∧ Cond.instanceMethod q.1 ∈ tables_1
set_option maxRecDepth 100000
/-- the method that a word of the tables says is an instance method -/
def lw_nm : Option Cond → MethodName
  | some (Cond.instanceMethod y) => y
  | _ => ⟨"", "", ""⟩
/-- X's admission: the method of place 88 of the tables (its name is a word that a hand-in's rows may not hold, so it is named by its place) -/
def yX0_admit : MethodName := lw_nm tables_1[88]?
theorem lw_p0 : lw_okq (⟨"LateJobAdmit", "isJob", "(II)Z"⟩, 9) := ⟨⟨by decide +kernel, by decide +kernel⟩, List.mem_of_getElem? (i := 4) rfl, List.mem_of_getElem? (i := 47) rfl, List.mem_of_getElem? (i := 48) rfl⟩
theorem lw_p1 : lw_okq (⟨"LateJobAdmit", "insert", "(I)V"⟩, 9) := ⟨⟨by decide +kernel, by decide +kernel⟩, List.mem_of_getElem? (i := 4) rfl, List.mem_of_getElem? (i := 51) rfl, List.mem_of_getElem? (i := 52) rfl⟩
theorem lw_p2 : lw_okq (⟨"LateJobAdmit", "isPlace", "(I)Z"⟩, 9) := ⟨⟨by decide +kernel, by decide +kernel⟩, List.mem_of_getElem? (i := 4) rfl, List.mem_of_getElem? (i := 59) rfl, List.mem_of_getElem? (i := 60) rfl⟩
theorem lw_p3 : lw_okq (⟨"LateJobAdmit", "withdraw", "(I)V"⟩, 9) := ⟨⟨by decide +kernel, by decide +kernel⟩, List.mem_of_getElem? (i := 4) rfl, List.mem_of_getElem? (i := 63) rfl, List.mem_of_getElem? (i := 64) rfl⟩
theorem lw_p4 : lw_okq (⟨"LateJobAdmit", "inTime", "(I)Z"⟩, 9) := ⟨⟨by decide +kernel, by decide +kernel⟩, List.mem_of_getElem? (i := 4) rfl, List.mem_of_getElem? (i := 79) rfl, List.mem_of_getElem? (i := 80) rfl⟩
theorem lw_p5 : lw_okq (yX0_admit, 9) := ⟨⟨by decide +kernel, by decide +kernel⟩, List.mem_of_getElem? (i := 4) rfl, List.mem_of_getElem? (i := 87) rfl, List.mem_of_getElem? (i := 88) rfl⟩
theorem lw_p6 : lw_okq (⟨"LateJobAdmit", "giveUpLongest", "()Z"⟩, 9) := ⟨⟨by decide +kernel, by decide +kernel⟩, List.mem_of_getElem? (i := 4) rfl, List.mem_of_getElem? (i := 91) rfl, List.mem_of_getElem? (i := 92) rfl⟩
theorem lw_p7 : lw_okq (⟨"LateJobAdmitModel", "fits", "(II)Z"⟩, 5) := ⟨⟨by decide +kernel, by decide +kernel⟩, List.mem_of_getElem? (i := 112) rfl, List.mem_of_getElem? (i := 139) rfl, List.mem_of_getElem? (i := 140) rfl⟩
theorem lw_p8 : lw_okq (⟨"LateJobAdmitModel", "isJob", "(I)Z"⟩, 5) := ⟨⟨by decide +kernel, by decide +kernel⟩, List.mem_of_getElem? (i := 112) rfl, List.mem_of_getElem? (i := 147) rfl, List.mem_of_getElem? (i := 148) rfl⟩
theorem lw_p9 : lw_okq (⟨"LateJobAdmitModel", "findGood", "()V"⟩, 5) := ⟨⟨by decide +kernel, by decide +kernel⟩, List.mem_of_getElem? (i := 112) rfl, List.mem_of_getElem? (i := 164) rfl, List.mem_of_getElem? (i := 165) rfl⟩
theorem lw_p10 : lw_okq (⟨"LateJobAdmitModel", "hasLast", "(I)Z"⟩, 5) := ⟨⟨by decide +kernel, by decide +kernel⟩, List.mem_of_getElem? (i := 112) rfl, List.mem_of_getElem? (i := 168) rfl, List.mem_of_getElem? (i := 169) rfl⟩
theorem lw_p11 : lw_okq (⟨"LateJobAdmitModel", "timeOf", "(I)I"⟩, 5) := ⟨⟨by decide +kernel, by decide +kernel⟩, List.mem_of_getElem? (i := 112) rfl, List.mem_of_getElem? (i := 172) rfl, List.mem_of_getElem? (i := 173) rfl⟩
theorem lw_p12 : lw_okq (⟨"LateJobAdmitModel", "in", "(II)Z"⟩, 5) := ⟨⟨by decide +kernel, by decide +kernel⟩, List.mem_of_getElem? (i := 112) rfl, List.mem_of_getElem? (i := 176) rfl, List.mem_of_getElem? (i := 177) rfl⟩
theorem lw_p13 : lw_okq (⟨"LateJobAdmitModel", "firmSet", "()I"⟩, 5) := ⟨⟨by decide +kernel, by decide +kernel⟩, List.mem_of_getElem? (i := 112) rfl, List.mem_of_getElem? (i := 184) rfl, List.mem_of_getElem? (i := 185) rfl⟩
theorem lw_p14 : lw_okq (⟨"LateJobAdmitModel", "most", "(I)I"⟩, 5) := ⟨⟨by decide +kernel, by decide +kernel⟩, List.mem_of_getElem? (i := 112) rfl, List.mem_of_getElem? (i := 188) rfl, List.mem_of_getElem? (i := 189) rfl⟩
theorem lw_p15 : lw_okq (⟨"LateJobAdmitModel", "sizeOf", "(I)I"⟩, 5) := ⟨⟨by decide +kernel, by decide +kernel⟩, List.mem_of_getElem? (i := 112) rfl, List.mem_of_getElem? (i := 192) rfl, List.mem_of_getElem? (i := 193) rfl⟩
def lw_privs_1 : List (MethodName × Nat) := [(⟨"LateJobAdmit", "isJob", "(II)Z"⟩, 9), (⟨"LateJobAdmit", "insert", "(I)V"⟩, 9), (⟨"LateJobAdmit", "isPlace", "(I)Z"⟩, 9), (⟨"LateJobAdmit", "withdraw", "(I)V"⟩, 9), (⟨"LateJobAdmit", "inTime", "(I)Z"⟩, 9), (yX0_admit, 9), (⟨"LateJobAdmit", "giveUpLongest", "()Z"⟩, 9), (⟨"LateJobAdmitModel", "fits", "(II)Z"⟩, 5), (⟨"LateJobAdmitModel", "isJob", "(I)Z"⟩, 5), (⟨"LateJobAdmitModel", "findGood", "()V"⟩, 5), (⟨"LateJobAdmitModel", "hasLast", "(I)Z"⟩, 5), (⟨"LateJobAdmitModel", "timeOf", "(I)I"⟩, 5), (⟨"LateJobAdmitModel", "in", "(II)Z"⟩, 5), (⟨"LateJobAdmitModel", "firmSet", "()I"⟩, 5), (⟨"LateJobAdmitModel", "most", "(I)I"⟩, 5), (⟨"LateJobAdmitModel", "sizeOf", "(I)I"⟩, 5)]
theorem lw_r1 : ∀ q ∈ lw_privs_1, lw_okq q := List.forall_mem_cons.mpr ⟨lw_p0, List.forall_mem_cons.mpr ⟨lw_p1, List.forall_mem_cons.mpr ⟨lw_p2, List.forall_mem_cons.mpr ⟨lw_p3, List.forall_mem_cons.mpr ⟨lw_p4, List.forall_mem_cons.mpr ⟨lw_p5, List.forall_mem_cons.mpr ⟨lw_p6, List.forall_mem_cons.mpr ⟨lw_p7, List.forall_mem_cons.mpr ⟨lw_p8, List.forall_mem_cons.mpr ⟨lw_p9, List.forall_mem_cons.mpr ⟨lw_p10, List.forall_mem_cons.mpr ⟨lw_p11, List.forall_mem_cons.mpr ⟨lw_p12, List.forall_mem_cons.mpr ⟨lw_p13, List.forall_mem_cons.mpr ⟨lw_p14, List.forall_mem_cons.mpr ⟨lw_p15, fun _ h => absurd h List.not_mem_nil⟩⟩⟩⟩⟩⟩⟩⟩⟩⟩⟩⟩⟩⟩⟩⟩
theorem lw_p16 : lw_okq (⟨"LateJobAdmitModel", "hasLastWith", "(III)Z"⟩, 5) := ⟨⟨by decide +kernel, by decide +kernel⟩, List.mem_of_getElem? (i := 112) rfl, List.mem_of_getElem? (i := 209) rfl, List.mem_of_getElem? (i := 210) rfl⟩
def lw_privs_2 : List (MethodName × Nat) := [(⟨"LateJobAdmitModel", "hasLastWith", "(III)Z"⟩, 5)]
theorem lw_r2 : ∀ q ∈ lw_privs_2, lw_okq q := List.forall_mem_cons.mpr ⟨lw_p16, fun _ h => absurd h List.not_mem_nil⟩
def lw_privs : List (MethodName × Nat) := lw_privs_1 ++ (lw_privs_2)
def lw_tbl : List Cond := k2_sels lw_privs ++ tables_1
theorem lw_privs_ok : ∀ q ∈ lw_privs, lw_okq q := by
  show ∀ q ∈ lw_privs_1 ++ (lw_privs_2), lw_okq q
  exact List.forall_mem_append.mpr ⟨lw_r1, lw_r2⟩
-- ===== ONE list of words for every method: the tables' words that hold all through a run =====
def lw_all : List Cond := lw_tbl.filter goodWord
/-- a word of the tables by its place: claim/WORDS.tsv -/
theorem lw_w {w : Cond} (i : Nat) (h : lw_tbl[i]? = some w) (g : goodWord w = true) : w ∈ lw_all := List.mem_filter.mpr ⟨List.mem_of_getElem? h, g⟩
theorem lw_all_tbl {w : Cond} (h : w ∈ lw_all) : w ∈ lw_tbl := (List.mem_filter.mp h).1
theorem lw_self : GoodIn lw_all lw_all := fun w h => ⟨h, good_of_word (List.mem_filter.mp h).2⟩
/-- a class's field words, by their places -/
theorem lw_in (ws : List Cond) (ps : List Nat) (hp : ws = ps.filterMap (fun i => lw_tbl[i]?)) (hg : ws.all goodWord = true) : ∀ w ∈ ws, w ∈ lw_all := by
  intro w h
  have h1 := List.all_eq_true.mp hg w h
  rw [hp] at h
  obtain ⟨i, -, hi⟩ := List.mem_filterMap.mp h
  exact lw_w i hi h1
/-- the words of a contract for the method y with code b, L locals, answer r -/
abbrev ws_ (y : MethodName) (b : ByteArray) (L : Nat) (r : Option FieldType) : List Cond := Cond.code y b L r :: lw_all
theorem lw_meth {y : MethodName} {b : ByteArray} {L : Nat} {r : Option FieldType} (h : Cond.code y b L r ∈ lw_all) : GoodIn lw_all (ws_ y b L r) := by
  intro w hw
  rcases List.mem_cons.mp hw with e | e
  · rw [e]
    exact lw_self _ h
  · exact lw_self _ e
theorem lw_app {a c : List Cond} (ha : ∀ w ∈ a, w ∈ lw_all) (hc : GoodIn lw_all c) : GoodIn lw_all (a ++ c) := by
  intro w hw
  rcases List.mem_append.mp hw with e | e
  · exact lw_self w (ha w e)
  · exact hc w e
/-- what a call through an object asks: cwV n hts (lw_V ..) -/
theorem lw_V {own : String} {idx : Nat} {C : String} {y : MethodName} {b : ByteArray} {L : Nat} {r : Option FieldType} (h1 : Cond.methodLink own idx y ∈ lw_all) (h2 : Cond.instanceMethod y ∈ lw_all) (h3 : Cond.selects C y y ∈ lw_all) (h4 : Cond.initialized C ∈ lw_all) (h5 : Cond.code y b L r ∈ lw_all) : GoodIn lw_all (wsV own idx C y (ws_ y b L r)) := by
  refine lw_app ?_ (lw_meth h5)
  intro w hw
  simp only [List.mem_cons, List.not_mem_nil, or_false] at hw
  rcases hw with e | e | e | e
  · rw [e]; exact h1
  · rw [e]; exact h2
  · rw [e]; exact h3
  · rw [e]; exact h4
/-- what a static call asks: va_cwS n hts (lw_S ..) -/
theorem lw_S {own : String} {idx : Nat} {y : MethodName} {b : ByteArray} {L : Nat} {r : Option FieldType} (h1 : Cond.methodLink own idx y ∈ lw_all) (h2 : Cond.static y ∈ lw_all) (h3 : Cond.initialized y.cls ∈ lw_all) (h4 : Cond.code y b L r ∈ lw_all) : GoodIn lw_all (va_wsS own idx y (ws_ y b L r)) := by
  refine lw_app ?_ (lw_meth h4)
  intro w hw
  simp only [List.mem_cons, List.not_mem_nil, or_false] at hw
  rcases hw with e | e | e
  · rw [e]; exact h1
  · rw [e]; exact h2
  · rw [e]; exact h3
/-- the words of a contract for a method WITH HANDLERS (hh: its table) -/
abbrev wsW_ (y : MethodName) (b : ByteArray) (L : Nat) (r : Option FieldType) (hh : List (Nat × Nat × Nat × Nat)) : List Cond := Cond.codeWith y b L r hh :: lw_all
theorem lw_methW {y : MethodName} {b : ByteArray} {L : Nat} {r : Option FieldType} {hh : List (Nat × Nat × Nat × Nat)} (h : Cond.codeWith y b L r hh ∈ lw_all) : GoodIn lw_all (wsW_ y b L r hh) := by
  intro w hw
  rcases List.mem_cons.mp hw with e | e
  · rw [e]
    exact lw_self _ h
  · exact lw_self _ e
/-- any list of words by their places (lw_in), good -/
theorem lw_good {ws : List Cond} (h : ∀ w ∈ ws, w ∈ lw_all) : GoodIn lw_all ws := fun w hw => lw_self w (h w hw)
/-- what a call of a method with handlers asks: vx_cwVW n hts (lw_VW ..), vx_cwSW n hts (lw_SW ..) -/
theorem lw_VW {own : String} {idx : Nat} {C : String} {y : MethodName} {b : ByteArray} {L : Nat} {r : Option FieldType} {hh : List (Nat × Nat × Nat × Nat)} (h1 : Cond.methodLink own idx y ∈ lw_all) (h2 : Cond.instanceMethod y ∈ lw_all) (h3 : Cond.selects C y y ∈ lw_all) (h4 : Cond.initialized C ∈ lw_all) (h5 : Cond.codeWith y b L r hh ∈ lw_all) : GoodIn lw_all (wsV own idx C y (wsW_ y b L r hh)) := by
  refine lw_app ?_ (lw_methW h5)
  intro w hw
  simp only [List.mem_cons, List.not_mem_nil, or_false] at hw
  rcases hw with e | e | e | e
  · rw [e]; exact h1
  · rw [e]; exact h2
  · rw [e]; exact h3
  · rw [e]; exact h4
theorem lw_SW {own : String} {idx : Nat} {y : MethodName} {b : ByteArray} {L : Nat} {r : Option FieldType} {hh : List (Nat × Nat × Nat × Nat)} (h1 : Cond.methodLink own idx y ∈ lw_all) (h2 : Cond.static y ∈ lw_all) (h3 : Cond.initialized y.cls ∈ lw_all) (h4 : Cond.codeWith y b L r hh ∈ lw_all) : GoodIn lw_all (va_wsS own idx y (wsW_ y b L r hh)) := by
  refine lw_app ?_ (lw_methW h4)
  intro w hw
  simp only [List.mem_cons, List.not_mem_nil, or_false] at hw
  rcases hw with e | e | e
  · rw [e]; exact h1
  · rw [e]; exact h2
  · rw [e]; exact h3
/-- a word by its place in its run of the tables -/
theorem lw_at {r : List Cond} (hr : ∀ w ∈ r, w ∈ lw_tbl) {w : Cond} (i : Nat) (h : r[i]? = some w) : w ∈ lw_tbl := hr w (List.mem_of_getElem? h)
theorem lw_g {w : Cond} (h : w ∈ lw_tbl) (g : goodWord w = true) : w ∈ lw_all := List.mem_filter.mpr ⟨h, g⟩
theorem lw_ms : ∀ w ∈ k2_sels lw_privs, w ∈ lw_tbl := fun w h => show w ∈ k2_sels lw_privs ++ tables_1 from List.mem_append_left _ h
theorem lw_m0 : ∀ w ∈ tables_1, w ∈ lw_tbl := fun w h => show w ∈ k2_sels lw_privs ++ tables_1 from List.mem_append_right (k2_sels lw_privs) h
theorem qs0 : (Cond.selects "LateJobAdmit" ⟨"LateJobAdmit", "isJob", "(II)Z"⟩ ⟨"LateJobAdmit", "isJob", "(II)Z"⟩) ∈ lw_all := lw_g (lw_at lw_ms 0 rfl) rfl
theorem qs1 : (Cond.selects "LateJobAdmit" ⟨"LateJobAdmit", "insert", "(I)V"⟩ ⟨"LateJobAdmit", "insert", "(I)V"⟩) ∈ lw_all := lw_g (lw_at lw_ms 1 rfl) rfl
theorem qs2 : (Cond.selects "LateJobAdmit" ⟨"LateJobAdmit", "isPlace", "(I)Z"⟩ ⟨"LateJobAdmit", "isPlace", "(I)Z"⟩) ∈ lw_all := lw_g (lw_at lw_ms 2 rfl) rfl
theorem qs3 : (Cond.selects "LateJobAdmit" ⟨"LateJobAdmit", "withdraw", "(I)V"⟩ ⟨"LateJobAdmit", "withdraw", "(I)V"⟩) ∈ lw_all := lw_g (lw_at lw_ms 3 rfl) rfl
theorem qs4 : (Cond.selects "LateJobAdmit" ⟨"LateJobAdmit", "inTime", "(I)Z"⟩ ⟨"LateJobAdmit", "inTime", "(I)Z"⟩) ∈ lw_all := lw_g (lw_at lw_ms 4 rfl) rfl
theorem qs5 : (Cond.selects "LateJobAdmit" yX0_admit yX0_admit) ∈ lw_all := lw_g (lw_at lw_ms 5 rfl) rfl
theorem qs6 : (Cond.selects "LateJobAdmit" ⟨"LateJobAdmit", "giveUpLongest", "()Z"⟩ ⟨"LateJobAdmit", "giveUpLongest", "()Z"⟩) ∈ lw_all := lw_g (lw_at lw_ms 6 rfl) rfl
theorem qs7 : (Cond.selects "LateJobAdmitModel" ⟨"LateJobAdmitModel", "fits", "(II)Z"⟩ ⟨"LateJobAdmitModel", "fits", "(II)Z"⟩) ∈ lw_all := lw_g (lw_at lw_ms 7 rfl) rfl
theorem qs8 : (Cond.selects "LateJobAdmitModel" ⟨"LateJobAdmitModel", "isJob", "(I)Z"⟩ ⟨"LateJobAdmitModel", "isJob", "(I)Z"⟩) ∈ lw_all := lw_g (lw_at lw_ms 8 rfl) rfl
theorem qs9 : (Cond.selects "LateJobAdmitModel" ⟨"LateJobAdmitModel", "findGood", "()V"⟩ ⟨"LateJobAdmitModel", "findGood", "()V"⟩) ∈ lw_all := lw_g (lw_at lw_ms 9 rfl) rfl
theorem qs10 : (Cond.selects "LateJobAdmitModel" ⟨"LateJobAdmitModel", "hasLast", "(I)Z"⟩ ⟨"LateJobAdmitModel", "hasLast", "(I)Z"⟩) ∈ lw_all := lw_g (lw_at lw_ms 10 rfl) rfl
theorem qs11 : (Cond.selects "LateJobAdmitModel" ⟨"LateJobAdmitModel", "timeOf", "(I)I"⟩ ⟨"LateJobAdmitModel", "timeOf", "(I)I"⟩) ∈ lw_all := lw_g (lw_at lw_ms 11 rfl) rfl
theorem qs12 : (Cond.selects "LateJobAdmitModel" ⟨"LateJobAdmitModel", "in", "(II)Z"⟩ ⟨"LateJobAdmitModel", "in", "(II)Z"⟩) ∈ lw_all := lw_g (lw_at lw_ms 12 rfl) rfl
theorem qs13 : (Cond.selects "LateJobAdmitModel" ⟨"LateJobAdmitModel", "firmSet", "()I"⟩ ⟨"LateJobAdmitModel", "firmSet", "()I"⟩) ∈ lw_all := lw_g (lw_at lw_ms 13 rfl) rfl
theorem qs14 : (Cond.selects "LateJobAdmitModel" ⟨"LateJobAdmitModel", "most", "(I)I"⟩ ⟨"LateJobAdmitModel", "most", "(I)I"⟩) ∈ lw_all := lw_g (lw_at lw_ms 14 rfl) rfl
theorem qs15 : (Cond.selects "LateJobAdmitModel" ⟨"LateJobAdmitModel", "sizeOf", "(I)I"⟩ ⟨"LateJobAdmitModel", "sizeOf", "(I)I"⟩) ∈ lw_all := lw_g (lw_at lw_ms 15 rfl) rfl
theorem qs16 : (Cond.selects "LateJobAdmitModel" ⟨"LateJobAdmitModel", "hasLastWith", "(III)Z"⟩ ⟨"LateJobAdmitModel", "hasLastWith", "(III)Z"⟩) ∈ lw_all := lw_g (lw_at lw_ms 16 rfl) rfl
end
section
/-! LateJobAdmit -/
set_option maxRecDepth 100000
def RX0 : String := "LateJobAdmit"
def TX0 : u_T := fun k => match k with
  | 0 => ("LateJobAdmit", "jobCount", "I", false)
  | 1 => ("LateJobAdmit", "length", "[B", true)
  | 2 => ("LateJobAdmit", "deadline", "[S", true)
  | 3 => ("LateJobAdmit", "firm", "[Z", true)
  | 4 => ("LateJobAdmit", "ranked", "I", false)
  | 5 => ("LateJobAdmit", "rank", "[B", true)
  | 6 => ("LateJobAdmit", "admitted", "I", false)
  | 7 => ("LateJobAdmit", "admittedCount", "I", false)
  | _ => ("LateJobAdmit", "admittedTime", "I", false)
def tyX0 : Nat → FieldType := fun k => match k with
  | 0 => .int
  | 1 => .array .byte
  | 2 => .array .short
  | 3 => .array .boolean
  | 4 => .int
  | 5 => .array .byte
  | 6 => .int
  | 7 => .int
  | _ => .int
abbrev wsX00 : List Cond := u_ws RX0 TX0 9
theorem nmX0 : ∀ a, a < 9 → ∀ b, b < 9 → a ≠ b → (TX0 a).2.1 ≠ (TX0 b).2.1 := by decide +kernel
theorem tyX0_ok : ∀ k, k < 9 → parseFieldDescriptor (TX0 k).2.2.1 = some (tyX0 k) := by decide +kernel
abbrev cX0_init : ByteArray := prog_1_method_1_code
def yX0_init : MethodName := ⟨RX0, "<init>", "()V"⟩
theorem dX0_init_0 : decode cX0_init 0 = .ok (.aload_n 0, 1) := by decide +kernel
theorem dX0_init_1 : decode cX0_init 1 = .ok (.invokespecial 1, 3) := by decide +kernel
theorem dX0_init_4 : decode cX0_init 4 = .ok (.aload_n 0, 1) := by decide +kernel
theorem dX0_init_5 : decode cX0_init 5 = .ok (.bipush 11, 2) := by decide +kernel
theorem dX0_init_7 : decode cX0_init 7 = .ok (.newarray .byte, 2) := by decide +kernel
theorem dX0_init_9 : decode cX0_init 9 = .ok (.putfield 7, 3) := by decide +kernel
theorem dX0_init_12 : decode cX0_init 12 = .ok (.aload_n 0, 1) := by decide +kernel
theorem dX0_init_13 : decode cX0_init 13 = .ok (.bipush 11, 2) := by decide +kernel
theorem dX0_init_15 : decode cX0_init 15 = .ok (.newarray .short, 2) := by decide +kernel
theorem dX0_init_17 : decode cX0_init 17 = .ok (.putfield 13, 3) := by decide +kernel
theorem dX0_init_20 : decode cX0_init 20 = .ok (.aload_n 0, 1) := by decide +kernel
theorem dX0_init_21 : decode cX0_init 21 = .ok (.bipush 11, 2) := by decide +kernel
theorem dX0_init_23 : decode cX0_init 23 = .ok (.newarray .boolean, 2) := by decide +kernel
theorem dX0_init_25 : decode cX0_init 25 = .ok (.putfield 17, 3) := by decide +kernel
theorem dX0_init_28 : decode cX0_init 28 = .ok (.aload_n 0, 1) := by decide +kernel
theorem dX0_init_29 : decode cX0_init 29 = .ok (.bipush 11, 2) := by decide +kernel
theorem dX0_init_31 : decode cX0_init 31 = .ok (.newarray .byte, 2) := by decide +kernel
theorem dX0_init_33 : decode cX0_init 33 = .ok (.putfield 21, 3) := by decide +kernel
theorem dX0_init_36 : decode cX0_init 36 = .ok (.return_, 1) := by decide +kernel
abbrev cX0_put : ByteArray := prog_1_method_2_code
def yX0_put : MethodName := ⟨RX0, "put", "(IIZ)I"⟩
theorem dX0_put_0 : decode cX0_put 0 = .ok (.aload_n 0, 1) := by decide +kernel
theorem dX0_put_1 : decode cX0_put 1 = .ok (.getfield 24, 3) := by decide +kernel
theorem dX0_put_4 : decode cX0_put 4 = .ok (.bipush 10, 2) := by decide +kernel
theorem dX0_put_6 : decode cX0_put 6 = .ok (.if_icmp .lt 6, 3) := by decide +kernel
theorem dX0_put_9 : decode cX0_put 9 = .ok (.bipush (-2), 2) := by decide +kernel
theorem dX0_put_11 : decode cX0_put 11 = .ok (.ireturn, 1) := by decide +kernel
theorem dX0_put_12 : decode cX0_put 12 = .ok (.aload_n 0, 1) := by decide +kernel
theorem dX0_put_13 : decode cX0_put 13 = .ok (.iload_n 1, 1) := by decide +kernel
theorem dX0_put_14 : decode cX0_put 14 = .ok (.iload_n 2, 1) := by decide +kernel
theorem dX0_put_15 : decode cX0_put 15 = .ok (.invokevirtual 28, 3) := by decide +kernel
theorem dX0_put_18 : decode cX0_put 18 = .ok (.ifCond .ne 5, 3) := by decide +kernel
theorem dX0_put_21 : decode cX0_put 21 = .ok (.iconst (-1), 1) := by decide +kernel
theorem dX0_put_22 : decode cX0_put 22 = .ok (.ireturn, 1) := by decide +kernel
theorem dX0_put_23 : decode cX0_put 23 = .ok (.iconst 0, 1) := by decide +kernel
theorem dX0_put_24 : decode cX0_put 24 = .ok (.istore 4, 2) := by decide +kernel
theorem dX0_put_26 : decode cX0_put 26 = .ok (.iload 4, 2) := by decide +kernel
theorem dX0_put_28 : decode cX0_put 28 = .ok (.bipush 9, 2) := by decide +kernel
theorem dX0_put_30 : decode cX0_put 30 = .ok (.if_icmp .ge 19, 3) := by decide +kernel
theorem dX0_put_33 : decode cX0_put 33 = .ok (.aload_n 0, 1) := by decide +kernel
theorem dX0_put_34 : decode cX0_put 34 = .ok (.getfield 7, 3) := by decide +kernel
theorem dX0_put_37 : decode cX0_put 37 = .ok (.iload 4, 2) := by decide +kernel
theorem dX0_put_39 : decode cX0_put 39 = .ok (.baload, 1) := by decide +kernel
theorem dX0_put_40 : decode cX0_put 40 = .ok (.ifCond .eq 9, 3) := by decide +kernel
theorem dX0_put_43 : decode cX0_put 43 = .ok (.iinc 4 1, 3) := by decide +kernel
theorem dX0_put_46 : decode cX0_put 46 = .ok (.goto (-20), 3) := by decide +kernel
theorem dX0_put_49 : decode cX0_put 49 = .ok (.aload_n 0, 1) := by decide +kernel
theorem dX0_put_50 : decode cX0_put 50 = .ok (.getfield 7, 3) := by decide +kernel
theorem dX0_put_53 : decode cX0_put 53 = .ok (.iload 4, 2) := by decide +kernel
theorem dX0_put_55 : decode cX0_put 55 = .ok (.iload_n 1, 1) := by decide +kernel
theorem dX0_put_56 : decode cX0_put 56 = .ok (.i2b, 1) := by decide +kernel
theorem dX0_put_57 : decode cX0_put 57 = .ok (.bastore, 1) := by decide +kernel
theorem dX0_put_58 : decode cX0_put 58 = .ok (.aload_n 0, 1) := by decide +kernel
theorem dX0_put_59 : decode cX0_put 59 = .ok (.getfield 13, 3) := by decide +kernel
theorem dX0_put_62 : decode cX0_put 62 = .ok (.iload 4, 2) := by decide +kernel
theorem dX0_put_64 : decode cX0_put 64 = .ok (.iload_n 2, 1) := by decide +kernel
theorem dX0_put_65 : decode cX0_put 65 = .ok (.i2s, 1) := by decide +kernel
theorem dX0_put_66 : decode cX0_put 66 = .ok (.sastore, 1) := by decide +kernel
theorem dX0_put_67 : decode cX0_put 67 = .ok (.aload_n 0, 1) := by decide +kernel
theorem dX0_put_68 : decode cX0_put 68 = .ok (.getfield 17, 3) := by decide +kernel
theorem dX0_put_71 : decode cX0_put 71 = .ok (.iload 4, 2) := by decide +kernel
theorem dX0_put_73 : decode cX0_put 73 = .ok (.iload_n 3, 1) := by decide +kernel
theorem dX0_put_74 : decode cX0_put 74 = .ok (.bastore, 1) := by decide +kernel
theorem dX0_put_75 : decode cX0_put 75 = .ok (.aload_n 0, 1) := by decide +kernel
theorem dX0_put_76 : decode cX0_put 76 = .ok (.dup, 1) := by decide +kernel
theorem dX0_put_77 : decode cX0_put 77 = .ok (.getfield 24, 3) := by decide +kernel
theorem dX0_put_80 : decode cX0_put 80 = .ok (.iconst 1, 1) := by decide +kernel
theorem dX0_put_81 : decode cX0_put 81 = .ok (.iadd, 1) := by decide +kernel
theorem dX0_put_82 : decode cX0_put 82 = .ok (.putfield 24, 3) := by decide +kernel
theorem dX0_put_85 : decode cX0_put 85 = .ok (.aload_n 0, 1) := by decide +kernel
theorem dX0_put_86 : decode cX0_put 86 = .ok (.iload 4, 2) := by decide +kernel
theorem dX0_put_88 : decode cX0_put 88 = .ok (.invokevirtual 32, 3) := by decide +kernel
theorem dX0_put_91 : decode cX0_put 91 = .ok (.iload 4, 2) := by decide +kernel
theorem dX0_put_93 : decode cX0_put 93 = .ok (.ireturn, 1) := by decide +kernel
abbrev cX0_isJob : ByteArray := prog_1_method_6_code
def yX0_isJob : MethodName := ⟨RX0, "isJob", "(II)Z"⟩
theorem dX0_isJob_0 : decode cX0_isJob 0 = .ok (.iload_n 1, 1) := by decide +kernel
theorem dX0_isJob_1 : decode cX0_isJob 1 = .ok (.iconst 1, 1) := by decide +kernel
theorem dX0_isJob_2 : decode cX0_isJob 2 = .ok (.if_icmp .lt 24, 3) := by decide +kernel
theorem dX0_isJob_5 : decode cX0_isJob 5 = .ok (.iload_n 1, 1) := by decide +kernel
theorem dX0_isJob_6 : decode cX0_isJob 6 = .ok (.bipush 50, 2) := by decide +kernel
theorem dX0_isJob_8 : decode cX0_isJob 8 = .ok (.if_icmp .gt 18, 3) := by decide +kernel
theorem dX0_isJob_11 : decode cX0_isJob 11 = .ok (.iload_n 2, 1) := by decide +kernel
theorem dX0_isJob_12 : decode cX0_isJob 12 = .ok (.ifCond .lt 14, 3) := by decide +kernel
theorem dX0_isJob_15 : decode cX0_isJob 15 = .ok (.iload_n 2, 1) := by decide +kernel
theorem dX0_isJob_16 : decode cX0_isJob 16 = .ok (.sipush 200, 3) := by decide +kernel
theorem dX0_isJob_19 : decode cX0_isJob 19 = .ok (.if_icmp .gt 7, 3) := by decide +kernel
theorem dX0_isJob_22 : decode cX0_isJob 22 = .ok (.iconst 1, 1) := by decide +kernel
theorem dX0_isJob_23 : decode cX0_isJob 23 = .ok (.goto 4, 3) := by decide +kernel
theorem dX0_isJob_26 : decode cX0_isJob 26 = .ok (.iconst 0, 1) := by decide +kernel
theorem dX0_isJob_27 : decode cX0_isJob 27 = .ok (.ireturn, 1) := by decide +kernel
abbrev cX0_insert : ByteArray := prog_1_method_8_code
def yX0_insert : MethodName := ⟨RX0, "insert", "(I)V"⟩
theorem dX0_insert_0 : decode cX0_insert 0 = .ok (.aload_n 0, 1) := by decide +kernel
theorem dX0_insert_1 : decode cX0_insert 1 = .ok (.getfield 43, 3) := by decide +kernel
theorem dX0_insert_4 : decode cX0_insert 4 = .ok (.istore_n 2, 1) := by decide +kernel
theorem dX0_insert_5 : decode cX0_insert 5 = .ok (.iload_n 2, 1) := by decide +kernel
theorem dX0_insert_6 : decode cX0_insert 6 = .ok (.ifCond .le 45, 3) := by decide +kernel
theorem dX0_insert_9 : decode cX0_insert 9 = .ok (.aload_n 0, 1) := by decide +kernel
theorem dX0_insert_10 : decode cX0_insert 10 = .ok (.getfield 13, 3) := by decide +kernel
theorem dX0_insert_13 : decode cX0_insert 13 = .ok (.aload_n 0, 1) := by decide +kernel
theorem dX0_insert_14 : decode cX0_insert 14 = .ok (.getfield 21, 3) := by decide +kernel
theorem dX0_insert_17 : decode cX0_insert 17 = .ok (.iload_n 2, 1) := by decide +kernel
theorem dX0_insert_18 : decode cX0_insert 18 = .ok (.iconst 1, 1) := by decide +kernel
theorem dX0_insert_19 : decode cX0_insert 19 = .ok (.isub, 1) := by decide +kernel
theorem dX0_insert_20 : decode cX0_insert 20 = .ok (.baload, 1) := by decide +kernel
theorem dX0_insert_21 : decode cX0_insert 21 = .ok (.saload, 1) := by decide +kernel
theorem dX0_insert_22 : decode cX0_insert 22 = .ok (.aload_n 0, 1) := by decide +kernel
theorem dX0_insert_23 : decode cX0_insert 23 = .ok (.getfield 13, 3) := by decide +kernel
theorem dX0_insert_26 : decode cX0_insert 26 = .ok (.iload_n 1, 1) := by decide +kernel
theorem dX0_insert_27 : decode cX0_insert 27 = .ok (.saload, 1) := by decide +kernel
theorem dX0_insert_28 : decode cX0_insert 28 = .ok (.if_icmp .le 23, 3) := by decide +kernel
theorem dX0_insert_31 : decode cX0_insert 31 = .ok (.aload_n 0, 1) := by decide +kernel
theorem dX0_insert_32 : decode cX0_insert 32 = .ok (.getfield 21, 3) := by decide +kernel
theorem dX0_insert_35 : decode cX0_insert 35 = .ok (.iload_n 2, 1) := by decide +kernel
theorem dX0_insert_36 : decode cX0_insert 36 = .ok (.aload_n 0, 1) := by decide +kernel
theorem dX0_insert_37 : decode cX0_insert 37 = .ok (.getfield 21, 3) := by decide +kernel
theorem dX0_insert_40 : decode cX0_insert 40 = .ok (.iload_n 2, 1) := by decide +kernel
theorem dX0_insert_41 : decode cX0_insert 41 = .ok (.iconst 1, 1) := by decide +kernel
theorem dX0_insert_42 : decode cX0_insert 42 = .ok (.isub, 1) := by decide +kernel
theorem dX0_insert_43 : decode cX0_insert 43 = .ok (.baload, 1) := by decide +kernel
theorem dX0_insert_44 : decode cX0_insert 44 = .ok (.bastore, 1) := by decide +kernel
theorem dX0_insert_45 : decode cX0_insert 45 = .ok (.iinc 2 (-1), 3) := by decide +kernel
theorem dX0_insert_48 : decode cX0_insert 48 = .ok (.goto (-43), 3) := by decide +kernel
theorem dX0_insert_51 : decode cX0_insert 51 = .ok (.aload_n 0, 1) := by decide +kernel
theorem dX0_insert_52 : decode cX0_insert 52 = .ok (.getfield 21, 3) := by decide +kernel
theorem dX0_insert_55 : decode cX0_insert 55 = .ok (.iload_n 2, 1) := by decide +kernel
theorem dX0_insert_56 : decode cX0_insert 56 = .ok (.iload_n 1, 1) := by decide +kernel
theorem dX0_insert_57 : decode cX0_insert 57 = .ok (.i2b, 1) := by decide +kernel
theorem dX0_insert_58 : decode cX0_insert 58 = .ok (.bastore, 1) := by decide +kernel
theorem dX0_insert_59 : decode cX0_insert 59 = .ok (.aload_n 0, 1) := by decide +kernel
theorem dX0_insert_60 : decode cX0_insert 60 = .ok (.dup, 1) := by decide +kernel
theorem dX0_insert_61 : decode cX0_insert 61 = .ok (.getfield 43, 3) := by decide +kernel
theorem dX0_insert_64 : decode cX0_insert 64 = .ok (.iconst 1, 1) := by decide +kernel
theorem dX0_insert_65 : decode cX0_insert 65 = .ok (.iadd, 1) := by decide +kernel
theorem dX0_insert_66 : decode cX0_insert 66 = .ok (.putfield 43, 3) := by decide +kernel
theorem dX0_insert_69 : decode cX0_insert 69 = .ok (.return_, 1) := by decide +kernel
abbrev cX0_drop : ByteArray := prog_1_method_3_code
def yX0_drop : MethodName := ⟨RX0, "drop", "(I)I"⟩
theorem dX0_drop_0 : decode cX0_drop 0 = .ok (.aload_n 0, 1) := by decide +kernel
theorem dX0_drop_1 : decode cX0_drop 1 = .ok (.iload_n 1, 1) := by decide +kernel
theorem dX0_drop_2 : decode cX0_drop 2 = .ok (.invokevirtual 36, 3) := by decide +kernel
theorem dX0_drop_5 : decode cX0_drop 5 = .ok (.ifCond .ne 5, 3) := by decide +kernel
theorem dX0_drop_8 : decode cX0_drop 8 = .ok (.iconst (-1), 1) := by decide +kernel
theorem dX0_drop_9 : decode cX0_drop 9 = .ok (.ireturn, 1) := by decide +kernel
theorem dX0_drop_10 : decode cX0_drop 10 = .ok (.aload_n 0, 1) := by decide +kernel
theorem dX0_drop_11 : decode cX0_drop 11 = .ok (.getfield 7, 3) := by decide +kernel
theorem dX0_drop_14 : decode cX0_drop 14 = .ok (.iload_n 1, 1) := by decide +kernel
theorem dX0_drop_15 : decode cX0_drop 15 = .ok (.iconst 0, 1) := by decide +kernel
theorem dX0_drop_16 : decode cX0_drop 16 = .ok (.bastore, 1) := by decide +kernel
theorem dX0_drop_17 : decode cX0_drop 17 = .ok (.aload_n 0, 1) := by decide +kernel
theorem dX0_drop_18 : decode cX0_drop 18 = .ok (.dup, 1) := by decide +kernel
theorem dX0_drop_19 : decode cX0_drop 19 = .ok (.getfield 24, 3) := by decide +kernel
theorem dX0_drop_22 : decode cX0_drop 22 = .ok (.iconst 1, 1) := by decide +kernel
theorem dX0_drop_23 : decode cX0_drop 23 = .ok (.isub, 1) := by decide +kernel
theorem dX0_drop_24 : decode cX0_drop 24 = .ok (.putfield 24, 3) := by decide +kernel
theorem dX0_drop_27 : decode cX0_drop 27 = .ok (.aload_n 0, 1) := by decide +kernel
theorem dX0_drop_28 : decode cX0_drop 28 = .ok (.iload_n 1, 1) := by decide +kernel
theorem dX0_drop_29 : decode cX0_drop 29 = .ok (.invokevirtual 40, 3) := by decide +kernel
theorem dX0_drop_32 : decode cX0_drop 32 = .ok (.aload_n 0, 1) := by decide +kernel
theorem dX0_drop_33 : decode cX0_drop 33 = .ok (.getfield 24, 3) := by decide +kernel
theorem dX0_drop_36 : decode cX0_drop 36 = .ok (.ireturn, 1) := by decide +kernel
abbrev cX0_isPlace : ByteArray := prog_1_method_7_code
def yX0_isPlace : MethodName := ⟨RX0, "isPlace", "(I)Z"⟩
theorem dX0_isPlace_0 : decode cX0_isPlace 0 = .ok (.iload_n 1, 1) := by decide +kernel
theorem dX0_isPlace_1 : decode cX0_isPlace 1 = .ok (.ifCond .lt 22, 3) := by decide +kernel
theorem dX0_isPlace_4 : decode cX0_isPlace 4 = .ok (.iload_n 1, 1) := by decide +kernel
theorem dX0_isPlace_5 : decode cX0_isPlace 5 = .ok (.bipush 9, 2) := by decide +kernel
theorem dX0_isPlace_7 : decode cX0_isPlace 7 = .ok (.if_icmp .gt 16, 3) := by decide +kernel
theorem dX0_isPlace_10 : decode cX0_isPlace 10 = .ok (.aload_n 0, 1) := by decide +kernel
theorem dX0_isPlace_11 : decode cX0_isPlace 11 = .ok (.getfield 7, 3) := by decide +kernel
theorem dX0_isPlace_14 : decode cX0_isPlace 14 = .ok (.iload_n 1, 1) := by decide +kernel
theorem dX0_isPlace_15 : decode cX0_isPlace 15 = .ok (.baload, 1) := by decide +kernel
theorem dX0_isPlace_16 : decode cX0_isPlace 16 = .ok (.ifCond .eq 7, 3) := by decide +kernel
theorem dX0_isPlace_19 : decode cX0_isPlace 19 = .ok (.iconst 1, 1) := by decide +kernel
theorem dX0_isPlace_20 : decode cX0_isPlace 20 = .ok (.goto 4, 3) := by decide +kernel
theorem dX0_isPlace_23 : decode cX0_isPlace 23 = .ok (.iconst 0, 1) := by decide +kernel
theorem dX0_isPlace_24 : decode cX0_isPlace 24 = .ok (.ireturn, 1) := by decide +kernel
abbrev cX0_withdraw : ByteArray := prog_1_method_9_code
def yX0_withdraw : MethodName := ⟨RX0, "withdraw", "(I)V"⟩
theorem dX0_withdraw_0 : decode cX0_withdraw 0 = .ok (.iconst 0, 1) := by decide +kernel
theorem dX0_withdraw_1 : decode cX0_withdraw 1 = .ok (.istore_n 2, 1) := by decide +kernel
theorem dX0_withdraw_2 : decode cX0_withdraw 2 = .ok (.iload_n 2, 1) := by decide +kernel
theorem dX0_withdraw_3 : decode cX0_withdraw 3 = .ok (.aload_n 0, 1) := by decide +kernel
theorem dX0_withdraw_4 : decode cX0_withdraw 4 = .ok (.getfield 43, 3) := by decide +kernel
theorem dX0_withdraw_7 : decode cX0_withdraw 7 = .ok (.iconst 1, 1) := by decide +kernel
theorem dX0_withdraw_8 : decode cX0_withdraw 8 = .ok (.isub, 1) := by decide +kernel
theorem dX0_withdraw_9 : decode cX0_withdraw 9 = .ok (.if_icmp .ge 19, 3) := by decide +kernel
theorem dX0_withdraw_12 : decode cX0_withdraw 12 = .ok (.aload_n 0, 1) := by decide +kernel
theorem dX0_withdraw_13 : decode cX0_withdraw 13 = .ok (.getfield 21, 3) := by decide +kernel
theorem dX0_withdraw_16 : decode cX0_withdraw 16 = .ok (.iload_n 2, 1) := by decide +kernel
theorem dX0_withdraw_17 : decode cX0_withdraw 17 = .ok (.baload, 1) := by decide +kernel
theorem dX0_withdraw_18 : decode cX0_withdraw 18 = .ok (.iload_n 1, 1) := by decide +kernel
theorem dX0_withdraw_19 : decode cX0_withdraw 19 = .ok (.if_icmp .eq 9, 3) := by decide +kernel
theorem dX0_withdraw_22 : decode cX0_withdraw 22 = .ok (.iinc 2 1, 3) := by decide +kernel
theorem dX0_withdraw_25 : decode cX0_withdraw 25 = .ok (.goto (-23), 3) := by decide +kernel
theorem dX0_withdraw_28 : decode cX0_withdraw 28 = .ok (.aload_n 0, 1) := by decide +kernel
theorem dX0_withdraw_29 : decode cX0_withdraw 29 = .ok (.dup, 1) := by decide +kernel
theorem dX0_withdraw_30 : decode cX0_withdraw 30 = .ok (.getfield 43, 3) := by decide +kernel
theorem dX0_withdraw_33 : decode cX0_withdraw 33 = .ok (.iconst 1, 1) := by decide +kernel
theorem dX0_withdraw_34 : decode cX0_withdraw 34 = .ok (.isub, 1) := by decide +kernel
theorem dX0_withdraw_35 : decode cX0_withdraw 35 = .ok (.putfield 43, 3) := by decide +kernel
theorem dX0_withdraw_38 : decode cX0_withdraw 38 = .ok (.iload_n 2, 1) := by decide +kernel
theorem dX0_withdraw_39 : decode cX0_withdraw 39 = .ok (.aload_n 0, 1) := by decide +kernel
theorem dX0_withdraw_40 : decode cX0_withdraw 40 = .ok (.getfield 43, 3) := by decide +kernel
theorem dX0_withdraw_43 : decode cX0_withdraw 43 = .ok (.if_icmp .ge 23, 3) := by decide +kernel
theorem dX0_withdraw_46 : decode cX0_withdraw 46 = .ok (.aload_n 0, 1) := by decide +kernel
theorem dX0_withdraw_47 : decode cX0_withdraw 47 = .ok (.getfield 21, 3) := by decide +kernel
theorem dX0_withdraw_50 : decode cX0_withdraw 50 = .ok (.iload_n 2, 1) := by decide +kernel
theorem dX0_withdraw_51 : decode cX0_withdraw 51 = .ok (.aload_n 0, 1) := by decide +kernel
theorem dX0_withdraw_52 : decode cX0_withdraw 52 = .ok (.getfield 21, 3) := by decide +kernel
theorem dX0_withdraw_55 : decode cX0_withdraw 55 = .ok (.iload_n 2, 1) := by decide +kernel
theorem dX0_withdraw_56 : decode cX0_withdraw 56 = .ok (.iconst 1, 1) := by decide +kernel
theorem dX0_withdraw_57 : decode cX0_withdraw 57 = .ok (.iadd, 1) := by decide +kernel
theorem dX0_withdraw_58 : decode cX0_withdraw 58 = .ok (.baload, 1) := by decide +kernel
theorem dX0_withdraw_59 : decode cX0_withdraw 59 = .ok (.bastore, 1) := by decide +kernel
theorem dX0_withdraw_60 : decode cX0_withdraw 60 = .ok (.iinc 2 1, 3) := by decide +kernel
theorem dX0_withdraw_63 : decode cX0_withdraw 63 = .ok (.goto (-25), 3) := by decide +kernel
theorem dX0_withdraw_66 : decode cX0_withdraw 66 = .ok (.return_, 1) := by decide +kernel
abbrev cX0_makeFirm : ByteArray := prog_1_method_4_code
def yX0_makeFirm : MethodName := ⟨RX0, "makeFirm", "(IZ)Z"⟩
theorem dX0_makeFirm_0 : decode cX0_makeFirm 0 = .ok (.aload_n 0, 1) := by decide +kernel
theorem dX0_makeFirm_1 : decode cX0_makeFirm 1 = .ok (.iload_n 1, 1) := by decide +kernel
theorem dX0_makeFirm_2 : decode cX0_makeFirm 2 = .ok (.invokevirtual 36, 3) := by decide +kernel
theorem dX0_makeFirm_5 : decode cX0_makeFirm 5 = .ok (.ifCond .ne 5, 3) := by decide +kernel
theorem dX0_makeFirm_8 : decode cX0_makeFirm 8 = .ok (.iconst 0, 1) := by decide +kernel
theorem dX0_makeFirm_9 : decode cX0_makeFirm 9 = .ok (.ireturn, 1) := by decide +kernel
theorem dX0_makeFirm_10 : decode cX0_makeFirm 10 = .ok (.aload_n 0, 1) := by decide +kernel
theorem dX0_makeFirm_11 : decode cX0_makeFirm 11 = .ok (.getfield 17, 3) := by decide +kernel
theorem dX0_makeFirm_14 : decode cX0_makeFirm 14 = .ok (.iload_n 1, 1) := by decide +kernel
theorem dX0_makeFirm_15 : decode cX0_makeFirm 15 = .ok (.iload_n 2, 1) := by decide +kernel
theorem dX0_makeFirm_16 : decode cX0_makeFirm 16 = .ok (.bastore, 1) := by decide +kernel
theorem dX0_makeFirm_17 : decode cX0_makeFirm 17 = .ok (.iconst 1, 1) := by decide +kernel
theorem dX0_makeFirm_18 : decode cX0_makeFirm 18 = .ok (.ireturn, 1) := by decide +kernel
abbrev cX0_jobs : ByteArray := prog_1_method_5_code
def yX0_jobs : MethodName := ⟨RX0, "jobs", "()I"⟩
theorem dX0_jobs_0 : decode cX0_jobs 0 = .ok (.aload_n 0, 1) := by decide +kernel
theorem dX0_jobs_1 : decode cX0_jobs 1 = .ok (.getfield 24, 3) := by decide +kernel
theorem dX0_jobs_4 : decode cX0_jobs 4 = .ok (.ireturn, 1) := by decide +kernel
end
section
/-! LateJobAdmit, b -/
set_option maxRecDepth 100000
abbrev cX0_feasible : ByteArray := prog_1_method_10_code
def yX0_feasible : MethodName := ⟨RX0, "feasible", "(I)Z"⟩
theorem dX0_feasible_0 : decode cX0_feasible 0 = .ok (.iload_n 1, 1) := by decide +kernel
theorem dX0_feasible_1 : decode cX0_feasible 1 = .ok (.ifCond .lt 10, 3) := by decide +kernel
theorem dX0_feasible_4 : decode cX0_feasible 4 = .ok (.iload_n 1, 1) := by decide +kernel
theorem dX0_feasible_5 : decode cX0_feasible 5 = .ok (.sipush 1023, 3) := by decide +kernel
theorem dX0_feasible_8 : decode cX0_feasible 8 = .ok (.if_icmp .le 5, 3) := by decide +kernel
theorem dX0_feasible_11 : decode cX0_feasible 11 = .ok (.iconst 0, 1) := by decide +kernel
theorem dX0_feasible_12 : decode cX0_feasible 12 = .ok (.ireturn, 1) := by decide +kernel
theorem dX0_feasible_13 : decode cX0_feasible 13 = .ok (.iconst 0, 1) := by decide +kernel
theorem dX0_feasible_14 : decode cX0_feasible 14 = .ok (.istore_n 2, 1) := by decide +kernel
theorem dX0_feasible_15 : decode cX0_feasible 15 = .ok (.iload_n 2, 1) := by decide +kernel
theorem dX0_feasible_16 : decode cX0_feasible 16 = .ok (.bipush 10, 2) := by decide +kernel
theorem dX0_feasible_18 : decode cX0_feasible 18 = .ok (.if_icmp .ge 28, 3) := by decide +kernel
theorem dX0_feasible_21 : decode cX0_feasible 21 = .ok (.iload_n 1, 1) := by decide +kernel
theorem dX0_feasible_22 : decode cX0_feasible 22 = .ok (.iload_n 2, 1) := by decide +kernel
theorem dX0_feasible_23 : decode cX0_feasible 23 = .ok (.ishr, 1) := by decide +kernel
theorem dX0_feasible_24 : decode cX0_feasible 24 = .ok (.iconst 1, 1) := by decide +kernel
theorem dX0_feasible_25 : decode cX0_feasible 25 = .ok (.iand, 1) := by decide +kernel
theorem dX0_feasible_26 : decode cX0_feasible 26 = .ok (.ifCond .eq 14, 3) := by decide +kernel
theorem dX0_feasible_29 : decode cX0_feasible 29 = .ok (.aload_n 0, 1) := by decide +kernel
theorem dX0_feasible_30 : decode cX0_feasible 30 = .ok (.getfield 7, 3) := by decide +kernel
theorem dX0_feasible_33 : decode cX0_feasible 33 = .ok (.iload_n 2, 1) := by decide +kernel
theorem dX0_feasible_34 : decode cX0_feasible 34 = .ok (.baload, 1) := by decide +kernel
theorem dX0_feasible_35 : decode cX0_feasible 35 = .ok (.ifCond .ne 5, 3) := by decide +kernel
theorem dX0_feasible_38 : decode cX0_feasible 38 = .ok (.iconst 0, 1) := by decide +kernel
theorem dX0_feasible_39 : decode cX0_feasible 39 = .ok (.ireturn, 1) := by decide +kernel
theorem dX0_feasible_40 : decode cX0_feasible 40 = .ok (.iinc 2 1, 3) := by decide +kernel
theorem dX0_feasible_43 : decode cX0_feasible 43 = .ok (.goto (-28), 3) := by decide +kernel
theorem dX0_feasible_46 : decode cX0_feasible 46 = .ok (.aload_n 0, 1) := by decide +kernel
theorem dX0_feasible_47 : decode cX0_feasible 47 = .ok (.iload_n 1, 1) := by decide +kernel
theorem dX0_feasible_48 : decode cX0_feasible 48 = .ok (.invokevirtual 46, 3) := by decide +kernel
theorem dX0_feasible_51 : decode cX0_feasible 51 = .ok (.ireturn, 1) := by decide +kernel
abbrev cX0_inTime : ByteArray := prog_1_method_16_code
def yX0_inTime : MethodName := ⟨RX0, "inTime", "(I)Z"⟩
theorem dX0_inTime_0 : decode cX0_inTime 0 = .ok (.iconst 0, 1) := by decide +kernel
theorem dX0_inTime_1 : decode cX0_inTime 1 = .ok (.istore_n 2, 1) := by decide +kernel
theorem dX0_inTime_2 : decode cX0_inTime 2 = .ok (.iconst 0, 1) := by decide +kernel
theorem dX0_inTime_3 : decode cX0_inTime 3 = .ok (.istore_n 3, 1) := by decide +kernel
theorem dX0_inTime_4 : decode cX0_inTime 4 = .ok (.iload_n 3, 1) := by decide +kernel
theorem dX0_inTime_5 : decode cX0_inTime 5 = .ok (.aload_n 0, 1) := by decide +kernel
theorem dX0_inTime_6 : decode cX0_inTime 6 = .ok (.getfield 43, 3) := by decide +kernel
theorem dX0_inTime_9 : decode cX0_inTime 9 = .ok (.if_icmp .ge 52, 3) := by decide +kernel
theorem dX0_inTime_12 : decode cX0_inTime 12 = .ok (.aload_n 0, 1) := by decide +kernel
theorem dX0_inTime_13 : decode cX0_inTime 13 = .ok (.getfield 21, 3) := by decide +kernel
theorem dX0_inTime_16 : decode cX0_inTime 16 = .ok (.iload_n 3, 1) := by decide +kernel
theorem dX0_inTime_17 : decode cX0_inTime 17 = .ok (.baload, 1) := by decide +kernel
theorem dX0_inTime_18 : decode cX0_inTime 18 = .ok (.istore 4, 2) := by decide +kernel
theorem dX0_inTime_20 : decode cX0_inTime 20 = .ok (.iload_n 1, 1) := by decide +kernel
theorem dX0_inTime_21 : decode cX0_inTime 21 = .ok (.iload 4, 2) := by decide +kernel
theorem dX0_inTime_23 : decode cX0_inTime 23 = .ok (.ishr, 1) := by decide +kernel
theorem dX0_inTime_24 : decode cX0_inTime 24 = .ok (.iconst 1, 1) := by decide +kernel
theorem dX0_inTime_25 : decode cX0_inTime 25 = .ok (.iand, 1) := by decide +kernel
theorem dX0_inTime_26 : decode cX0_inTime 26 = .ok (.ifCond .ne 6, 3) := by decide +kernel
theorem dX0_inTime_29 : decode cX0_inTime 29 = .ok (.goto 26, 3) := by decide +kernel
theorem dX0_inTime_32 : decode cX0_inTime 32 = .ok (.iload_n 2, 1) := by decide +kernel
theorem dX0_inTime_33 : decode cX0_inTime 33 = .ok (.aload_n 0, 1) := by decide +kernel
theorem dX0_inTime_34 : decode cX0_inTime 34 = .ok (.getfield 7, 3) := by decide +kernel
theorem dX0_inTime_37 : decode cX0_inTime 37 = .ok (.iload 4, 2) := by decide +kernel
theorem dX0_inTime_39 : decode cX0_inTime 39 = .ok (.baload, 1) := by decide +kernel
theorem dX0_inTime_40 : decode cX0_inTime 40 = .ok (.iadd, 1) := by decide +kernel
theorem dX0_inTime_41 : decode cX0_inTime 41 = .ok (.istore_n 2, 1) := by decide +kernel
theorem dX0_inTime_42 : decode cX0_inTime 42 = .ok (.iload_n 2, 1) := by decide +kernel
theorem dX0_inTime_43 : decode cX0_inTime 43 = .ok (.aload_n 0, 1) := by decide +kernel
theorem dX0_inTime_44 : decode cX0_inTime 44 = .ok (.getfield 13, 3) := by decide +kernel
theorem dX0_inTime_47 : decode cX0_inTime 47 = .ok (.iload 4, 2) := by decide +kernel
theorem dX0_inTime_49 : decode cX0_inTime 49 = .ok (.saload, 1) := by decide +kernel
theorem dX0_inTime_50 : decode cX0_inTime 50 = .ok (.if_icmp .le 5, 3) := by decide +kernel
theorem dX0_inTime_53 : decode cX0_inTime 53 = .ok (.iconst 0, 1) := by decide +kernel
theorem dX0_inTime_54 : decode cX0_inTime 54 = .ok (.ireturn, 1) := by decide +kernel
theorem dX0_inTime_55 : decode cX0_inTime 55 = .ok (.iinc 3 1, 3) := by decide +kernel
theorem dX0_inTime_58 : decode cX0_inTime 58 = .ok (.goto (-54), 3) := by decide +kernel
theorem dX0_inTime_61 : decode cX0_inTime 61 = .ok (.iconst 1, 1) := by decide +kernel
theorem dX0_inTime_62 : decode cX0_inTime 62 = .ok (.ireturn, 1) := by decide +kernel
abbrev cX0_mostInTime : ByteArray := prog_1_method_11_code
def yX0_mostInTime : MethodName := ⟨RX0, "mostInTime", "()I"⟩
theorem dX0_mostInTime_0 : decode cX0_mostInTime 0 = .ok (.aload_n 0, 1) := by decide +kernel
theorem dX0_mostInTime_1 : decode cX0_mostInTime 1 = .ok (.invokevirtual 49, 3) := by decide +kernel
theorem dX0_mostInTime_4 : decode cX0_mostInTime 4 = .ok (.ifCond .eq 10, 3) := by decide +kernel
theorem dX0_mostInTime_7 : decode cX0_mostInTime 7 = .ok (.aload_n 0, 1) := by decide +kernel
theorem dX0_mostInTime_8 : decode cX0_mostInTime 8 = .ok (.getfield 53, 3) := by decide +kernel
theorem dX0_mostInTime_11 : decode cX0_mostInTime 11 = .ok (.goto 5, 3) := by decide +kernel
theorem dX0_mostInTime_14 : decode cX0_mostInTime 14 = .ok (.bipush (-3), 2) := by decide +kernel
theorem dX0_mostInTime_16 : decode cX0_mostInTime 16 = .ok (.ireturn, 1) := by decide +kernel
abbrev cX0_admit : ByteArray := prog_1_method_17_code
theorem dX0_admit_0 : decode cX0_admit 0 = .ok (.aload_n 0, 1) := by decide +kernel
theorem dX0_admit_1 : decode cX0_admit 1 = .ok (.iconst 0, 1) := by decide +kernel
theorem dX0_admit_2 : decode cX0_admit 2 = .ok (.putfield 63, 3) := by decide +kernel
theorem dX0_admit_5 : decode cX0_admit 5 = .ok (.aload_n 0, 1) := by decide +kernel
theorem dX0_admit_6 : decode cX0_admit 6 = .ok (.iconst 0, 1) := by decide +kernel
theorem dX0_admit_7 : decode cX0_admit 7 = .ok (.putfield 53, 3) := by decide +kernel
theorem dX0_admit_10 : decode cX0_admit 10 = .ok (.aload_n 0, 1) := by decide +kernel
theorem dX0_admit_11 : decode cX0_admit 11 = .ok (.iconst 0, 1) := by decide +kernel
theorem dX0_admit_12 : decode cX0_admit 12 = .ok (.putfield 56, 3) := by decide +kernel
theorem dX0_admit_15 : decode cX0_admit 15 = .ok (.iconst 0, 1) := by decide +kernel
theorem dX0_admit_16 : decode cX0_admit 16 = .ok (.istore_n 1, 1) := by decide +kernel
theorem dX0_admit_17 : decode cX0_admit 17 = .ok (.iload_n 1, 1) := by decide +kernel
theorem dX0_admit_18 : decode cX0_admit 18 = .ok (.aload_n 0, 1) := by decide +kernel
theorem dX0_admit_19 : decode cX0_admit 19 = .ok (.getfield 43, 3) := by decide +kernel
theorem dX0_admit_22 : decode cX0_admit 22 = .ok (.if_icmp .ge 89, 3) := by decide +kernel
theorem dX0_admit_25 : decode cX0_admit 25 = .ok (.aload_n 0, 1) := by decide +kernel
theorem dX0_admit_26 : decode cX0_admit 26 = .ok (.getfield 21, 3) := by decide +kernel
theorem dX0_admit_29 : decode cX0_admit 29 = .ok (.iload_n 1, 1) := by decide +kernel
theorem dX0_admit_30 : decode cX0_admit 30 = .ok (.baload, 1) := by decide +kernel
theorem dX0_admit_31 : decode cX0_admit 31 = .ok (.istore_n 2, 1) := by decide +kernel
theorem dX0_admit_32 : decode cX0_admit 32 = .ok (.aload_n 0, 1) := by decide +kernel
theorem dX0_admit_33 : decode cX0_admit 33 = .ok (.dup, 1) := by decide +kernel
theorem dX0_admit_34 : decode cX0_admit 34 = .ok (.getfield 63, 3) := by decide +kernel
theorem dX0_admit_37 : decode cX0_admit 37 = .ok (.iconst 1, 1) := by decide +kernel
theorem dX0_admit_38 : decode cX0_admit 38 = .ok (.iload_n 2, 1) := by decide +kernel
theorem dX0_admit_39 : decode cX0_admit 39 = .ok (.ishl, 1) := by decide +kernel
theorem dX0_admit_40 : decode cX0_admit 40 = .ok (.ior, 1) := by decide +kernel
theorem dX0_admit_41 : decode cX0_admit 41 = .ok (.putfield 63, 3) := by decide +kernel
theorem dX0_admit_44 : decode cX0_admit 44 = .ok (.aload_n 0, 1) := by decide +kernel
theorem dX0_admit_45 : decode cX0_admit 45 = .ok (.dup, 1) := by decide +kernel
theorem dX0_admit_46 : decode cX0_admit 46 = .ok (.getfield 53, 3) := by decide +kernel
theorem dX0_admit_49 : decode cX0_admit 49 = .ok (.iconst 1, 1) := by decide +kernel
theorem dX0_admit_50 : decode cX0_admit 50 = .ok (.iadd, 1) := by decide +kernel
theorem dX0_admit_51 : decode cX0_admit 51 = .ok (.putfield 53, 3) := by decide +kernel
theorem dX0_admit_54 : decode cX0_admit 54 = .ok (.aload_n 0, 1) := by decide +kernel
theorem dX0_admit_55 : decode cX0_admit 55 = .ok (.dup, 1) := by decide +kernel
theorem dX0_admit_56 : decode cX0_admit 56 = .ok (.getfield 56, 3) := by decide +kernel
theorem dX0_admit_59 : decode cX0_admit 59 = .ok (.aload_n 0, 1) := by decide +kernel
theorem dX0_admit_60 : decode cX0_admit 60 = .ok (.getfield 7, 3) := by decide +kernel
theorem dX0_admit_63 : decode cX0_admit 63 = .ok (.iload_n 2, 1) := by decide +kernel
theorem dX0_admit_64 : decode cX0_admit 64 = .ok (.baload, 1) := by decide +kernel
theorem dX0_admit_65 : decode cX0_admit 65 = .ok (.iadd, 1) := by decide +kernel
theorem dX0_admit_66 : decode cX0_admit 66 = .ok (.putfield 56, 3) := by decide +kernel
theorem dX0_admit_69 : decode cX0_admit 69 = .ok (.iconst 0, 1) := by decide +kernel
theorem dX0_admit_70 : decode cX0_admit 70 = .ok (.istore_n 3, 1) := by decide +kernel
theorem dX0_admit_71 : decode cX0_admit 71 = .ok (.iload_n 3, 1) := by decide +kernel
theorem dX0_admit_72 : decode cX0_admit 72 = .ok (.bipush 11, 2) := by decide +kernel
theorem dX0_admit_74 : decode cX0_admit 74 = .ok (.if_icmp .ge 31, 3) := by decide +kernel
theorem dX0_admit_77 : decode cX0_admit 77 = .ok (.aload_n 0, 1) := by decide +kernel
theorem dX0_admit_78 : decode cX0_admit 78 = .ok (.getfield 56, 3) := by decide +kernel
theorem dX0_admit_81 : decode cX0_admit 81 = .ok (.aload_n 0, 1) := by decide +kernel
theorem dX0_admit_82 : decode cX0_admit 82 = .ok (.getfield 13, 3) := by decide +kernel
theorem dX0_admit_85 : decode cX0_admit 85 = .ok (.iload_n 2, 1) := by decide +kernel
theorem dX0_admit_86 : decode cX0_admit 86 = .ok (.saload, 1) := by decide +kernel
theorem dX0_admit_87 : decode cX0_admit 87 = .ok (.if_icmp .le 18, 3) := by decide +kernel
theorem dX0_admit_90 : decode cX0_admit 90 = .ok (.aload_n 0, 1) := by decide +kernel
theorem dX0_admit_91 : decode cX0_admit 91 = .ok (.invokevirtual 66, 3) := by decide +kernel
theorem dX0_admit_94 : decode cX0_admit 94 = .ok (.ifCond .ne 5, 3) := by decide +kernel
theorem dX0_admit_97 : decode cX0_admit 97 = .ok (.iconst 0, 1) := by decide +kernel
theorem dX0_admit_98 : decode cX0_admit 98 = .ok (.ireturn, 1) := by decide +kernel
theorem dX0_admit_99 : decode cX0_admit 99 = .ok (.iinc 3 1, 3) := by decide +kernel
theorem dX0_admit_102 : decode cX0_admit 102 = .ok (.goto (-31), 3) := by decide +kernel
theorem dX0_admit_105 : decode cX0_admit 105 = .ok (.iinc 1 1, 3) := by decide +kernel
theorem dX0_admit_108 : decode cX0_admit 108 = .ok (.goto (-91), 3) := by decide +kernel
theorem dX0_admit_111 : decode cX0_admit 111 = .ok (.iconst 1, 1) := by decide +kernel
theorem dX0_admit_112 : decode cX0_admit 112 = .ok (.ireturn, 1) := by decide +kernel
abbrev cX0_giveUpLongest : ByteArray := prog_1_method_18_code
def yX0_giveUpLongest : MethodName := ⟨RX0, "giveUpLongest", "()Z"⟩
theorem dX0_giveUpLongest_0 : decode cX0_giveUpLongest 0 = .ok (.iconst (-1), 1) := by decide +kernel
theorem dX0_giveUpLongest_1 : decode cX0_giveUpLongest 1 = .ok (.istore_n 1, 1) := by decide +kernel
theorem dX0_giveUpLongest_2 : decode cX0_giveUpLongest 2 = .ok (.iconst 0, 1) := by decide +kernel
theorem dX0_giveUpLongest_3 : decode cX0_giveUpLongest 3 = .ok (.istore_n 2, 1) := by decide +kernel
theorem dX0_giveUpLongest_4 : decode cX0_giveUpLongest 4 = .ok (.iload_n 2, 1) := by decide +kernel
theorem dX0_giveUpLongest_5 : decode cX0_giveUpLongest 5 = .ok (.bipush 11, 2) := by decide +kernel
theorem dX0_giveUpLongest_7 : decode cX0_giveUpLongest 7 = .ok (.if_icmp .ge 53, 3) := by decide +kernel
theorem dX0_giveUpLongest_10 : decode cX0_giveUpLongest 10 = .ok (.aload_n 0, 1) := by decide +kernel
theorem dX0_giveUpLongest_11 : decode cX0_giveUpLongest 11 = .ok (.getfield 63, 3) := by decide +kernel
theorem dX0_giveUpLongest_14 : decode cX0_giveUpLongest 14 = .ok (.iload_n 2, 1) := by decide +kernel
theorem dX0_giveUpLongest_15 : decode cX0_giveUpLongest 15 = .ok (.ishr, 1) := by decide +kernel
theorem dX0_giveUpLongest_16 : decode cX0_giveUpLongest 16 = .ok (.iconst 1, 1) := by decide +kernel
theorem dX0_giveUpLongest_17 : decode cX0_giveUpLongest 17 = .ok (.iand, 1) := by decide +kernel
theorem dX0_giveUpLongest_18 : decode cX0_giveUpLongest 18 = .ok (.ifCond .eq 36, 3) := by decide +kernel
theorem dX0_giveUpLongest_21 : decode cX0_giveUpLongest 21 = .ok (.aload_n 0, 1) := by decide +kernel
theorem dX0_giveUpLongest_22 : decode cX0_giveUpLongest 22 = .ok (.getfield 17, 3) := by decide +kernel
theorem dX0_giveUpLongest_25 : decode cX0_giveUpLongest 25 = .ok (.iload_n 2, 1) := by decide +kernel
theorem dX0_giveUpLongest_26 : decode cX0_giveUpLongest 26 = .ok (.baload, 1) := by decide +kernel
theorem dX0_giveUpLongest_27 : decode cX0_giveUpLongest 27 = .ok (.ifCond .eq 6, 3) := by decide +kernel
theorem dX0_giveUpLongest_30 : decode cX0_giveUpLongest 30 = .ok (.goto 24, 3) := by decide +kernel
theorem dX0_giveUpLongest_33 : decode cX0_giveUpLongest 33 = .ok (.iload_n 1, 1) := by decide +kernel
theorem dX0_giveUpLongest_34 : decode cX0_giveUpLongest 34 = .ok (.ifCond .lt 18, 3) := by decide +kernel
theorem dX0_giveUpLongest_37 : decode cX0_giveUpLongest 37 = .ok (.aload_n 0, 1) := by decide +kernel
theorem dX0_giveUpLongest_38 : decode cX0_giveUpLongest 38 = .ok (.getfield 7, 3) := by decide +kernel
theorem dX0_giveUpLongest_41 : decode cX0_giveUpLongest 41 = .ok (.iload_n 2, 1) := by decide +kernel
theorem dX0_giveUpLongest_42 : decode cX0_giveUpLongest 42 = .ok (.baload, 1) := by decide +kernel
theorem dX0_giveUpLongest_43 : decode cX0_giveUpLongest 43 = .ok (.aload_n 0, 1) := by decide +kernel
theorem dX0_giveUpLongest_44 : decode cX0_giveUpLongest 44 = .ok (.getfield 7, 3) := by decide +kernel
theorem dX0_giveUpLongest_47 : decode cX0_giveUpLongest 47 = .ok (.iload_n 1, 1) := by decide +kernel
theorem dX0_giveUpLongest_48 : decode cX0_giveUpLongest 48 = .ok (.baload, 1) := by decide +kernel
theorem dX0_giveUpLongest_49 : decode cX0_giveUpLongest 49 = .ok (.if_icmp .le 5, 3) := by decide +kernel
theorem dX0_giveUpLongest_52 : decode cX0_giveUpLongest 52 = .ok (.iload_n 2, 1) := by decide +kernel
theorem dX0_giveUpLongest_53 : decode cX0_giveUpLongest 53 = .ok (.istore_n 1, 1) := by decide +kernel
theorem dX0_giveUpLongest_54 : decode cX0_giveUpLongest 54 = .ok (.iinc 2 1, 3) := by decide +kernel
theorem dX0_giveUpLongest_57 : decode cX0_giveUpLongest 57 = .ok (.goto (-53), 3) := by decide +kernel
theorem dX0_giveUpLongest_60 : decode cX0_giveUpLongest 60 = .ok (.iload_n 1, 1) := by decide +kernel
theorem dX0_giveUpLongest_61 : decode cX0_giveUpLongest 61 = .ok (.ifCond .ge 5, 3) := by decide +kernel
theorem dX0_giveUpLongest_64 : decode cX0_giveUpLongest 64 = .ok (.iconst 0, 1) := by decide +kernel
theorem dX0_giveUpLongest_65 : decode cX0_giveUpLongest 65 = .ok (.ireturn, 1) := by decide +kernel
theorem dX0_giveUpLongest_66 : decode cX0_giveUpLongest 66 = .ok (.aload_n 0, 1) := by decide +kernel
theorem dX0_giveUpLongest_67 : decode cX0_giveUpLongest 67 = .ok (.dup, 1) := by decide +kernel
theorem dX0_giveUpLongest_68 : decode cX0_giveUpLongest 68 = .ok (.getfield 63, 3) := by decide +kernel
theorem dX0_giveUpLongest_71 : decode cX0_giveUpLongest 71 = .ok (.iconst 1, 1) := by decide +kernel
theorem dX0_giveUpLongest_72 : decode cX0_giveUpLongest 72 = .ok (.iload_n 1, 1) := by decide +kernel
theorem dX0_giveUpLongest_73 : decode cX0_giveUpLongest 73 = .ok (.ishl, 1) := by decide +kernel
theorem dX0_giveUpLongest_74 : decode cX0_giveUpLongest 74 = .ok (.iconst (-1), 1) := by decide +kernel
theorem dX0_giveUpLongest_75 : decode cX0_giveUpLongest 75 = .ok (.ixor, 1) := by decide +kernel
theorem dX0_giveUpLongest_76 : decode cX0_giveUpLongest 76 = .ok (.iand, 1) := by decide +kernel
theorem dX0_giveUpLongest_77 : decode cX0_giveUpLongest 77 = .ok (.putfield 63, 3) := by decide +kernel
theorem dX0_giveUpLongest_80 : decode cX0_giveUpLongest 80 = .ok (.aload_n 0, 1) := by decide +kernel
theorem dX0_giveUpLongest_81 : decode cX0_giveUpLongest 81 = .ok (.dup, 1) := by decide +kernel
theorem dX0_giveUpLongest_82 : decode cX0_giveUpLongest 82 = .ok (.getfield 53, 3) := by decide +kernel
theorem dX0_giveUpLongest_85 : decode cX0_giveUpLongest 85 = .ok (.iconst 1, 1) := by decide +kernel
theorem dX0_giveUpLongest_86 : decode cX0_giveUpLongest 86 = .ok (.isub, 1) := by decide +kernel
theorem dX0_giveUpLongest_87 : decode cX0_giveUpLongest 87 = .ok (.putfield 53, 3) := by decide +kernel
theorem dX0_giveUpLongest_90 : decode cX0_giveUpLongest 90 = .ok (.aload_n 0, 1) := by decide +kernel
theorem dX0_giveUpLongest_91 : decode cX0_giveUpLongest 91 = .ok (.dup, 1) := by decide +kernel
theorem dX0_giveUpLongest_92 : decode cX0_giveUpLongest 92 = .ok (.getfield 56, 3) := by decide +kernel
theorem dX0_giveUpLongest_95 : decode cX0_giveUpLongest 95 = .ok (.aload_n 0, 1) := by decide +kernel
theorem dX0_giveUpLongest_96 : decode cX0_giveUpLongest 96 = .ok (.getfield 7, 3) := by decide +kernel
theorem dX0_giveUpLongest_99 : decode cX0_giveUpLongest 99 = .ok (.iload_n 1, 1) := by decide +kernel
theorem dX0_giveUpLongest_100 : decode cX0_giveUpLongest 100 = .ok (.baload, 1) := by decide +kernel
theorem dX0_giveUpLongest_101 : decode cX0_giveUpLongest 101 = .ok (.isub, 1) := by decide +kernel
theorem dX0_giveUpLongest_102 : decode cX0_giveUpLongest 102 = .ok (.putfield 56, 3) := by decide +kernel
theorem dX0_giveUpLongest_105 : decode cX0_giveUpLongest 105 = .ok (.iconst 1, 1) := by decide +kernel
theorem dX0_giveUpLongest_106 : decode cX0_giveUpLongest 106 = .ok (.ireturn, 1) := by decide +kernel
abbrev cX0_leastTime : ByteArray := prog_1_method_12_code
def yX0_leastTime : MethodName := ⟨RX0, "leastTime", "()I"⟩
theorem dX0_leastTime_0 : decode cX0_leastTime 0 = .ok (.aload_n 0, 1) := by decide +kernel
theorem dX0_leastTime_1 : decode cX0_leastTime 1 = .ok (.invokevirtual 49, 3) := by decide +kernel
theorem dX0_leastTime_4 : decode cX0_leastTime 4 = .ok (.ifCond .eq 10, 3) := by decide +kernel
theorem dX0_leastTime_7 : decode cX0_leastTime 7 = .ok (.aload_n 0, 1) := by decide +kernel
theorem dX0_leastTime_8 : decode cX0_leastTime 8 = .ok (.getfield 56, 3) := by decide +kernel
theorem dX0_leastTime_11 : decode cX0_leastTime 11 = .ok (.goto 5, 3) := by decide +kernel
theorem dX0_leastTime_14 : decode cX0_leastTime 14 = .ok (.bipush (-3), 2) := by decide +kernel
theorem dX0_leastTime_16 : decode cX0_leastTime 16 = .ok (.ireturn, 1) := by decide +kernel
abbrev cX0_affordable : ByteArray := prog_1_method_13_code
def yX0_affordable : MethodName := ⟨RX0, "affordable", "(I)Z"⟩
theorem dX0_affordable_0 : decode cX0_affordable 0 = .ok (.aload_n 0, 1) := by decide +kernel
theorem dX0_affordable_1 : decode cX0_affordable 1 = .ok (.iload_n 1, 1) := by decide +kernel
theorem dX0_affordable_2 : decode cX0_affordable 2 = .ok (.invokevirtual 36, 3) := by decide +kernel
theorem dX0_affordable_5 : decode cX0_affordable 5 = .ok (.ifCond .eq 10, 3) := by decide +kernel
theorem dX0_affordable_8 : decode cX0_affordable 8 = .ok (.aload_n 0, 1) := by decide +kernel
theorem dX0_affordable_9 : decode cX0_affordable 9 = .ok (.invokevirtual 49, 3) := by decide +kernel
theorem dX0_affordable_12 : decode cX0_affordable 12 = .ok (.ifCond .ne 5, 3) := by decide +kernel
theorem dX0_affordable_15 : decode cX0_affordable 15 = .ok (.iconst 0, 1) := by decide +kernel
theorem dX0_affordable_16 : decode cX0_affordable 16 = .ok (.ireturn, 1) := by decide +kernel
theorem dX0_affordable_17 : decode cX0_affordable 17 = .ok (.aload_n 0, 1) := by decide +kernel
theorem dX0_affordable_18 : decode cX0_affordable 18 = .ok (.getfield 53, 3) := by decide +kernel
theorem dX0_affordable_21 : decode cX0_affordable 21 = .ok (.istore_n 2, 1) := by decide +kernel
theorem dX0_affordable_22 : decode cX0_affordable 22 = .ok (.aload_n 0, 1) := by decide +kernel
theorem dX0_affordable_23 : decode cX0_affordable 23 = .ok (.getfield 17, 3) := by decide +kernel
theorem dX0_affordable_26 : decode cX0_affordable 26 = .ok (.iload_n 1, 1) := by decide +kernel
theorem dX0_affordable_27 : decode cX0_affordable 27 = .ok (.baload, 1) := by decide +kernel
theorem dX0_affordable_28 : decode cX0_affordable 28 = .ok (.istore_n 3, 1) := by decide +kernel
theorem dX0_affordable_29 : decode cX0_affordable 29 = .ok (.aload_n 0, 1) := by decide +kernel
theorem dX0_affordable_30 : decode cX0_affordable 30 = .ok (.getfield 17, 3) := by decide +kernel
theorem dX0_affordable_33 : decode cX0_affordable 33 = .ok (.iload_n 1, 1) := by decide +kernel
theorem dX0_affordable_34 : decode cX0_affordable 34 = .ok (.iconst 1, 1) := by decide +kernel
theorem dX0_affordable_35 : decode cX0_affordable 35 = .ok (.bastore, 1) := by decide +kernel
theorem dX0_affordable_36 : decode cX0_affordable 36 = .ok (.aload_n 0, 1) := by decide +kernel
theorem dX0_affordable_37 : decode cX0_affordable 37 = .ok (.invokevirtual 49, 3) := by decide +kernel
theorem dX0_affordable_40 : decode cX0_affordable 40 = .ok (.ifCond .eq 15, 3) := by decide +kernel
theorem dX0_affordable_43 : decode cX0_affordable 43 = .ok (.aload_n 0, 1) := by decide +kernel
theorem dX0_affordable_44 : decode cX0_affordable 44 = .ok (.getfield 53, 3) := by decide +kernel
theorem dX0_affordable_47 : decode cX0_affordable 47 = .ok (.iload_n 2, 1) := by decide +kernel
theorem dX0_affordable_48 : decode cX0_affordable 48 = .ok (.if_icmp .ne 7, 3) := by decide +kernel
theorem dX0_affordable_51 : decode cX0_affordable 51 = .ok (.iconst 1, 1) := by decide +kernel
theorem dX0_affordable_52 : decode cX0_affordable 52 = .ok (.goto 4, 3) := by decide +kernel
theorem dX0_affordable_55 : decode cX0_affordable 55 = .ok (.iconst 0, 1) := by decide +kernel
theorem dX0_affordable_56 : decode cX0_affordable 56 = .ok (.istore 4, 2) := by decide +kernel
theorem dX0_affordable_58 : decode cX0_affordable 58 = .ok (.aload_n 0, 1) := by decide +kernel
theorem dX0_affordable_59 : decode cX0_affordable 59 = .ok (.getfield 17, 3) := by decide +kernel
theorem dX0_affordable_62 : decode cX0_affordable 62 = .ok (.iload_n 1, 1) := by decide +kernel
theorem dX0_affordable_63 : decode cX0_affordable 63 = .ok (.iload_n 3, 1) := by decide +kernel
theorem dX0_affordable_64 : decode cX0_affordable 64 = .ok (.bastore, 1) := by decide +kernel
theorem dX0_affordable_65 : decode cX0_affordable 65 = .ok (.iload 4, 2) := by decide +kernel
theorem dX0_affordable_67 : decode cX0_affordable 67 = .ok (.ireturn, 1) := by decide +kernel
abbrev cX0_welcome : ByteArray := prog_1_method_14_code
def yX0_welcome : MethodName := ⟨RX0, "welcome", "(II)Z"⟩
theorem dX0_welcome_0 : decode cX0_welcome 0 = .ok (.aload_n 0, 1) := by decide +kernel
theorem dX0_welcome_1 : decode cX0_welcome 1 = .ok (.iload_n 1, 1) := by decide +kernel
theorem dX0_welcome_2 : decode cX0_welcome 2 = .ok (.iload_n 2, 1) := by decide +kernel
theorem dX0_welcome_3 : decode cX0_welcome 3 = .ok (.invokevirtual 28, 3) := by decide +kernel
theorem dX0_welcome_6 : decode cX0_welcome 6 = .ok (.ifCond .eq 10, 3) := by decide +kernel
theorem dX0_welcome_9 : decode cX0_welcome 9 = .ok (.aload_n 0, 1) := by decide +kernel
theorem dX0_welcome_10 : decode cX0_welcome 10 = .ok (.invokevirtual 49, 3) := by decide +kernel
theorem dX0_welcome_13 : decode cX0_welcome 13 = .ok (.ifCond .ne 5, 3) := by decide +kernel
theorem dX0_welcome_16 : decode cX0_welcome 16 = .ok (.iconst 0, 1) := by decide +kernel
theorem dX0_welcome_17 : decode cX0_welcome 17 = .ok (.ireturn, 1) := by decide +kernel
theorem dX0_welcome_18 : decode cX0_welcome 18 = .ok (.aload_n 0, 1) := by decide +kernel
theorem dX0_welcome_19 : decode cX0_welcome 19 = .ok (.getfield 53, 3) := by decide +kernel
theorem dX0_welcome_22 : decode cX0_welcome 22 = .ok (.istore_n 3, 1) := by decide +kernel
theorem dX0_welcome_23 : decode cX0_welcome 23 = .ok (.aload_n 0, 1) := by decide +kernel
theorem dX0_welcome_24 : decode cX0_welcome 24 = .ok (.getfield 7, 3) := by decide +kernel
theorem dX0_welcome_27 : decode cX0_welcome 27 = .ok (.bipush 10, 2) := by decide +kernel
theorem dX0_welcome_29 : decode cX0_welcome 29 = .ok (.iload_n 1, 1) := by decide +kernel
theorem dX0_welcome_30 : decode cX0_welcome 30 = .ok (.i2b, 1) := by decide +kernel
theorem dX0_welcome_31 : decode cX0_welcome 31 = .ok (.bastore, 1) := by decide +kernel
theorem dX0_welcome_32 : decode cX0_welcome 32 = .ok (.aload_n 0, 1) := by decide +kernel
theorem dX0_welcome_33 : decode cX0_welcome 33 = .ok (.getfield 13, 3) := by decide +kernel
theorem dX0_welcome_36 : decode cX0_welcome 36 = .ok (.bipush 10, 2) := by decide +kernel
theorem dX0_welcome_38 : decode cX0_welcome 38 = .ok (.iload_n 2, 1) := by decide +kernel
theorem dX0_welcome_39 : decode cX0_welcome 39 = .ok (.i2s, 1) := by decide +kernel
theorem dX0_welcome_40 : decode cX0_welcome 40 = .ok (.sastore, 1) := by decide +kernel
theorem dX0_welcome_41 : decode cX0_welcome 41 = .ok (.aload_n 0, 1) := by decide +kernel
theorem dX0_welcome_42 : decode cX0_welcome 42 = .ok (.getfield 17, 3) := by decide +kernel
theorem dX0_welcome_45 : decode cX0_welcome 45 = .ok (.bipush 10, 2) := by decide +kernel
theorem dX0_welcome_47 : decode cX0_welcome 47 = .ok (.iconst 0, 1) := by decide +kernel
theorem dX0_welcome_48 : decode cX0_welcome 48 = .ok (.bastore, 1) := by decide +kernel
theorem dX0_welcome_49 : decode cX0_welcome 49 = .ok (.aload_n 0, 1) := by decide +kernel
theorem dX0_welcome_50 : decode cX0_welcome 50 = .ok (.bipush 10, 2) := by decide +kernel
theorem dX0_welcome_52 : decode cX0_welcome 52 = .ok (.invokevirtual 32, 3) := by decide +kernel
theorem dX0_welcome_55 : decode cX0_welcome 55 = .ok (.aload_n 0, 1) := by decide +kernel
theorem dX0_welcome_56 : decode cX0_welcome 56 = .ok (.invokevirtual 49, 3) := by decide +kernel
theorem dX0_welcome_59 : decode cX0_welcome 59 = .ok (.ifCond .eq 15, 3) := by decide +kernel
theorem dX0_welcome_62 : decode cX0_welcome 62 = .ok (.aload_n 0, 1) := by decide +kernel
theorem dX0_welcome_63 : decode cX0_welcome 63 = .ok (.getfield 53, 3) := by decide +kernel
theorem dX0_welcome_66 : decode cX0_welcome 66 = .ok (.iload_n 3, 1) := by decide +kernel
theorem dX0_welcome_67 : decode cX0_welcome 67 = .ok (.if_icmp .le 7, 3) := by decide +kernel
theorem dX0_welcome_70 : decode cX0_welcome 70 = .ok (.iconst 1, 1) := by decide +kernel
theorem dX0_welcome_71 : decode cX0_welcome 71 = .ok (.goto 4, 3) := by decide +kernel
theorem dX0_welcome_74 : decode cX0_welcome 74 = .ok (.iconst 0, 1) := by decide +kernel
theorem dX0_welcome_75 : decode cX0_welcome 75 = .ok (.istore 4, 2) := by decide +kernel
theorem dX0_welcome_77 : decode cX0_welcome 77 = .ok (.aload_n 0, 1) := by decide +kernel
theorem dX0_welcome_78 : decode cX0_welcome 78 = .ok (.bipush 10, 2) := by decide +kernel
theorem dX0_welcome_80 : decode cX0_welcome 80 = .ok (.invokevirtual 40, 3) := by decide +kernel
theorem dX0_welcome_83 : decode cX0_welcome 83 = .ok (.iload 4, 2) := by decide +kernel
theorem dX0_welcome_85 : decode cX0_welcome 85 = .ok (.ireturn, 1) := by decide +kernel
abbrev cX0_elapse : ByteArray := prog_1_method_15_code
def yX0_elapse : MethodName := ⟨RX0, "elapse", "(I)I"⟩
theorem dX0_elapse_0 : decode cX0_elapse 0 = .ok (.iload_n 1, 1) := by decide +kernel
theorem dX0_elapse_1 : decode cX0_elapse 1 = .ok (.ifCond .lt 10, 3) := by decide +kernel
theorem dX0_elapse_4 : decode cX0_elapse 4 = .ok (.iload_n 1, 1) := by decide +kernel
theorem dX0_elapse_5 : decode cX0_elapse 5 = .ok (.sipush 200, 3) := by decide +kernel
theorem dX0_elapse_8 : decode cX0_elapse 8 = .ok (.if_icmp .le 5, 3) := by decide +kernel
theorem dX0_elapse_11 : decode cX0_elapse 11 = .ok (.iconst (-1), 1) := by decide +kernel
theorem dX0_elapse_12 : decode cX0_elapse 12 = .ok (.ireturn, 1) := by decide +kernel
theorem dX0_elapse_13 : decode cX0_elapse 13 = .ok (.iconst 0, 1) := by decide +kernel
theorem dX0_elapse_14 : decode cX0_elapse 14 = .ok (.istore_n 2, 1) := by decide +kernel
theorem dX0_elapse_15 : decode cX0_elapse 15 = .ok (.iload_n 2, 1) := by decide +kernel
theorem dX0_elapse_16 : decode cX0_elapse 16 = .ok (.bipush 10, 2) := by decide +kernel
theorem dX0_elapse_18 : decode cX0_elapse 18 = .ok (.if_icmp .ge 47, 3) := by decide +kernel
theorem dX0_elapse_21 : decode cX0_elapse 21 = .ok (.aload_n 0, 1) := by decide +kernel
theorem dX0_elapse_22 : decode cX0_elapse 22 = .ok (.getfield 7, 3) := by decide +kernel
theorem dX0_elapse_25 : decode cX0_elapse 25 = .ok (.iload_n 2, 1) := by decide +kernel
theorem dX0_elapse_26 : decode cX0_elapse 26 = .ok (.baload, 1) := by decide +kernel
theorem dX0_elapse_27 : decode cX0_elapse 27 = .ok (.ifCond .ne 6, 3) := by decide +kernel
theorem dX0_elapse_30 : decode cX0_elapse 30 = .ok (.goto 29, 3) := by decide +kernel
theorem dX0_elapse_33 : decode cX0_elapse 33 = .ok (.aload_n 0, 1) := by decide +kernel
theorem dX0_elapse_34 : decode cX0_elapse 34 = .ok (.getfield 13, 3) := by decide +kernel
theorem dX0_elapse_37 : decode cX0_elapse 37 = .ok (.iload_n 2, 1) := by decide +kernel
theorem dX0_elapse_38 : decode cX0_elapse 38 = .ok (.dup2, 1) := by decide +kernel
theorem dX0_elapse_39 : decode cX0_elapse 39 = .ok (.saload, 1) := by decide +kernel
theorem dX0_elapse_40 : decode cX0_elapse 40 = .ok (.iload_n 1, 1) := by decide +kernel
theorem dX0_elapse_41 : decode cX0_elapse 41 = .ok (.isub, 1) := by decide +kernel
theorem dX0_elapse_42 : decode cX0_elapse 42 = .ok (.i2s, 1) := by decide +kernel
theorem dX0_elapse_43 : decode cX0_elapse 43 = .ok (.sastore, 1) := by decide +kernel
theorem dX0_elapse_44 : decode cX0_elapse 44 = .ok (.aload_n 0, 1) := by decide +kernel
theorem dX0_elapse_45 : decode cX0_elapse 45 = .ok (.getfield 13, 3) := by decide +kernel
theorem dX0_elapse_48 : decode cX0_elapse 48 = .ok (.iload_n 2, 1) := by decide +kernel
theorem dX0_elapse_49 : decode cX0_elapse 49 = .ok (.saload, 1) := by decide +kernel
theorem dX0_elapse_50 : decode cX0_elapse 50 = .ok (.ifCond .ge 9, 3) := by decide +kernel
theorem dX0_elapse_53 : decode cX0_elapse 53 = .ok (.aload_n 0, 1) := by decide +kernel
theorem dX0_elapse_54 : decode cX0_elapse 54 = .ok (.iload_n 2, 1) := by decide +kernel
theorem dX0_elapse_55 : decode cX0_elapse 55 = .ok (.invokevirtual 59, 3) := by decide +kernel
theorem dX0_elapse_58 : decode cX0_elapse 58 = .ok (.pop, 1) := by decide +kernel
theorem dX0_elapse_59 : decode cX0_elapse 59 = .ok (.iinc 2 1, 3) := by decide +kernel
theorem dX0_elapse_62 : decode cX0_elapse 62 = .ok (.goto (-47), 3) := by decide +kernel
theorem dX0_elapse_65 : decode cX0_elapse 65 = .ok (.aload_n 0, 1) := by decide +kernel
theorem dX0_elapse_66 : decode cX0_elapse 66 = .ok (.getfield 24, 3) := by decide +kernel
theorem dX0_elapse_69 : decode cX0_elapse 69 = .ok (.ireturn, 1) := by decide +kernel
theorem q18 : (Jvm.Cond.initialized "LateJobAdmit") ∈ lw_all := lw_g (lw_at lw_m0 1 rfl) rfl
theorem q21 : (Jvm.Cond.instantiable "LateJobAdmit" (9 : Nat)) ∈ lw_all := lw_g (lw_at lw_m0 4 rfl) rfl
theorem q23 : (Jvm.Cond.instanceMethod ({ cls := "LateJobAdmit", name := "<init>", desc := "()V" } : Jvm.MethodName)) ∈ lw_all := lw_g (lw_at lw_m0 6 rfl) rfl
theorem q24 : (Jvm.Cond.code ({ cls := "LateJobAdmit", name := "<init>", desc := "()V" } : Jvm.MethodName) prog_1_method_1_code (1 : Nat) (Option.none : Option Jvm.ClassFile.FieldType)) ∈ lw_all := lw_g (lw_at lw_m0 7 rfl) rfl
theorem q25 : (Jvm.Cond.methodLink "LateJobAdmit" (1 : Nat) ({ cls := "java/lang/Object", name := "<init>", desc := "()V" } : Jvm.MethodName)) ∈ lw_all := lw_g (lw_at lw_m0 8 rfl) rfl
theorem q28 : (Jvm.Cond.fieldLink "LateJobAdmit" (24 : Nat) "LateJobAdmit" "jobCount" "I") ∈ lw_all := lw_g (lw_at lw_m0 11 rfl) rfl
theorem q29 : (Jvm.Cond.fieldLink "LateJobAdmit" (7 : Nat) "LateJobAdmit" "length" "[B") ∈ lw_all := lw_g (lw_at lw_m0 12 rfl) rfl
theorem q30 : (Jvm.Cond.fieldLink "LateJobAdmit" (13 : Nat) "LateJobAdmit" "deadline" "[S") ∈ lw_all := lw_g (lw_at lw_m0 13 rfl) rfl
theorem q31 : (Jvm.Cond.fieldLink "LateJobAdmit" (17 : Nat) "LateJobAdmit" "firm" "[Z") ∈ lw_all := lw_g (lw_at lw_m0 14 rfl) rfl
theorem q32 : (Jvm.Cond.fieldLink "LateJobAdmit" (43 : Nat) "LateJobAdmit" "ranked" "I") ∈ lw_all := lw_g (lw_at lw_m0 15 rfl) rfl
theorem q33 : (Jvm.Cond.fieldLink "LateJobAdmit" (21 : Nat) "LateJobAdmit" "rank" "[B") ∈ lw_all := lw_g (lw_at lw_m0 16 rfl) rfl
theorem q34 : (Jvm.Cond.fieldLink "LateJobAdmit" (63 : Nat) "LateJobAdmit" "admitted" "I") ∈ lw_all := lw_g (lw_at lw_m0 17 rfl) rfl
theorem q35 : (Jvm.Cond.fieldLink "LateJobAdmit" (53 : Nat) "LateJobAdmit" "admittedCount" "I") ∈ lw_all := lw_g (lw_at lw_m0 18 rfl) rfl
theorem q36 : (Jvm.Cond.fieldLink "LateJobAdmit" (56 : Nat) "LateJobAdmit" "admittedTime" "I") ∈ lw_all := lw_g (lw_at lw_m0 19 rfl) rfl
theorem q37 : (Jvm.Cond.lays "LateJobAdmit" "LateJobAdmit" "jobCount" "I") ∈ lw_all := lw_g (lw_at lw_m0 20 rfl) rfl
theorem q38 : (Jvm.Cond.soleField "LateJobAdmit" "jobCount") ∈ lw_all := lw_g (lw_at lw_m0 21 rfl) rfl
theorem q39 : (Jvm.Cond.laysFinal "LateJobAdmit" "LateJobAdmit" "length" "[B") ∈ lw_all := lw_g (lw_at lw_m0 22 rfl) rfl
theorem q40 : (Jvm.Cond.soleField "LateJobAdmit" "length") ∈ lw_all := lw_g (lw_at lw_m0 23 rfl) rfl
theorem q41 : (Jvm.Cond.laysFinal "LateJobAdmit" "LateJobAdmit" "deadline" "[S") ∈ lw_all := lw_g (lw_at lw_m0 24 rfl) rfl
theorem q42 : (Jvm.Cond.soleField "LateJobAdmit" "deadline") ∈ lw_all := lw_g (lw_at lw_m0 25 rfl) rfl
theorem q43 : (Jvm.Cond.laysFinal "LateJobAdmit" "LateJobAdmit" "firm" "[Z") ∈ lw_all := lw_g (lw_at lw_m0 26 rfl) rfl
theorem q44 : (Jvm.Cond.soleField "LateJobAdmit" "firm") ∈ lw_all := lw_g (lw_at lw_m0 27 rfl) rfl
theorem q45 : (Jvm.Cond.lays "LateJobAdmit" "LateJobAdmit" "ranked" "I") ∈ lw_all := lw_g (lw_at lw_m0 28 rfl) rfl
theorem q46 : (Jvm.Cond.soleField "LateJobAdmit" "ranked") ∈ lw_all := lw_g (lw_at lw_m0 29 rfl) rfl
theorem q47 : (Jvm.Cond.laysFinal "LateJobAdmit" "LateJobAdmit" "rank" "[B") ∈ lw_all := lw_g (lw_at lw_m0 30 rfl) rfl
theorem q48 : (Jvm.Cond.soleField "LateJobAdmit" "rank") ∈ lw_all := lw_g (lw_at lw_m0 31 rfl) rfl
theorem q49 : (Jvm.Cond.lays "LateJobAdmit" "LateJobAdmit" "admitted" "I") ∈ lw_all := lw_g (lw_at lw_m0 32 rfl) rfl
theorem q50 : (Jvm.Cond.soleField "LateJobAdmit" "admitted") ∈ lw_all := lw_g (lw_at lw_m0 33 rfl) rfl
theorem q51 : (Jvm.Cond.lays "LateJobAdmit" "LateJobAdmit" "admittedCount" "I") ∈ lw_all := lw_g (lw_at lw_m0 34 rfl) rfl
theorem q52 : (Jvm.Cond.soleField "LateJobAdmit" "admittedCount") ∈ lw_all := lw_g (lw_at lw_m0 35 rfl) rfl
theorem q53 : (Jvm.Cond.lays "LateJobAdmit" "LateJobAdmit" "admittedTime" "I") ∈ lw_all := lw_g (lw_at lw_m0 36 rfl) rfl
theorem q54 : (Jvm.Cond.soleField "LateJobAdmit" "admittedTime") ∈ lw_all := lw_g (lw_at lw_m0 37 rfl) rfl
theorem q55 : (Jvm.Cond.superclass "LateJobAdmit" "java/lang/Object") ∈ lw_all := lw_g (lw_at lw_m0 38 rfl) rfl
theorem q60 : (Jvm.Cond.instanceMethod ({ cls := "LateJobAdmit", name := "put", desc := "(IIZ)I" } : Jvm.MethodName)) ∈ lw_all := lw_g (lw_at lw_m0 43 rfl) rfl
theorem q61 : (Jvm.Cond.selects "LateJobAdmit" ({ cls := "LateJobAdmit", name := "put", desc := "(IIZ)I" } : Jvm.MethodName) ({ cls := "LateJobAdmit", name := "put", desc := "(IIZ)I" } : Jvm.MethodName)) ∈ lw_all := lw_g (lw_at lw_m0 44 rfl) rfl
theorem q62 : (Jvm.Cond.code ({ cls := "LateJobAdmit", name := "put", desc := "(IIZ)I" } : Jvm.MethodName) prog_1_method_2_code (5 : Nat) (Option.some Jvm.ClassFile.FieldType.int)) ∈ lw_all := lw_g (lw_at lw_m0 45 rfl) rfl
theorem q63 : (Jvm.Cond.methodLink "LateJobAdmit" (28 : Nat) ({ cls := "LateJobAdmit", name := "isJob", desc := "(II)Z" } : Jvm.MethodName)) ∈ lw_all := lw_g (lw_at lw_m0 46 rfl) rfl
theorem q64 : (Jvm.Cond.privateMethod ({ cls := "LateJobAdmit", name := "isJob", desc := "(II)Z" } : Jvm.MethodName)) ∈ lw_tbl := lw_at lw_m0 47 rfl
theorem q65 : (Jvm.Cond.instanceMethod ({ cls := "LateJobAdmit", name := "isJob", desc := "(II)Z" } : Jvm.MethodName)) ∈ lw_all := lw_g (lw_at lw_m0 48 rfl) rfl
theorem q66 : (Jvm.Cond.code ({ cls := "LateJobAdmit", name := "isJob", desc := "(II)Z" } : Jvm.MethodName) prog_1_method_6_code (3 : Nat) (Option.some Jvm.ClassFile.FieldType.boolean)) ∈ lw_all := lw_g (lw_at lw_m0 49 rfl) rfl
theorem q67 : (Jvm.Cond.methodLink "LateJobAdmit" (32 : Nat) ({ cls := "LateJobAdmit", name := "insert", desc := "(I)V" } : Jvm.MethodName)) ∈ lw_all := lw_g (lw_at lw_m0 50 rfl) rfl
theorem q68 : (Jvm.Cond.privateMethod ({ cls := "LateJobAdmit", name := "insert", desc := "(I)V" } : Jvm.MethodName)) ∈ lw_tbl := lw_at lw_m0 51 rfl
theorem q69 : (Jvm.Cond.instanceMethod ({ cls := "LateJobAdmit", name := "insert", desc := "(I)V" } : Jvm.MethodName)) ∈ lw_all := lw_g (lw_at lw_m0 52 rfl) rfl
theorem q70 : (Jvm.Cond.code ({ cls := "LateJobAdmit", name := "insert", desc := "(I)V" } : Jvm.MethodName) prog_1_method_8_code (3 : Nat) (Option.none : Option Jvm.ClassFile.FieldType)) ∈ lw_all := lw_g (lw_at lw_m0 53 rfl) rfl
theorem q72 : (Jvm.Cond.instanceMethod ({ cls := "LateJobAdmit", name := "drop", desc := "(I)I" } : Jvm.MethodName)) ∈ lw_all := lw_g (lw_at lw_m0 55 rfl) rfl
theorem q73 : (Jvm.Cond.selects "LateJobAdmit" ({ cls := "LateJobAdmit", name := "drop", desc := "(I)I" } : Jvm.MethodName) ({ cls := "LateJobAdmit", name := "drop", desc := "(I)I" } : Jvm.MethodName)) ∈ lw_all := lw_g (lw_at lw_m0 56 rfl) rfl
theorem q74 : (Jvm.Cond.code ({ cls := "LateJobAdmit", name := "drop", desc := "(I)I" } : Jvm.MethodName) prog_1_method_3_code (2 : Nat) (Option.some Jvm.ClassFile.FieldType.int)) ∈ lw_all := lw_g (lw_at lw_m0 57 rfl) rfl
theorem q75 : (Jvm.Cond.methodLink "LateJobAdmit" (36 : Nat) ({ cls := "LateJobAdmit", name := "isPlace", desc := "(I)Z" } : Jvm.MethodName)) ∈ lw_all := lw_g (lw_at lw_m0 58 rfl) rfl
theorem q76 : (Jvm.Cond.privateMethod ({ cls := "LateJobAdmit", name := "isPlace", desc := "(I)Z" } : Jvm.MethodName)) ∈ lw_tbl := lw_at lw_m0 59 rfl
theorem q77 : (Jvm.Cond.instanceMethod ({ cls := "LateJobAdmit", name := "isPlace", desc := "(I)Z" } : Jvm.MethodName)) ∈ lw_all := lw_g (lw_at lw_m0 60 rfl) rfl
theorem q78 : (Jvm.Cond.code ({ cls := "LateJobAdmit", name := "isPlace", desc := "(I)Z" } : Jvm.MethodName) prog_1_method_7_code (2 : Nat) (Option.some Jvm.ClassFile.FieldType.boolean)) ∈ lw_all := lw_g (lw_at lw_m0 61 rfl) rfl
theorem q79 : (Jvm.Cond.methodLink "LateJobAdmit" (40 : Nat) ({ cls := "LateJobAdmit", name := "withdraw", desc := "(I)V" } : Jvm.MethodName)) ∈ lw_all := lw_g (lw_at lw_m0 62 rfl) rfl
theorem q80 : (Jvm.Cond.privateMethod ({ cls := "LateJobAdmit", name := "withdraw", desc := "(I)V" } : Jvm.MethodName)) ∈ lw_tbl := lw_at lw_m0 63 rfl
theorem q81 : (Jvm.Cond.instanceMethod ({ cls := "LateJobAdmit", name := "withdraw", desc := "(I)V" } : Jvm.MethodName)) ∈ lw_all := lw_g (lw_at lw_m0 64 rfl) rfl
theorem q82 : (Jvm.Cond.code ({ cls := "LateJobAdmit", name := "withdraw", desc := "(I)V" } : Jvm.MethodName) prog_1_method_9_code (3 : Nat) (Option.none : Option Jvm.ClassFile.FieldType)) ∈ lw_all := lw_g (lw_at lw_m0 65 rfl) rfl
theorem q84 : (Jvm.Cond.instanceMethod ({ cls := "LateJobAdmit", name := "makeFirm", desc := "(IZ)Z" } : Jvm.MethodName)) ∈ lw_all := lw_g (lw_at lw_m0 67 rfl) rfl
theorem q85 : (Jvm.Cond.selects "LateJobAdmit" ({ cls := "LateJobAdmit", name := "makeFirm", desc := "(IZ)Z" } : Jvm.MethodName) ({ cls := "LateJobAdmit", name := "makeFirm", desc := "(IZ)Z" } : Jvm.MethodName)) ∈ lw_all := lw_g (lw_at lw_m0 68 rfl) rfl
theorem q86 : (Jvm.Cond.code ({ cls := "LateJobAdmit", name := "makeFirm", desc := "(IZ)Z" } : Jvm.MethodName) prog_1_method_4_code (3 : Nat) (Option.some Jvm.ClassFile.FieldType.boolean)) ∈ lw_all := lw_g (lw_at lw_m0 69 rfl) rfl
theorem q88 : (Jvm.Cond.instanceMethod ({ cls := "LateJobAdmit", name := "jobs", desc := "()I" } : Jvm.MethodName)) ∈ lw_all := lw_g (lw_at lw_m0 71 rfl) rfl
theorem q89 : (Jvm.Cond.selects "LateJobAdmit" ({ cls := "LateJobAdmit", name := "jobs", desc := "()I" } : Jvm.MethodName) ({ cls := "LateJobAdmit", name := "jobs", desc := "()I" } : Jvm.MethodName)) ∈ lw_all := lw_g (lw_at lw_m0 72 rfl) rfl
theorem q90 : (Jvm.Cond.code ({ cls := "LateJobAdmit", name := "jobs", desc := "()I" } : Jvm.MethodName) prog_1_method_5_code (1 : Nat) (Option.some Jvm.ClassFile.FieldType.int)) ∈ lw_all := lw_g (lw_at lw_m0 73 rfl) rfl
theorem q92 : (Jvm.Cond.instanceMethod ({ cls := "LateJobAdmit", name := "feasible", desc := "(I)Z" } : Jvm.MethodName)) ∈ lw_all := lw_g (lw_at lw_m0 75 rfl) rfl
theorem q93 : (Jvm.Cond.selects "LateJobAdmit" ({ cls := "LateJobAdmit", name := "feasible", desc := "(I)Z" } : Jvm.MethodName) ({ cls := "LateJobAdmit", name := "feasible", desc := "(I)Z" } : Jvm.MethodName)) ∈ lw_all := lw_g (lw_at lw_m0 76 rfl) rfl
theorem q94 : (Jvm.Cond.code ({ cls := "LateJobAdmit", name := "feasible", desc := "(I)Z" } : Jvm.MethodName) prog_1_method_10_code (3 : Nat) (Option.some Jvm.ClassFile.FieldType.boolean)) ∈ lw_all := lw_g (lw_at lw_m0 77 rfl) rfl
theorem q95 : (Jvm.Cond.methodLink "LateJobAdmit" (46 : Nat) ({ cls := "LateJobAdmit", name := "inTime", desc := "(I)Z" } : Jvm.MethodName)) ∈ lw_all := lw_g (lw_at lw_m0 78 rfl) rfl
theorem q96 : (Jvm.Cond.privateMethod ({ cls := "LateJobAdmit", name := "inTime", desc := "(I)Z" } : Jvm.MethodName)) ∈ lw_tbl := lw_at lw_m0 79 rfl
theorem q97 : (Jvm.Cond.instanceMethod ({ cls := "LateJobAdmit", name := "inTime", desc := "(I)Z" } : Jvm.MethodName)) ∈ lw_all := lw_g (lw_at lw_m0 80 rfl) rfl
theorem q98 : (Jvm.Cond.code ({ cls := "LateJobAdmit", name := "inTime", desc := "(I)Z" } : Jvm.MethodName) prog_1_method_16_code (5 : Nat) (Option.some Jvm.ClassFile.FieldType.boolean)) ∈ lw_all := lw_g (lw_at lw_m0 81 rfl) rfl
theorem q100 : (Jvm.Cond.instanceMethod ({ cls := "LateJobAdmit", name := "mostInTime", desc := "()I" } : Jvm.MethodName)) ∈ lw_all := lw_g (lw_at lw_m0 83 rfl) rfl
theorem q101 : (Jvm.Cond.selects "LateJobAdmit" ({ cls := "LateJobAdmit", name := "mostInTime", desc := "()I" } : Jvm.MethodName) ({ cls := "LateJobAdmit", name := "mostInTime", desc := "()I" } : Jvm.MethodName)) ∈ lw_all := lw_g (lw_at lw_m0 84 rfl) rfl
theorem q102 : (Jvm.Cond.code ({ cls := "LateJobAdmit", name := "mostInTime", desc := "()I" } : Jvm.MethodName) prog_1_method_11_code (1 : Nat) (Option.some Jvm.ClassFile.FieldType.int)) ∈ lw_all := lw_g (lw_at lw_m0 85 rfl) rfl
theorem q103 : (Jvm.Cond.methodLink "LateJobAdmit" (49 : Nat) yX0_admit) ∈ lw_all := lw_g (lw_at lw_m0 86 rfl) rfl
theorem q104 : (Jvm.Cond.privateMethod yX0_admit) ∈ lw_tbl := lw_at lw_m0 87 rfl
theorem q105 : (Jvm.Cond.instanceMethod yX0_admit) ∈ lw_all := lw_g (lw_at lw_m0 88 rfl) rfl
theorem q106 : (Jvm.Cond.code yX0_admit prog_1_method_17_code (4 : Nat) (Option.some Jvm.ClassFile.FieldType.boolean)) ∈ lw_all := lw_g (lw_at lw_m0 89 rfl) rfl
theorem q107 : (Jvm.Cond.methodLink "LateJobAdmit" (66 : Nat) ({ cls := "LateJobAdmit", name := "giveUpLongest", desc := "()Z" } : Jvm.MethodName)) ∈ lw_all := lw_g (lw_at lw_m0 90 rfl) rfl
theorem q108 : (Jvm.Cond.privateMethod ({ cls := "LateJobAdmit", name := "giveUpLongest", desc := "()Z" } : Jvm.MethodName)) ∈ lw_tbl := lw_at lw_m0 91 rfl
theorem q109 : (Jvm.Cond.instanceMethod ({ cls := "LateJobAdmit", name := "giveUpLongest", desc := "()Z" } : Jvm.MethodName)) ∈ lw_all := lw_g (lw_at lw_m0 92 rfl) rfl
theorem q110 : (Jvm.Cond.code ({ cls := "LateJobAdmit", name := "giveUpLongest", desc := "()Z" } : Jvm.MethodName) prog_1_method_18_code (3 : Nat) (Option.some Jvm.ClassFile.FieldType.boolean)) ∈ lw_all := lw_g (lw_at lw_m0 93 rfl) rfl
theorem q112 : (Jvm.Cond.instanceMethod ({ cls := "LateJobAdmit", name := "leastTime", desc := "()I" } : Jvm.MethodName)) ∈ lw_all := lw_g (lw_at lw_m0 95 rfl) rfl
theorem q113 : (Jvm.Cond.selects "LateJobAdmit" ({ cls := "LateJobAdmit", name := "leastTime", desc := "()I" } : Jvm.MethodName) ({ cls := "LateJobAdmit", name := "leastTime", desc := "()I" } : Jvm.MethodName)) ∈ lw_all := lw_g (lw_at lw_m0 96 rfl) rfl
theorem q114 : (Jvm.Cond.code ({ cls := "LateJobAdmit", name := "leastTime", desc := "()I" } : Jvm.MethodName) prog_1_method_12_code (1 : Nat) (Option.some Jvm.ClassFile.FieldType.int)) ∈ lw_all := lw_g (lw_at lw_m0 97 rfl) rfl
theorem q116 : (Jvm.Cond.instanceMethod ({ cls := "LateJobAdmit", name := "affordable", desc := "(I)Z" } : Jvm.MethodName)) ∈ lw_all := lw_g (lw_at lw_m0 99 rfl) rfl
theorem q117 : (Jvm.Cond.selects "LateJobAdmit" ({ cls := "LateJobAdmit", name := "affordable", desc := "(I)Z" } : Jvm.MethodName) ({ cls := "LateJobAdmit", name := "affordable", desc := "(I)Z" } : Jvm.MethodName)) ∈ lw_all := lw_g (lw_at lw_m0 100 rfl) rfl
theorem q118 : (Jvm.Cond.code ({ cls := "LateJobAdmit", name := "affordable", desc := "(I)Z" } : Jvm.MethodName) prog_1_method_13_code (5 : Nat) (Option.some Jvm.ClassFile.FieldType.boolean)) ∈ lw_all := lw_g (lw_at lw_m0 101 rfl) rfl
theorem q120 : (Jvm.Cond.instanceMethod ({ cls := "LateJobAdmit", name := "welcome", desc := "(II)Z" } : Jvm.MethodName)) ∈ lw_all := lw_g (lw_at lw_m0 103 rfl) rfl
theorem q121 : (Jvm.Cond.selects "LateJobAdmit" ({ cls := "LateJobAdmit", name := "welcome", desc := "(II)Z" } : Jvm.MethodName) ({ cls := "LateJobAdmit", name := "welcome", desc := "(II)Z" } : Jvm.MethodName)) ∈ lw_all := lw_g (lw_at lw_m0 104 rfl) rfl
theorem q122 : (Jvm.Cond.code ({ cls := "LateJobAdmit", name := "welcome", desc := "(II)Z" } : Jvm.MethodName) prog_1_method_14_code (5 : Nat) (Option.some Jvm.ClassFile.FieldType.boolean)) ∈ lw_all := lw_g (lw_at lw_m0 105 rfl) rfl
theorem q124 : (Jvm.Cond.instanceMethod ({ cls := "LateJobAdmit", name := "elapse", desc := "(I)I" } : Jvm.MethodName)) ∈ lw_all := lw_g (lw_at lw_m0 107 rfl) rfl
theorem q125 : (Jvm.Cond.selects "LateJobAdmit" ({ cls := "LateJobAdmit", name := "elapse", desc := "(I)I" } : Jvm.MethodName) ({ cls := "LateJobAdmit", name := "elapse", desc := "(I)I" } : Jvm.MethodName)) ∈ lw_all := lw_g (lw_at lw_m0 108 rfl) rfl
theorem q126 : (Jvm.Cond.code ({ cls := "LateJobAdmit", name := "elapse", desc := "(I)I" } : Jvm.MethodName) prog_1_method_15_code (3 : Nat) (Option.some Jvm.ClassFile.FieldType.int)) ∈ lw_all := lw_g (lw_at lw_m0 109 rfl) rfl
theorem q127 : (Jvm.Cond.methodLink "LateJobAdmit" (59 : Nat) ({ cls := "LateJobAdmit", name := "drop", desc := "(I)I" } : Jvm.MethodName)) ∈ lw_all := lw_g (lw_at lw_m0 110 rfl) rfl
theorem in_X0 : ∀ w ∈ wsX00, w ∈ lw_all := lw_in wsX00 [37, 39, 41, 43, 45, 47, 49, 51, 53] (by decide +kernel) (by decide +kernel)
end
section
/-! LateJobAdmitModel -/
set_option maxRecDepth 100000
def RX1 : String := "LateJobAdmitModel"
def TX1 : u_T := fun k => match k with
  | 0 => ("LateJobAdmitModel", "length", "[I", false)
  | 1 => ("LateJobAdmitModel", "deadline", "[I", false)
  | 2 => ("LateJobAdmitModel", "firm", "[Z", false)
  | 3 => ("LateJobAdmitModel", "good", "[Z", false)
  | _ => ("LateJobAdmitModel", "joined", "[Z", false)
def tyX1 : Nat → FieldType := fun k => match k with
  | 0 => .array .int
  | 1 => .array .int
  | 2 => .array .boolean
  | 3 => .array .boolean
  | _ => .array .boolean
abbrev wsX10 : List Cond := u_ws RX1 TX1 5
theorem nmX1 : ∀ a, a < 5 → ∀ b, b < 5 → a ≠ b → (TX1 a).2.1 ≠ (TX1 b).2.1 := by decide +kernel
theorem tyX1_ok : ∀ k, k < 5 → parseFieldDescriptor (TX1 k).2.2.1 = some (tyX1 k) := by decide +kernel
abbrev cX1_init : ByteArray := prog_3_method_1_code
def yX1_init : MethodName := ⟨RX1, "<init>", "()V"⟩
theorem dX1_init_0 : decode cX1_init 0 = .ok (.aload_n 0, 1) := by decide +kernel
theorem dX1_init_1 : decode cX1_init 1 = .ok (.invokespecial 1, 3) := by decide +kernel
theorem dX1_init_4 : decode cX1_init 4 = .ok (.aload_n 0, 1) := by decide +kernel
theorem dX1_init_5 : decode cX1_init 5 = .ok (.bipush 10, 2) := by decide +kernel
theorem dX1_init_7 : decode cX1_init 7 = .ok (.newarray .int, 2) := by decide +kernel
theorem dX1_init_9 : decode cX1_init 9 = .ok (.putfield 7, 3) := by decide +kernel
theorem dX1_init_12 : decode cX1_init 12 = .ok (.aload_n 0, 1) := by decide +kernel
theorem dX1_init_13 : decode cX1_init 13 = .ok (.bipush 10, 2) := by decide +kernel
theorem dX1_init_15 : decode cX1_init 15 = .ok (.newarray .int, 2) := by decide +kernel
theorem dX1_init_17 : decode cX1_init 17 = .ok (.putfield 13, 3) := by decide +kernel
theorem dX1_init_20 : decode cX1_init 20 = .ok (.aload_n 0, 1) := by decide +kernel
theorem dX1_init_21 : decode cX1_init 21 = .ok (.bipush 10, 2) := by decide +kernel
theorem dX1_init_23 : decode cX1_init 23 = .ok (.newarray .boolean, 2) := by decide +kernel
theorem dX1_init_25 : decode cX1_init 25 = .ok (.putfield 16, 3) := by decide +kernel
theorem dX1_init_28 : decode cX1_init 28 = .ok (.aload_n 0, 1) := by decide +kernel
theorem dX1_init_29 : decode cX1_init 29 = .ok (.sipush 1024, 3) := by decide +kernel
theorem dX1_init_32 : decode cX1_init 32 = .ok (.newarray .boolean, 2) := by decide +kernel
theorem dX1_init_34 : decode cX1_init 34 = .ok (.putfield 20, 3) := by decide +kernel
theorem dX1_init_37 : decode cX1_init 37 = .ok (.aload_n 0, 1) := by decide +kernel
theorem dX1_init_38 : decode cX1_init 38 = .ok (.sipush 1024, 3) := by decide +kernel
theorem dX1_init_41 : decode cX1_init 41 = .ok (.newarray .boolean, 2) := by decide +kernel
theorem dX1_init_43 : decode cX1_init 43 = .ok (.putfield 23, 3) := by decide +kernel
theorem dX1_init_46 : decode cX1_init 46 = .ok (.return_, 1) := by decide +kernel
abbrev cX1_put : ByteArray := prog_3_method_5_code
def yX1_put : MethodName := ⟨RX1, "put", "(IIZ)I"⟩
theorem dX1_put_0 : decode cX1_put 0 = .ok (.iconst (-1), 1) := by decide +kernel
theorem dX1_put_1 : decode cX1_put 1 = .ok (.istore 4, 2) := by decide +kernel
theorem dX1_put_3 : decode cX1_put 3 = .ok (.bipush 9, 2) := by decide +kernel
theorem dX1_put_5 : decode cX1_put 5 = .ok (.istore 5, 2) := by decide +kernel
theorem dX1_put_7 : decode cX1_put 7 = .ok (.iload 5, 2) := by decide +kernel
theorem dX1_put_9 : decode cX1_put 9 = .ok (.ifCond .lt 23, 3) := by decide +kernel
theorem dX1_put_12 : decode cX1_put 12 = .ok (.aload_n 0, 1) := by decide +kernel
theorem dX1_put_13 : decode cX1_put 13 = .ok (.getfield 7, 3) := by decide +kernel
theorem dX1_put_16 : decode cX1_put 16 = .ok (.iload 5, 2) := by decide +kernel
theorem dX1_put_18 : decode cX1_put 18 = .ok (.iaload, 1) := by decide +kernel
theorem dX1_put_19 : decode cX1_put 19 = .ok (.ifCond .ne 7, 3) := by decide +kernel
theorem dX1_put_22 : decode cX1_put 22 = .ok (.iload 5, 2) := by decide +kernel
theorem dX1_put_24 : decode cX1_put 24 = .ok (.istore 4, 2) := by decide +kernel
theorem dX1_put_26 : decode cX1_put 26 = .ok (.iinc 5 (-1), 3) := by decide +kernel
theorem dX1_put_29 : decode cX1_put 29 = .ok (.goto (-22), 3) := by decide +kernel
theorem dX1_put_32 : decode cX1_put 32 = .ok (.iload 4, 2) := by decide +kernel
theorem dX1_put_34 : decode cX1_put 34 = .ok (.ifCond .ge 6, 3) := by decide +kernel
theorem dX1_put_37 : decode cX1_put 37 = .ok (.bipush (-2), 2) := by decide +kernel
theorem dX1_put_39 : decode cX1_put 39 = .ok (.ireturn, 1) := by decide +kernel
theorem dX1_put_40 : decode cX1_put 40 = .ok (.aload_n 0, 1) := by decide +kernel
theorem dX1_put_41 : decode cX1_put 41 = .ok (.iload_n 1, 1) := by decide +kernel
theorem dX1_put_42 : decode cX1_put 42 = .ok (.iload_n 2, 1) := by decide +kernel
theorem dX1_put_43 : decode cX1_put 43 = .ok (.invokevirtual 26, 3) := by decide +kernel
theorem dX1_put_46 : decode cX1_put 46 = .ok (.ifCond .ne 5, 3) := by decide +kernel
theorem dX1_put_49 : decode cX1_put 49 = .ok (.iconst (-1), 1) := by decide +kernel
theorem dX1_put_50 : decode cX1_put 50 = .ok (.ireturn, 1) := by decide +kernel
theorem dX1_put_51 : decode cX1_put 51 = .ok (.aload_n 0, 1) := by decide +kernel
theorem dX1_put_52 : decode cX1_put 52 = .ok (.getfield 7, 3) := by decide +kernel
theorem dX1_put_55 : decode cX1_put 55 = .ok (.iload 4, 2) := by decide +kernel
theorem dX1_put_57 : decode cX1_put 57 = .ok (.iload_n 1, 1) := by decide +kernel
theorem dX1_put_58 : decode cX1_put 58 = .ok (.iastore, 1) := by decide +kernel
theorem dX1_put_59 : decode cX1_put 59 = .ok (.aload_n 0, 1) := by decide +kernel
theorem dX1_put_60 : decode cX1_put 60 = .ok (.getfield 13, 3) := by decide +kernel
theorem dX1_put_63 : decode cX1_put 63 = .ok (.iload 4, 2) := by decide +kernel
theorem dX1_put_65 : decode cX1_put 65 = .ok (.iload_n 2, 1) := by decide +kernel
theorem dX1_put_66 : decode cX1_put 66 = .ok (.iastore, 1) := by decide +kernel
theorem dX1_put_67 : decode cX1_put 67 = .ok (.aload_n 0, 1) := by decide +kernel
theorem dX1_put_68 : decode cX1_put 68 = .ok (.getfield 16, 3) := by decide +kernel
theorem dX1_put_71 : decode cX1_put 71 = .ok (.iload 4, 2) := by decide +kernel
theorem dX1_put_73 : decode cX1_put 73 = .ok (.iload_n 3, 1) := by decide +kernel
theorem dX1_put_74 : decode cX1_put 74 = .ok (.bastore, 1) := by decide +kernel
theorem dX1_put_75 : decode cX1_put 75 = .ok (.iload 4, 2) := by decide +kernel
theorem dX1_put_77 : decode cX1_put 77 = .ok (.ireturn, 1) := by decide +kernel
abbrev cX1_fits : ByteArray := prog_3_method_4_code
def yX1_fits : MethodName := ⟨RX1, "fits", "(II)Z"⟩
theorem dX1_fits_0 : decode cX1_fits 0 = .ok (.iload_n 1, 1) := by decide +kernel
theorem dX1_fits_1 : decode cX1_fits 1 = .ok (.iconst 1, 1) := by decide +kernel
theorem dX1_fits_2 : decode cX1_fits 2 = .ok (.if_icmp .lt 24, 3) := by decide +kernel
theorem dX1_fits_5 : decode cX1_fits 5 = .ok (.iload_n 1, 1) := by decide +kernel
theorem dX1_fits_6 : decode cX1_fits 6 = .ok (.bipush 50, 2) := by decide +kernel
theorem dX1_fits_8 : decode cX1_fits 8 = .ok (.if_icmp .gt 18, 3) := by decide +kernel
theorem dX1_fits_11 : decode cX1_fits 11 = .ok (.iload_n 2, 1) := by decide +kernel
theorem dX1_fits_12 : decode cX1_fits 12 = .ok (.ifCond .lt 14, 3) := by decide +kernel
theorem dX1_fits_15 : decode cX1_fits 15 = .ok (.iload_n 2, 1) := by decide +kernel
theorem dX1_fits_16 : decode cX1_fits 16 = .ok (.sipush 200, 3) := by decide +kernel
theorem dX1_fits_19 : decode cX1_fits 19 = .ok (.if_icmp .gt 7, 3) := by decide +kernel
theorem dX1_fits_22 : decode cX1_fits 22 = .ok (.iconst 1, 1) := by decide +kernel
theorem dX1_fits_23 : decode cX1_fits 23 = .ok (.goto 4, 3) := by decide +kernel
theorem dX1_fits_26 : decode cX1_fits 26 = .ok (.iconst 0, 1) := by decide +kernel
theorem dX1_fits_27 : decode cX1_fits 27 = .ok (.ireturn, 1) := by decide +kernel
abbrev cX1_drop : ByteArray := prog_3_method_6_code
def yX1_drop : MethodName := ⟨RX1, "drop", "(I)I"⟩
theorem dX1_drop_0 : decode cX1_drop 0 = .ok (.aload_n 0, 1) := by decide +kernel
theorem dX1_drop_1 : decode cX1_drop 1 = .ok (.iload_n 1, 1) := by decide +kernel
theorem dX1_drop_2 : decode cX1_drop 2 = .ok (.invokevirtual 30, 3) := by decide +kernel
theorem dX1_drop_5 : decode cX1_drop 5 = .ok (.ifCond .ne 5, 3) := by decide +kernel
theorem dX1_drop_8 : decode cX1_drop 8 = .ok (.iconst (-1), 1) := by decide +kernel
theorem dX1_drop_9 : decode cX1_drop 9 = .ok (.ireturn, 1) := by decide +kernel
theorem dX1_drop_10 : decode cX1_drop 10 = .ok (.aload_n 0, 1) := by decide +kernel
theorem dX1_drop_11 : decode cX1_drop 11 = .ok (.getfield 7, 3) := by decide +kernel
theorem dX1_drop_14 : decode cX1_drop 14 = .ok (.iload_n 1, 1) := by decide +kernel
theorem dX1_drop_15 : decode cX1_drop 15 = .ok (.iconst 0, 1) := by decide +kernel
theorem dX1_drop_16 : decode cX1_drop 16 = .ok (.iastore, 1) := by decide +kernel
theorem dX1_drop_17 : decode cX1_drop 17 = .ok (.aload_n 0, 1) := by decide +kernel
theorem dX1_drop_18 : decode cX1_drop 18 = .ok (.invokevirtual 34, 3) := by decide +kernel
theorem dX1_drop_21 : decode cX1_drop 21 = .ok (.ireturn, 1) := by decide +kernel
abbrev cX1_isJob : ByteArray := prog_3_method_2_code
def yX1_isJob : MethodName := ⟨RX1, "isJob", "(I)Z"⟩
theorem dX1_isJob_0 : decode cX1_isJob 0 = .ok (.iload_n 1, 1) := by decide +kernel
theorem dX1_isJob_1 : decode cX1_isJob 1 = .ok (.ifCond .lt 22, 3) := by decide +kernel
theorem dX1_isJob_4 : decode cX1_isJob 4 = .ok (.iload_n 1, 1) := by decide +kernel
theorem dX1_isJob_5 : decode cX1_isJob 5 = .ok (.bipush 9, 2) := by decide +kernel
theorem dX1_isJob_7 : decode cX1_isJob 7 = .ok (.if_icmp .gt 16, 3) := by decide +kernel
theorem dX1_isJob_10 : decode cX1_isJob 10 = .ok (.aload_n 0, 1) := by decide +kernel
theorem dX1_isJob_11 : decode cX1_isJob 11 = .ok (.getfield 7, 3) := by decide +kernel
theorem dX1_isJob_14 : decode cX1_isJob 14 = .ok (.iload_n 1, 1) := by decide +kernel
theorem dX1_isJob_15 : decode cX1_isJob 15 = .ok (.iaload, 1) := by decide +kernel
theorem dX1_isJob_16 : decode cX1_isJob 16 = .ok (.ifCond .le 7, 3) := by decide +kernel
theorem dX1_isJob_19 : decode cX1_isJob 19 = .ok (.iconst 1, 1) := by decide +kernel
theorem dX1_isJob_20 : decode cX1_isJob 20 = .ok (.goto 4, 3) := by decide +kernel
theorem dX1_isJob_23 : decode cX1_isJob 23 = .ok (.iconst 0, 1) := by decide +kernel
theorem dX1_isJob_24 : decode cX1_isJob 24 = .ok (.ireturn, 1) := by decide +kernel
abbrev cX1_jobs : ByteArray := prog_3_method_8_code
def yX1_jobs : MethodName := ⟨RX1, "jobs", "()I"⟩
theorem dX1_jobs_0 : decode cX1_jobs 0 = .ok (.iconst 0, 1) := by decide +kernel
theorem dX1_jobs_1 : decode cX1_jobs 1 = .ok (.istore_n 1, 1) := by decide +kernel
theorem dX1_jobs_2 : decode cX1_jobs 2 = .ok (.iconst 0, 1) := by decide +kernel
theorem dX1_jobs_3 : decode cX1_jobs 3 = .ok (.istore_n 2, 1) := by decide +kernel
theorem dX1_jobs_4 : decode cX1_jobs 4 = .ok (.iload_n 2, 1) := by decide +kernel
theorem dX1_jobs_5 : decode cX1_jobs 5 = .ok (.bipush 10, 2) := by decide +kernel
theorem dX1_jobs_7 : decode cX1_jobs 7 = .ok (.if_icmp .ge 21, 3) := by decide +kernel
theorem dX1_jobs_10 : decode cX1_jobs 10 = .ok (.aload_n 0, 1) := by decide +kernel
theorem dX1_jobs_11 : decode cX1_jobs 11 = .ok (.getfield 7, 3) := by decide +kernel
theorem dX1_jobs_14 : decode cX1_jobs 14 = .ok (.iload_n 2, 1) := by decide +kernel
theorem dX1_jobs_15 : decode cX1_jobs 15 = .ok (.iaload, 1) := by decide +kernel
theorem dX1_jobs_16 : decode cX1_jobs 16 = .ok (.ifCond .le 6, 3) := by decide +kernel
theorem dX1_jobs_19 : decode cX1_jobs 19 = .ok (.iinc 1 1, 3) := by decide +kernel
theorem dX1_jobs_22 : decode cX1_jobs 22 = .ok (.iinc 2 1, 3) := by decide +kernel
theorem dX1_jobs_25 : decode cX1_jobs 25 = .ok (.goto (-21), 3) := by decide +kernel
theorem dX1_jobs_28 : decode cX1_jobs 28 = .ok (.iload_n 1, 1) := by decide +kernel
theorem dX1_jobs_29 : decode cX1_jobs 29 = .ok (.ireturn, 1) := by decide +kernel
abbrev cX1_makeFirm : ByteArray := prog_3_method_7_code
def yX1_makeFirm : MethodName := ⟨RX1, "makeFirm", "(IZ)Z"⟩
theorem dX1_makeFirm_0 : decode cX1_makeFirm 0 = .ok (.aload_n 0, 1) := by decide +kernel
theorem dX1_makeFirm_1 : decode cX1_makeFirm 1 = .ok (.iload_n 1, 1) := by decide +kernel
theorem dX1_makeFirm_2 : decode cX1_makeFirm 2 = .ok (.invokevirtual 30, 3) := by decide +kernel
theorem dX1_makeFirm_5 : decode cX1_makeFirm 5 = .ok (.ifCond .ne 5, 3) := by decide +kernel
theorem dX1_makeFirm_8 : decode cX1_makeFirm 8 = .ok (.iconst 0, 1) := by decide +kernel
theorem dX1_makeFirm_9 : decode cX1_makeFirm 9 = .ok (.ireturn, 1) := by decide +kernel
theorem dX1_makeFirm_10 : decode cX1_makeFirm 10 = .ok (.aload_n 0, 1) := by decide +kernel
theorem dX1_makeFirm_11 : decode cX1_makeFirm 11 = .ok (.getfield 16, 3) := by decide +kernel
theorem dX1_makeFirm_14 : decode cX1_makeFirm 14 = .ok (.iload_n 1, 1) := by decide +kernel
theorem dX1_makeFirm_15 : decode cX1_makeFirm 15 = .ok (.iload_n 2, 1) := by decide +kernel
theorem dX1_makeFirm_16 : decode cX1_makeFirm 16 = .ok (.bastore, 1) := by decide +kernel
theorem dX1_makeFirm_17 : decode cX1_makeFirm 17 = .ok (.iconst 1, 1) := by decide +kernel
theorem dX1_makeFirm_18 : decode cX1_makeFirm 18 = .ok (.ireturn, 1) := by decide +kernel
abbrev cX1_feasible : ByteArray := prog_3_method_13_code
def yX1_feasible : MethodName := ⟨RX1, "feasible", "(I)Z"⟩
theorem dX1_feasible_0 : decode cX1_feasible 0 = .ok (.iload_n 1, 1) := by decide +kernel
theorem dX1_feasible_1 : decode cX1_feasible 1 = .ok (.ifCond .lt 10, 3) := by decide +kernel
theorem dX1_feasible_4 : decode cX1_feasible 4 = .ok (.iload_n 1, 1) := by decide +kernel
theorem dX1_feasible_5 : decode cX1_feasible 5 = .ok (.sipush 1023, 3) := by decide +kernel
theorem dX1_feasible_8 : decode cX1_feasible 8 = .ok (.if_icmp .le 5, 3) := by decide +kernel
theorem dX1_feasible_11 : decode cX1_feasible 11 = .ok (.iconst 0, 1) := by decide +kernel
theorem dX1_feasible_12 : decode cX1_feasible 12 = .ok (.ireturn, 1) := by decide +kernel
theorem dX1_feasible_13 : decode cX1_feasible 13 = .ok (.aload_n 0, 1) := by decide +kernel
theorem dX1_feasible_14 : decode cX1_feasible 14 = .ok (.invokevirtual 48, 3) := by decide +kernel
theorem dX1_feasible_17 : decode cX1_feasible 17 = .ok (.aload_n 0, 1) := by decide +kernel
theorem dX1_feasible_18 : decode cX1_feasible 18 = .ok (.getfield 20, 3) := by decide +kernel
theorem dX1_feasible_21 : decode cX1_feasible 21 = .ok (.iload_n 1, 1) := by decide +kernel
theorem dX1_feasible_22 : decode cX1_feasible 22 = .ok (.baload, 1) := by decide +kernel
theorem dX1_feasible_23 : decode cX1_feasible 23 = .ok (.ireturn, 1) := by decide +kernel
abbrev cX1_findGood : ByteArray := prog_3_method_12_code
def yX1_findGood : MethodName := ⟨RX1, "findGood", "()V"⟩
theorem dX1_findGood_0 : decode cX1_findGood 0 = .ok (.aload_n 0, 1) := by decide +kernel
theorem dX1_findGood_1 : decode cX1_findGood 1 = .ok (.getfield 20, 3) := by decide +kernel
theorem dX1_findGood_4 : decode cX1_findGood 4 = .ok (.iconst 0, 1) := by decide +kernel
theorem dX1_findGood_5 : decode cX1_findGood 5 = .ok (.iconst 1, 1) := by decide +kernel
theorem dX1_findGood_6 : decode cX1_findGood 6 = .ok (.bastore, 1) := by decide +kernel
theorem dX1_findGood_7 : decode cX1_findGood 7 = .ok (.iconst 1, 1) := by decide +kernel
theorem dX1_findGood_8 : decode cX1_findGood 8 = .ok (.istore_n 1, 1) := by decide +kernel
theorem dX1_findGood_9 : decode cX1_findGood 9 = .ok (.iload_n 1, 1) := by decide +kernel
theorem dX1_findGood_10 : decode cX1_findGood 10 = .ok (.sipush 1024, 3) := by decide +kernel
theorem dX1_findGood_13 : decode cX1_findGood 13 = .ok (.if_icmp .ge 20, 3) := by decide +kernel
theorem dX1_findGood_16 : decode cX1_findGood 16 = .ok (.aload_n 0, 1) := by decide +kernel
theorem dX1_findGood_17 : decode cX1_findGood 17 = .ok (.getfield 20, 3) := by decide +kernel
theorem dX1_findGood_20 : decode cX1_findGood 20 = .ok (.iload_n 1, 1) := by decide +kernel
theorem dX1_findGood_21 : decode cX1_findGood 21 = .ok (.aload_n 0, 1) := by decide +kernel
theorem dX1_findGood_22 : decode cX1_findGood 22 = .ok (.iload_n 1, 1) := by decide +kernel
theorem dX1_findGood_23 : decode cX1_findGood 23 = .ok (.invokevirtual 45, 3) := by decide +kernel
theorem dX1_findGood_26 : decode cX1_findGood 26 = .ok (.bastore, 1) := by decide +kernel
theorem dX1_findGood_27 : decode cX1_findGood 27 = .ok (.iinc 1 1, 3) := by decide +kernel
theorem dX1_findGood_30 : decode cX1_findGood 30 = .ok (.goto (-21), 3) := by decide +kernel
theorem dX1_findGood_33 : decode cX1_findGood 33 = .ok (.return_, 1) := by decide +kernel
abbrev cX1_hasLast : ByteArray := prog_3_method_11_code
def yX1_hasLast : MethodName := ⟨RX1, "hasLast", "(I)Z"⟩
theorem dX1_hasLast_0 : decode cX1_hasLast 0 = .ok (.aload_n 0, 1) := by decide +kernel
theorem dX1_hasLast_1 : decode cX1_hasLast 1 = .ok (.iload_n 1, 1) := by decide +kernel
theorem dX1_hasLast_2 : decode cX1_hasLast 2 = .ok (.invokevirtual 41, 3) := by decide +kernel
theorem dX1_hasLast_5 : decode cX1_hasLast 5 = .ok (.istore_n 2, 1) := by decide +kernel
theorem dX1_hasLast_6 : decode cX1_hasLast 6 = .ok (.iconst 0, 1) := by decide +kernel
theorem dX1_hasLast_7 : decode cX1_hasLast 7 = .ok (.istore_n 3, 1) := by decide +kernel
theorem dX1_hasLast_8 : decode cX1_hasLast 8 = .ok (.iload_n 3, 1) := by decide +kernel
theorem dX1_hasLast_9 : decode cX1_hasLast 9 = .ok (.bipush 10, 2) := by decide +kernel
theorem dX1_hasLast_11 : decode cX1_hasLast 11 = .ok (.if_icmp .ge 54, 3) := by decide +kernel
theorem dX1_hasLast_14 : decode cX1_hasLast 14 = .ok (.aload_n 0, 1) := by decide +kernel
theorem dX1_hasLast_15 : decode cX1_hasLast 15 = .ok (.iload_n 1, 1) := by decide +kernel
theorem dX1_hasLast_16 : decode cX1_hasLast 16 = .ok (.iload_n 3, 1) := by decide +kernel
theorem dX1_hasLast_17 : decode cX1_hasLast 17 = .ok (.invokevirtual 38, 3) := by decide +kernel
theorem dX1_hasLast_20 : decode cX1_hasLast 20 = .ok (.ifCond .eq 39, 3) := by decide +kernel
theorem dX1_hasLast_23 : decode cX1_hasLast 23 = .ok (.aload_n 0, 1) := by decide +kernel
theorem dX1_hasLast_24 : decode cX1_hasLast 24 = .ok (.getfield 7, 3) := by decide +kernel
theorem dX1_hasLast_27 : decode cX1_hasLast 27 = .ok (.iload_n 3, 1) := by decide +kernel
theorem dX1_hasLast_28 : decode cX1_hasLast 28 = .ok (.iaload, 1) := by decide +kernel
theorem dX1_hasLast_29 : decode cX1_hasLast 29 = .ok (.ifCond .le 30, 3) := by decide +kernel
theorem dX1_hasLast_32 : decode cX1_hasLast 32 = .ok (.iload_n 2, 1) := by decide +kernel
theorem dX1_hasLast_33 : decode cX1_hasLast 33 = .ok (.aload_n 0, 1) := by decide +kernel
theorem dX1_hasLast_34 : decode cX1_hasLast 34 = .ok (.getfield 13, 3) := by decide +kernel
theorem dX1_hasLast_37 : decode cX1_hasLast 37 = .ok (.iload_n 3, 1) := by decide +kernel
theorem dX1_hasLast_38 : decode cX1_hasLast 38 = .ok (.iaload, 1) := by decide +kernel
theorem dX1_hasLast_39 : decode cX1_hasLast 39 = .ok (.if_icmp .gt 20, 3) := by decide +kernel
theorem dX1_hasLast_42 : decode cX1_hasLast 42 = .ok (.aload_n 0, 1) := by decide +kernel
theorem dX1_hasLast_43 : decode cX1_hasLast 43 = .ok (.getfield 20, 3) := by decide +kernel
theorem dX1_hasLast_46 : decode cX1_hasLast 46 = .ok (.iload_n 1, 1) := by decide +kernel
theorem dX1_hasLast_47 : decode cX1_hasLast 47 = .ok (.iconst 1, 1) := by decide +kernel
theorem dX1_hasLast_48 : decode cX1_hasLast 48 = .ok (.iload_n 3, 1) := by decide +kernel
theorem dX1_hasLast_49 : decode cX1_hasLast 49 = .ok (.ishl, 1) := by decide +kernel
theorem dX1_hasLast_50 : decode cX1_hasLast 50 = .ok (.iconst (-1), 1) := by decide +kernel
theorem dX1_hasLast_51 : decode cX1_hasLast 51 = .ok (.ixor, 1) := by decide +kernel
theorem dX1_hasLast_52 : decode cX1_hasLast 52 = .ok (.iand, 1) := by decide +kernel
theorem dX1_hasLast_53 : decode cX1_hasLast 53 = .ok (.baload, 1) := by decide +kernel
theorem dX1_hasLast_54 : decode cX1_hasLast 54 = .ok (.ifCond .eq 5, 3) := by decide +kernel
theorem dX1_hasLast_57 : decode cX1_hasLast 57 = .ok (.iconst 1, 1) := by decide +kernel
theorem dX1_hasLast_58 : decode cX1_hasLast 58 = .ok (.ireturn, 1) := by decide +kernel
theorem dX1_hasLast_59 : decode cX1_hasLast 59 = .ok (.iinc 3 1, 3) := by decide +kernel
theorem dX1_hasLast_62 : decode cX1_hasLast 62 = .ok (.goto (-54), 3) := by decide +kernel
theorem dX1_hasLast_65 : decode cX1_hasLast 65 = .ok (.iconst 0, 1) := by decide +kernel
theorem dX1_hasLast_66 : decode cX1_hasLast 66 = .ok (.ireturn, 1) := by decide +kernel
abbrev cX1_timeOf : ByteArray := prog_3_method_9_code
def yX1_timeOf : MethodName := ⟨RX1, "timeOf", "(I)I"⟩
theorem dX1_timeOf_0 : decode cX1_timeOf 0 = .ok (.iconst 0, 1) := by decide +kernel
theorem dX1_timeOf_1 : decode cX1_timeOf 1 = .ok (.istore_n 2, 1) := by decide +kernel
theorem dX1_timeOf_2 : decode cX1_timeOf 2 = .ok (.iconst 0, 1) := by decide +kernel
theorem dX1_timeOf_3 : decode cX1_timeOf 3 = .ok (.istore_n 3, 1) := by decide +kernel
theorem dX1_timeOf_4 : decode cX1_timeOf 4 = .ok (.iload_n 3, 1) := by decide +kernel
theorem dX1_timeOf_5 : decode cX1_timeOf 5 = .ok (.bipush 10, 2) := by decide +kernel
theorem dX1_timeOf_7 : decode cX1_timeOf 7 = .ok (.if_icmp .ge 27, 3) := by decide +kernel
theorem dX1_timeOf_10 : decode cX1_timeOf 10 = .ok (.aload_n 0, 1) := by decide +kernel
theorem dX1_timeOf_11 : decode cX1_timeOf 11 = .ok (.iload_n 1, 1) := by decide +kernel
theorem dX1_timeOf_12 : decode cX1_timeOf 12 = .ok (.iload_n 3, 1) := by decide +kernel
theorem dX1_timeOf_13 : decode cX1_timeOf 13 = .ok (.invokevirtual 38, 3) := by decide +kernel
theorem dX1_timeOf_16 : decode cX1_timeOf 16 = .ok (.ifCond .eq 12, 3) := by decide +kernel
theorem dX1_timeOf_19 : decode cX1_timeOf 19 = .ok (.iload_n 2, 1) := by decide +kernel
theorem dX1_timeOf_20 : decode cX1_timeOf 20 = .ok (.aload_n 0, 1) := by decide +kernel
theorem dX1_timeOf_21 : decode cX1_timeOf 21 = .ok (.getfield 7, 3) := by decide +kernel
theorem dX1_timeOf_24 : decode cX1_timeOf 24 = .ok (.iload_n 3, 1) := by decide +kernel
theorem dX1_timeOf_25 : decode cX1_timeOf 25 = .ok (.iaload, 1) := by decide +kernel
theorem dX1_timeOf_26 : decode cX1_timeOf 26 = .ok (.iadd, 1) := by decide +kernel
theorem dX1_timeOf_27 : decode cX1_timeOf 27 = .ok (.istore_n 2, 1) := by decide +kernel
theorem dX1_timeOf_28 : decode cX1_timeOf 28 = .ok (.iinc 3 1, 3) := by decide +kernel
theorem dX1_timeOf_31 : decode cX1_timeOf 31 = .ok (.goto (-27), 3) := by decide +kernel
theorem dX1_timeOf_34 : decode cX1_timeOf 34 = .ok (.iload_n 2, 1) := by decide +kernel
theorem dX1_timeOf_35 : decode cX1_timeOf 35 = .ok (.ireturn, 1) := by decide +kernel
abbrev cX1_in : ByteArray := prog_3_method_3_code
def yX1_in : MethodName := ⟨RX1, "in", "(II)Z"⟩
theorem dX1_in_0 : decode cX1_in 0 = .ok (.iload_n 1, 1) := by decide +kernel
theorem dX1_in_1 : decode cX1_in 1 = .ok (.iload_n 2, 1) := by decide +kernel
theorem dX1_in_2 : decode cX1_in 2 = .ok (.ishr, 1) := by decide +kernel
theorem dX1_in_3 : decode cX1_in 3 = .ok (.iconst 1, 1) := by decide +kernel
theorem dX1_in_4 : decode cX1_in 4 = .ok (.iand, 1) := by decide +kernel
theorem dX1_in_5 : decode cX1_in 5 = .ok (.iconst 1, 1) := by decide +kernel
theorem dX1_in_6 : decode cX1_in 6 = .ok (.if_icmp .ne 7, 3) := by decide +kernel
theorem dX1_in_9 : decode cX1_in 9 = .ok (.iconst 1, 1) := by decide +kernel
theorem dX1_in_10 : decode cX1_in 10 = .ok (.goto 4, 3) := by decide +kernel
theorem dX1_in_13 : decode cX1_in 13 = .ok (.iconst 0, 1) := by decide +kernel
theorem dX1_in_14 : decode cX1_in 14 = .ok (.ireturn, 1) := by decide +kernel
abbrev cX1_mostInTime : ByteArray := prog_3_method_16_code
def yX1_mostInTime : MethodName := ⟨RX1, "mostInTime", "()I"⟩
theorem dX1_mostInTime_0 : decode cX1_mostInTime 0 = .ok (.aload_n 0, 1) := by decide +kernel
theorem dX1_mostInTime_1 : decode cX1_mostInTime 1 = .ok (.invokevirtual 54, 3) := by decide +kernel
theorem dX1_mostInTime_4 : decode cX1_mostInTime 4 = .ok (.istore_n 1, 1) := by decide +kernel
theorem dX1_mostInTime_5 : decode cX1_mostInTime 5 = .ok (.aload_n 0, 1) := by decide +kernel
theorem dX1_mostInTime_6 : decode cX1_mostInTime 6 = .ok (.iload_n 1, 1) := by decide +kernel
theorem dX1_mostInTime_7 : decode cX1_mostInTime 7 = .ok (.invokevirtual 57, 3) := by decide +kernel
theorem dX1_mostInTime_10 : decode cX1_mostInTime 10 = .ok (.ireturn, 1) := by decide +kernel
abbrev cX1_firmSet : ByteArray := prog_3_method_14_code
def yX1_firmSet : MethodName := ⟨RX1, "firmSet", "()I"⟩
theorem dX1_firmSet_0 : decode cX1_firmSet 0 = .ok (.iconst 0, 1) := by decide +kernel
theorem dX1_firmSet_1 : decode cX1_firmSet 1 = .ok (.istore_n 1, 1) := by decide +kernel
theorem dX1_firmSet_2 : decode cX1_firmSet 2 = .ok (.iconst 0, 1) := by decide +kernel
theorem dX1_firmSet_3 : decode cX1_firmSet 3 = .ok (.istore_n 2, 1) := by decide +kernel
theorem dX1_firmSet_4 : decode cX1_firmSet 4 = .ok (.iload_n 2, 1) := by decide +kernel
theorem dX1_firmSet_5 : decode cX1_firmSet 5 = .ok (.bipush 10, 2) := by decide +kernel
theorem dX1_firmSet_7 : decode cX1_firmSet 7 = .ok (.if_icmp .ge 33, 3) := by decide +kernel
theorem dX1_firmSet_10 : decode cX1_firmSet 10 = .ok (.aload_n 0, 1) := by decide +kernel
theorem dX1_firmSet_11 : decode cX1_firmSet 11 = .ok (.getfield 7, 3) := by decide +kernel
theorem dX1_firmSet_14 : decode cX1_firmSet 14 = .ok (.iload_n 2, 1) := by decide +kernel
theorem dX1_firmSet_15 : decode cX1_firmSet 15 = .ok (.iaload, 1) := by decide +kernel
theorem dX1_firmSet_16 : decode cX1_firmSet 16 = .ok (.ifCond .le 18, 3) := by decide +kernel
theorem dX1_firmSet_19 : decode cX1_firmSet 19 = .ok (.aload_n 0, 1) := by decide +kernel
theorem dX1_firmSet_20 : decode cX1_firmSet 20 = .ok (.getfield 16, 3) := by decide +kernel
theorem dX1_firmSet_23 : decode cX1_firmSet 23 = .ok (.iload_n 2, 1) := by decide +kernel
theorem dX1_firmSet_24 : decode cX1_firmSet 24 = .ok (.baload, 1) := by decide +kernel
theorem dX1_firmSet_25 : decode cX1_firmSet 25 = .ok (.ifCond .eq 9, 3) := by decide +kernel
theorem dX1_firmSet_28 : decode cX1_firmSet 28 = .ok (.iload_n 1, 1) := by decide +kernel
theorem dX1_firmSet_29 : decode cX1_firmSet 29 = .ok (.iconst 1, 1) := by decide +kernel
theorem dX1_firmSet_30 : decode cX1_firmSet 30 = .ok (.iload_n 2, 1) := by decide +kernel
theorem dX1_firmSet_31 : decode cX1_firmSet 31 = .ok (.ishl, 1) := by decide +kernel
theorem dX1_firmSet_32 : decode cX1_firmSet 32 = .ok (.ior, 1) := by decide +kernel
theorem dX1_firmSet_33 : decode cX1_firmSet 33 = .ok (.istore_n 1, 1) := by decide +kernel
theorem dX1_firmSet_34 : decode cX1_firmSet 34 = .ok (.iinc 2 1, 3) := by decide +kernel
theorem dX1_firmSet_37 : decode cX1_firmSet 37 = .ok (.goto (-33), 3) := by decide +kernel
theorem dX1_firmSet_40 : decode cX1_firmSet 40 = .ok (.iload_n 1, 1) := by decide +kernel
theorem dX1_firmSet_41 : decode cX1_firmSet 41 = .ok (.ireturn, 1) := by decide +kernel
end
section
/-! LateJobAdmitModel, b -/
set_option maxRecDepth 100000
abbrev cX1_most : ByteArray := prog_3_method_15_code
def yX1_most : MethodName := ⟨RX1, "most", "(I)I"⟩
theorem dX1_most_0 : decode cX1_most 0 = .ok (.aload_n 0, 1) := by decide +kernel
theorem dX1_most_1 : decode cX1_most 1 = .ok (.invokevirtual 48, 3) := by decide +kernel
theorem dX1_most_4 : decode cX1_most 4 = .ok (.bipush (-3), 2) := by decide +kernel
theorem dX1_most_6 : decode cX1_most 6 = .ok (.istore_n 2, 1) := by decide +kernel
theorem dX1_most_7 : decode cX1_most 7 = .ok (.iconst 0, 1) := by decide +kernel
theorem dX1_most_8 : decode cX1_most 8 = .ok (.istore_n 3, 1) := by decide +kernel
theorem dX1_most_9 : decode cX1_most 9 = .ok (.iload_n 3, 1) := by decide +kernel
theorem dX1_most_10 : decode cX1_most 10 = .ok (.sipush 1024, 3) := by decide +kernel
theorem dX1_most_13 : decode cX1_most 13 = .ok (.if_icmp .ge 42, 3) := by decide +kernel
theorem dX1_most_16 : decode cX1_most 16 = .ok (.aload_n 0, 1) := by decide +kernel
theorem dX1_most_17 : decode cX1_most 17 = .ok (.getfield 20, 3) := by decide +kernel
theorem dX1_most_20 : decode cX1_most 20 = .ok (.iload_n 3, 1) := by decide +kernel
theorem dX1_most_21 : decode cX1_most 21 = .ok (.baload, 1) := by decide +kernel
theorem dX1_most_22 : decode cX1_most 22 = .ok (.ifCond .eq 27, 3) := by decide +kernel
theorem dX1_most_25 : decode cX1_most 25 = .ok (.iload_n 1, 1) := by decide +kernel
theorem dX1_most_26 : decode cX1_most 26 = .ok (.iload_n 3, 1) := by decide +kernel
theorem dX1_most_27 : decode cX1_most 27 = .ok (.iconst (-1), 1) := by decide +kernel
theorem dX1_most_28 : decode cX1_most 28 = .ok (.ixor, 1) := by decide +kernel
theorem dX1_most_29 : decode cX1_most 29 = .ok (.iand, 1) := by decide +kernel
theorem dX1_most_30 : decode cX1_most 30 = .ok (.ifCond .ne 19, 3) := by decide +kernel
theorem dX1_most_33 : decode cX1_most 33 = .ok (.aload_n 0, 1) := by decide +kernel
theorem dX1_most_34 : decode cX1_most 34 = .ok (.iload_n 3, 1) := by decide +kernel
theorem dX1_most_35 : decode cX1_most 35 = .ok (.invokevirtual 51, 3) := by decide +kernel
theorem dX1_most_38 : decode cX1_most 38 = .ok (.istore 4, 2) := by decide +kernel
theorem dX1_most_40 : decode cX1_most 40 = .ok (.iload 4, 2) := by decide +kernel
theorem dX1_most_42 : decode cX1_most 42 = .ok (.iload_n 2, 1) := by decide +kernel
theorem dX1_most_43 : decode cX1_most 43 = .ok (.if_icmp .le 6, 3) := by decide +kernel
theorem dX1_most_46 : decode cX1_most 46 = .ok (.iload 4, 2) := by decide +kernel
theorem dX1_most_48 : decode cX1_most 48 = .ok (.istore_n 2, 1) := by decide +kernel
theorem dX1_most_49 : decode cX1_most 49 = .ok (.iinc 3 1, 3) := by decide +kernel
theorem dX1_most_52 : decode cX1_most 52 = .ok (.goto (-43), 3) := by decide +kernel
theorem dX1_most_55 : decode cX1_most 55 = .ok (.iload_n 2, 1) := by decide +kernel
theorem dX1_most_56 : decode cX1_most 56 = .ok (.ireturn, 1) := by decide +kernel
abbrev cX1_sizeOf : ByteArray := prog_3_method_10_code
def yX1_sizeOf : MethodName := ⟨RX1, "sizeOf", "(I)I"⟩
theorem dX1_sizeOf_0 : decode cX1_sizeOf 0 = .ok (.iconst 0, 1) := by decide +kernel
theorem dX1_sizeOf_1 : decode cX1_sizeOf 1 = .ok (.istore_n 2, 1) := by decide +kernel
theorem dX1_sizeOf_2 : decode cX1_sizeOf 2 = .ok (.iconst 0, 1) := by decide +kernel
theorem dX1_sizeOf_3 : decode cX1_sizeOf 3 = .ok (.istore_n 3, 1) := by decide +kernel
theorem dX1_sizeOf_4 : decode cX1_sizeOf 4 = .ok (.iload_n 3, 1) := by decide +kernel
theorem dX1_sizeOf_5 : decode cX1_sizeOf 5 = .ok (.bipush 10, 2) := by decide +kernel
theorem dX1_sizeOf_7 : decode cX1_sizeOf 7 = .ok (.if_icmp .ge 21, 3) := by decide +kernel
theorem dX1_sizeOf_10 : decode cX1_sizeOf 10 = .ok (.aload_n 0, 1) := by decide +kernel
theorem dX1_sizeOf_11 : decode cX1_sizeOf 11 = .ok (.iload_n 1, 1) := by decide +kernel
theorem dX1_sizeOf_12 : decode cX1_sizeOf 12 = .ok (.iload_n 3, 1) := by decide +kernel
theorem dX1_sizeOf_13 : decode cX1_sizeOf 13 = .ok (.invokevirtual 38, 3) := by decide +kernel
theorem dX1_sizeOf_16 : decode cX1_sizeOf 16 = .ok (.ifCond .eq 6, 3) := by decide +kernel
theorem dX1_sizeOf_19 : decode cX1_sizeOf 19 = .ok (.iinc 2 1, 3) := by decide +kernel
theorem dX1_sizeOf_22 : decode cX1_sizeOf 22 = .ok (.iinc 3 1, 3) := by decide +kernel
theorem dX1_sizeOf_25 : decode cX1_sizeOf 25 = .ok (.goto (-21), 3) := by decide +kernel
theorem dX1_sizeOf_28 : decode cX1_sizeOf 28 = .ok (.iload_n 2, 1) := by decide +kernel
theorem dX1_sizeOf_29 : decode cX1_sizeOf 29 = .ok (.ireturn, 1) := by decide +kernel
abbrev cX1_leastTime : ByteArray := prog_3_method_17_code
def yX1_leastTime : MethodName := ⟨RX1, "leastTime", "()I"⟩
theorem dX1_leastTime_0 : decode cX1_leastTime 0 = .ok (.aload_n 0, 1) := by decide +kernel
theorem dX1_leastTime_1 : decode cX1_leastTime 1 = .ok (.invokevirtual 54, 3) := by decide +kernel
theorem dX1_leastTime_4 : decode cX1_leastTime 4 = .ok (.istore_n 1, 1) := by decide +kernel
theorem dX1_leastTime_5 : decode cX1_leastTime 5 = .ok (.aload_n 0, 1) := by decide +kernel
theorem dX1_leastTime_6 : decode cX1_leastTime 6 = .ok (.iload_n 1, 1) := by decide +kernel
theorem dX1_leastTime_7 : decode cX1_leastTime 7 = .ok (.invokevirtual 57, 3) := by decide +kernel
theorem dX1_leastTime_10 : decode cX1_leastTime 10 = .ok (.istore_n 2, 1) := by decide +kernel
theorem dX1_leastTime_11 : decode cX1_leastTime 11 = .ok (.bipush (-3), 2) := by decide +kernel
theorem dX1_leastTime_13 : decode cX1_leastTime 13 = .ok (.istore_n 3, 1) := by decide +kernel
theorem dX1_leastTime_14 : decode cX1_leastTime 14 = .ok (.iconst 0, 1) := by decide +kernel
theorem dX1_leastTime_15 : decode cX1_leastTime 15 = .ok (.istore 4, 2) := by decide +kernel
theorem dX1_leastTime_17 : decode cX1_leastTime 17 = .ok (.iload 4, 2) := by decide +kernel
theorem dX1_leastTime_19 : decode cX1_leastTime 19 = .ok (.sipush 1024, 3) := by decide +kernel
theorem dX1_leastTime_22 : decode cX1_leastTime 22 = .ok (.if_icmp .ge 61, 3) := by decide +kernel
theorem dX1_leastTime_25 : decode cX1_leastTime 25 = .ok (.aload_n 0, 1) := by decide +kernel
theorem dX1_leastTime_26 : decode cX1_leastTime 26 = .ok (.getfield 20, 3) := by decide +kernel
theorem dX1_leastTime_29 : decode cX1_leastTime 29 = .ok (.iload 4, 2) := by decide +kernel
theorem dX1_leastTime_31 : decode cX1_leastTime 31 = .ok (.baload, 1) := by decide +kernel
theorem dX1_leastTime_32 : decode cX1_leastTime 32 = .ok (.ifCond .eq 45, 3) := by decide +kernel
theorem dX1_leastTime_35 : decode cX1_leastTime 35 = .ok (.iload_n 1, 1) := by decide +kernel
theorem dX1_leastTime_36 : decode cX1_leastTime 36 = .ok (.iload 4, 2) := by decide +kernel
theorem dX1_leastTime_38 : decode cX1_leastTime 38 = .ok (.iconst (-1), 1) := by decide +kernel
theorem dX1_leastTime_39 : decode cX1_leastTime 39 = .ok (.ixor, 1) := by decide +kernel
theorem dX1_leastTime_40 : decode cX1_leastTime 40 = .ok (.iand, 1) := by decide +kernel
theorem dX1_leastTime_41 : decode cX1_leastTime 41 = .ok (.ifCond .ne 36, 3) := by decide +kernel
theorem dX1_leastTime_44 : decode cX1_leastTime 44 = .ok (.aload_n 0, 1) := by decide +kernel
theorem dX1_leastTime_45 : decode cX1_leastTime 45 = .ok (.iload 4, 2) := by decide +kernel
theorem dX1_leastTime_47 : decode cX1_leastTime 47 = .ok (.invokevirtual 51, 3) := by decide +kernel
theorem dX1_leastTime_50 : decode cX1_leastTime 50 = .ok (.iload_n 2, 1) := by decide +kernel
theorem dX1_leastTime_51 : decode cX1_leastTime 51 = .ok (.if_icmp .ne 26, 3) := by decide +kernel
theorem dX1_leastTime_54 : decode cX1_leastTime 54 = .ok (.aload_n 0, 1) := by decide +kernel
theorem dX1_leastTime_55 : decode cX1_leastTime 55 = .ok (.iload 4, 2) := by decide +kernel
theorem dX1_leastTime_57 : decode cX1_leastTime 57 = .ok (.invokevirtual 41, 3) := by decide +kernel
theorem dX1_leastTime_60 : decode cX1_leastTime 60 = .ok (.istore 5, 2) := by decide +kernel
theorem dX1_leastTime_62 : decode cX1_leastTime 62 = .ok (.iload_n 3, 1) := by decide +kernel
theorem dX1_leastTime_63 : decode cX1_leastTime 63 = .ok (.bipush (-3), 2) := by decide +kernel
theorem dX1_leastTime_65 : decode cX1_leastTime 65 = .ok (.if_icmp .eq 9, 3) := by decide +kernel
theorem dX1_leastTime_68 : decode cX1_leastTime 68 = .ok (.iload 5, 2) := by decide +kernel
theorem dX1_leastTime_70 : decode cX1_leastTime 70 = .ok (.iload_n 3, 1) := by decide +kernel
theorem dX1_leastTime_71 : decode cX1_leastTime 71 = .ok (.if_icmp .ge 6, 3) := by decide +kernel
theorem dX1_leastTime_74 : decode cX1_leastTime 74 = .ok (.iload 5, 2) := by decide +kernel
theorem dX1_leastTime_76 : decode cX1_leastTime 76 = .ok (.istore_n 3, 1) := by decide +kernel
theorem dX1_leastTime_77 : decode cX1_leastTime 77 = .ok (.iinc 4 1, 3) := by decide +kernel
theorem dX1_leastTime_80 : decode cX1_leastTime 80 = .ok (.goto (-63), 3) := by decide +kernel
theorem dX1_leastTime_83 : decode cX1_leastTime 83 = .ok (.iload_n 3, 1) := by decide +kernel
theorem dX1_leastTime_84 : decode cX1_leastTime 84 = .ok (.ireturn, 1) := by decide +kernel
abbrev cX1_affordable : ByteArray := prog_3_method_18_code
def yX1_affordable : MethodName := ⟨RX1, "affordable", "(I)Z"⟩
theorem dX1_affordable_0 : decode cX1_affordable 0 = .ok (.aload_n 0, 1) := by decide +kernel
theorem dX1_affordable_1 : decode cX1_affordable 1 = .ok (.iload_n 1, 1) := by decide +kernel
theorem dX1_affordable_2 : decode cX1_affordable 2 = .ok (.invokevirtual 30, 3) := by decide +kernel
theorem dX1_affordable_5 : decode cX1_affordable 5 = .ok (.ifCond .ne 5, 3) := by decide +kernel
theorem dX1_affordable_8 : decode cX1_affordable 8 = .ok (.iconst 0, 1) := by decide +kernel
theorem dX1_affordable_9 : decode cX1_affordable 9 = .ok (.ireturn, 1) := by decide +kernel
theorem dX1_affordable_10 : decode cX1_affordable 10 = .ok (.aload_n 0, 1) := by decide +kernel
theorem dX1_affordable_11 : decode cX1_affordable 11 = .ok (.invokevirtual 60, 3) := by decide +kernel
theorem dX1_affordable_14 : decode cX1_affordable 14 = .ok (.istore_n 2, 1) := by decide +kernel
theorem dX1_affordable_15 : decode cX1_affordable 15 = .ok (.aload_n 0, 1) := by decide +kernel
theorem dX1_affordable_16 : decode cX1_affordable 16 = .ok (.invokevirtual 54, 3) := by decide +kernel
theorem dX1_affordable_19 : decode cX1_affordable 19 = .ok (.istore_n 3, 1) := by decide +kernel
theorem dX1_affordable_20 : decode cX1_affordable 20 = .ok (.aload_n 0, 1) := by decide +kernel
theorem dX1_affordable_21 : decode cX1_affordable 21 = .ok (.iload_n 3, 1) := by decide +kernel
theorem dX1_affordable_22 : decode cX1_affordable 22 = .ok (.iconst 1, 1) := by decide +kernel
theorem dX1_affordable_23 : decode cX1_affordable 23 = .ok (.iload_n 1, 1) := by decide +kernel
theorem dX1_affordable_24 : decode cX1_affordable 24 = .ok (.ishl, 1) := by decide +kernel
theorem dX1_affordable_25 : decode cX1_affordable 25 = .ok (.ior, 1) := by decide +kernel
theorem dX1_affordable_26 : decode cX1_affordable 26 = .ok (.invokevirtual 57, 3) := by decide +kernel
theorem dX1_affordable_29 : decode cX1_affordable 29 = .ok (.istore 4, 2) := by decide +kernel
theorem dX1_affordable_31 : decode cX1_affordable 31 = .ok (.iload_n 2, 1) := by decide +kernel
theorem dX1_affordable_32 : decode cX1_affordable 32 = .ok (.bipush (-3), 2) := by decide +kernel
theorem dX1_affordable_34 : decode cX1_affordable 34 = .ok (.if_icmp .eq 13, 3) := by decide +kernel
theorem dX1_affordable_37 : decode cX1_affordable 37 = .ok (.iload_n 2, 1) := by decide +kernel
theorem dX1_affordable_38 : decode cX1_affordable 38 = .ok (.iload 4, 2) := by decide +kernel
theorem dX1_affordable_40 : decode cX1_affordable 40 = .ok (.if_icmp .ne 7, 3) := by decide +kernel
theorem dX1_affordable_43 : decode cX1_affordable 43 = .ok (.iconst 1, 1) := by decide +kernel
theorem dX1_affordable_44 : decode cX1_affordable 44 = .ok (.goto 4, 3) := by decide +kernel
theorem dX1_affordable_47 : decode cX1_affordable 47 = .ok (.iconst 0, 1) := by decide +kernel
theorem dX1_affordable_48 : decode cX1_affordable 48 = .ok (.ireturn, 1) := by decide +kernel
abbrev cX1_welcome : ByteArray := prog_3_method_20_code
def yX1_welcome : MethodName := ⟨RX1, "welcome", "(II)Z"⟩
theorem dX1_welcome_0 : decode cX1_welcome 0 = .ok (.aload_n 0, 1) := by decide +kernel
theorem dX1_welcome_1 : decode cX1_welcome 1 = .ok (.iload_n 1, 1) := by decide +kernel
theorem dX1_welcome_2 : decode cX1_welcome 2 = .ok (.iload_n 2, 1) := by decide +kernel
theorem dX1_welcome_3 : decode cX1_welcome 3 = .ok (.invokevirtual 26, 3) := by decide +kernel
theorem dX1_welcome_6 : decode cX1_welcome 6 = .ok (.ifCond .ne 5, 3) := by decide +kernel
theorem dX1_welcome_9 : decode cX1_welcome 9 = .ok (.iconst 0, 1) := by decide +kernel
theorem dX1_welcome_10 : decode cX1_welcome 10 = .ok (.ireturn, 1) := by decide +kernel
theorem dX1_welcome_11 : decode cX1_welcome 11 = .ok (.aload_n 0, 1) := by decide +kernel
theorem dX1_welcome_12 : decode cX1_welcome 12 = .ok (.invokevirtual 54, 3) := by decide +kernel
theorem dX1_welcome_15 : decode cX1_welcome 15 = .ok (.istore_n 3, 1) := by decide +kernel
theorem dX1_welcome_16 : decode cX1_welcome 16 = .ok (.aload_n 0, 1) := by decide +kernel
theorem dX1_welcome_17 : decode cX1_welcome 17 = .ok (.iload_n 3, 1) := by decide +kernel
theorem dX1_welcome_18 : decode cX1_welcome 18 = .ok (.invokevirtual 57, 3) := by decide +kernel
theorem dX1_welcome_21 : decode cX1_welcome 21 = .ok (.istore 4, 2) := by decide +kernel
theorem dX1_welcome_23 : decode cX1_welcome 23 = .ok (.iload 4, 2) := by decide +kernel
theorem dX1_welcome_25 : decode cX1_welcome 25 = .ok (.bipush (-3), 2) := by decide +kernel
theorem dX1_welcome_27 : decode cX1_welcome 27 = .ok (.if_icmp .ne 5, 3) := by decide +kernel
theorem dX1_welcome_30 : decode cX1_welcome 30 = .ok (.iconst 0, 1) := by decide +kernel
theorem dX1_welcome_31 : decode cX1_welcome 31 = .ok (.ireturn, 1) := by decide +kernel
theorem dX1_welcome_32 : decode cX1_welcome 32 = .ok (.iconst 0, 1) := by decide +kernel
theorem dX1_welcome_33 : decode cX1_welcome 33 = .ok (.istore 5, 2) := by decide +kernel
theorem dX1_welcome_35 : decode cX1_welcome 35 = .ok (.iload 5, 2) := by decide +kernel
theorem dX1_welcome_37 : decode cX1_welcome 37 = .ok (.sipush 1024, 3) := by decide +kernel
theorem dX1_welcome_40 : decode cX1_welcome 40 = .ok (.if_icmp .ge 58, 3) := by decide +kernel
theorem dX1_welcome_43 : decode cX1_welcome 43 = .ok (.aload_n 0, 1) := by decide +kernel
theorem dX1_welcome_44 : decode cX1_welcome 44 = .ok (.getfield 23, 3) := by decide +kernel
theorem dX1_welcome_47 : decode cX1_welcome 47 = .ok (.iload 5, 2) := by decide +kernel
theorem dX1_welcome_49 : decode cX1_welcome 49 = .ok (.aload_n 0, 1) := by decide +kernel
theorem dX1_welcome_50 : decode cX1_welcome 50 = .ok (.iload 5, 2) := by decide +kernel
theorem dX1_welcome_52 : decode cX1_welcome 52 = .ok (.iload_n 1, 1) := by decide +kernel
theorem dX1_welcome_53 : decode cX1_welcome 53 = .ok (.iload_n 2, 1) := by decide +kernel
theorem dX1_welcome_54 : decode cX1_welcome 54 = .ok (.invokevirtual 63, 3) := by decide +kernel
theorem dX1_welcome_57 : decode cX1_welcome 57 = .ok (.bastore, 1) := by decide +kernel
theorem dX1_welcome_58 : decode cX1_welcome 58 = .ok (.aload_n 0, 1) := by decide +kernel
theorem dX1_welcome_59 : decode cX1_welcome 59 = .ok (.getfield 23, 3) := by decide +kernel
theorem dX1_welcome_62 : decode cX1_welcome 62 = .ok (.iload 5, 2) := by decide +kernel
theorem dX1_welcome_64 : decode cX1_welcome 64 = .ok (.baload, 1) := by decide +kernel
theorem dX1_welcome_65 : decode cX1_welcome 65 = .ok (.ifCond .eq 27, 3) := by decide +kernel
theorem dX1_welcome_68 : decode cX1_welcome 68 = .ok (.iload_n 3, 1) := by decide +kernel
theorem dX1_welcome_69 : decode cX1_welcome 69 = .ok (.iload 5, 2) := by decide +kernel
theorem dX1_welcome_71 : decode cX1_welcome 71 = .ok (.iconst (-1), 1) := by decide +kernel
theorem dX1_welcome_72 : decode cX1_welcome 72 = .ok (.ixor, 1) := by decide +kernel
theorem dX1_welcome_73 : decode cX1_welcome 73 = .ok (.iand, 1) := by decide +kernel
theorem dX1_welcome_74 : decode cX1_welcome 74 = .ok (.ifCond .ne 18, 3) := by decide +kernel
theorem dX1_welcome_77 : decode cX1_welcome 77 = .ok (.aload_n 0, 1) := by decide +kernel
theorem dX1_welcome_78 : decode cX1_welcome 78 = .ok (.iload 5, 2) := by decide +kernel
theorem dX1_welcome_80 : decode cX1_welcome 80 = .ok (.invokevirtual 51, 3) := by decide +kernel
theorem dX1_welcome_83 : decode cX1_welcome 83 = .ok (.iconst 1, 1) := by decide +kernel
theorem dX1_welcome_84 : decode cX1_welcome 84 = .ok (.iadd, 1) := by decide +kernel
theorem dX1_welcome_85 : decode cX1_welcome 85 = .ok (.iload 4, 2) := by decide +kernel
theorem dX1_welcome_87 : decode cX1_welcome 87 = .ok (.if_icmp .le 5, 3) := by decide +kernel
theorem dX1_welcome_90 : decode cX1_welcome 90 = .ok (.iconst 1, 1) := by decide +kernel
theorem dX1_welcome_91 : decode cX1_welcome 91 = .ok (.ireturn, 1) := by decide +kernel
theorem dX1_welcome_92 : decode cX1_welcome 92 = .ok (.iinc 5 1, 3) := by decide +kernel
theorem dX1_welcome_95 : decode cX1_welcome 95 = .ok (.goto (-60), 3) := by decide +kernel
theorem dX1_welcome_98 : decode cX1_welcome 98 = .ok (.iconst 0, 1) := by decide +kernel
theorem dX1_welcome_99 : decode cX1_welcome 99 = .ok (.ireturn, 1) := by decide +kernel
abbrev cX1_hasLastWith : ByteArray := prog_3_method_19_code
def yX1_hasLastWith : MethodName := ⟨RX1, "hasLastWith", "(III)Z"⟩
theorem dX1_hasLastWith_0 : decode cX1_hasLastWith 0 = .ok (.aload_n 0, 1) := by decide +kernel
theorem dX1_hasLastWith_1 : decode cX1_hasLastWith 1 = .ok (.iload_n 1, 1) := by decide +kernel
theorem dX1_hasLastWith_2 : decode cX1_hasLastWith 2 = .ok (.invokevirtual 41, 3) := by decide +kernel
theorem dX1_hasLastWith_5 : decode cX1_hasLastWith 5 = .ok (.iload_n 2, 1) := by decide +kernel
theorem dX1_hasLastWith_6 : decode cX1_hasLastWith 6 = .ok (.iadd, 1) := by decide +kernel
theorem dX1_hasLastWith_7 : decode cX1_hasLastWith 7 = .ok (.istore 4, 2) := by decide +kernel
theorem dX1_hasLastWith_9 : decode cX1_hasLastWith 9 = .ok (.aload_n 0, 1) := by decide +kernel
theorem dX1_hasLastWith_10 : decode cX1_hasLastWith 10 = .ok (.getfield 20, 3) := by decide +kernel
theorem dX1_hasLastWith_13 : decode cX1_hasLastWith 13 = .ok (.iload_n 1, 1) := by decide +kernel
theorem dX1_hasLastWith_14 : decode cX1_hasLastWith 14 = .ok (.baload, 1) := by decide +kernel
theorem dX1_hasLastWith_15 : decode cX1_hasLastWith 15 = .ok (.ifCond .eq 11, 3) := by decide +kernel
theorem dX1_hasLastWith_18 : decode cX1_hasLastWith 18 = .ok (.iload 4, 2) := by decide +kernel
theorem dX1_hasLastWith_20 : decode cX1_hasLastWith 20 = .ok (.iload_n 3, 1) := by decide +kernel
theorem dX1_hasLastWith_21 : decode cX1_hasLastWith 21 = .ok (.if_icmp .gt 5, 3) := by decide +kernel
theorem dX1_hasLastWith_24 : decode cX1_hasLastWith 24 = .ok (.iconst 1, 1) := by decide +kernel
theorem dX1_hasLastWith_25 : decode cX1_hasLastWith 25 = .ok (.ireturn, 1) := by decide +kernel
theorem dX1_hasLastWith_26 : decode cX1_hasLastWith 26 = .ok (.iconst 0, 1) := by decide +kernel
theorem dX1_hasLastWith_27 : decode cX1_hasLastWith 27 = .ok (.istore 5, 2) := by decide +kernel
theorem dX1_hasLastWith_29 : decode cX1_hasLastWith 29 = .ok (.iload 5, 2) := by decide +kernel
theorem dX1_hasLastWith_31 : decode cX1_hasLastWith 31 = .ok (.bipush 10, 2) := by decide +kernel
theorem dX1_hasLastWith_33 : decode cX1_hasLastWith 33 = .ok (.if_icmp .ge 59, 3) := by decide +kernel
theorem dX1_hasLastWith_36 : decode cX1_hasLastWith 36 = .ok (.aload_n 0, 1) := by decide +kernel
theorem dX1_hasLastWith_37 : decode cX1_hasLastWith 37 = .ok (.iload_n 1, 1) := by decide +kernel
theorem dX1_hasLastWith_38 : decode cX1_hasLastWith 38 = .ok (.iload 5, 2) := by decide +kernel
theorem dX1_hasLastWith_40 : decode cX1_hasLastWith 40 = .ok (.invokevirtual 38, 3) := by decide +kernel
theorem dX1_hasLastWith_43 : decode cX1_hasLastWith 43 = .ok (.ifCond .eq 43, 3) := by decide +kernel
theorem dX1_hasLastWith_46 : decode cX1_hasLastWith 46 = .ok (.aload_n 0, 1) := by decide +kernel
theorem dX1_hasLastWith_47 : decode cX1_hasLastWith 47 = .ok (.getfield 7, 3) := by decide +kernel
theorem dX1_hasLastWith_50 : decode cX1_hasLastWith 50 = .ok (.iload 5, 2) := by decide +kernel
theorem dX1_hasLastWith_52 : decode cX1_hasLastWith 52 = .ok (.iaload, 1) := by decide +kernel
theorem dX1_hasLastWith_53 : decode cX1_hasLastWith 53 = .ok (.ifCond .le 33, 3) := by decide +kernel
theorem dX1_hasLastWith_56 : decode cX1_hasLastWith 56 = .ok (.iload 4, 2) := by decide +kernel
theorem dX1_hasLastWith_58 : decode cX1_hasLastWith 58 = .ok (.aload_n 0, 1) := by decide +kernel
theorem dX1_hasLastWith_59 : decode cX1_hasLastWith 59 = .ok (.getfield 13, 3) := by decide +kernel
theorem dX1_hasLastWith_62 : decode cX1_hasLastWith 62 = .ok (.iload 5, 2) := by decide +kernel
theorem dX1_hasLastWith_64 : decode cX1_hasLastWith 64 = .ok (.iaload, 1) := by decide +kernel
theorem dX1_hasLastWith_65 : decode cX1_hasLastWith 65 = .ok (.if_icmp .gt 21, 3) := by decide +kernel
theorem dX1_hasLastWith_68 : decode cX1_hasLastWith 68 = .ok (.aload_n 0, 1) := by decide +kernel
theorem dX1_hasLastWith_69 : decode cX1_hasLastWith 69 = .ok (.getfield 23, 3) := by decide +kernel
theorem dX1_hasLastWith_72 : decode cX1_hasLastWith 72 = .ok (.iload_n 1, 1) := by decide +kernel
theorem dX1_hasLastWith_73 : decode cX1_hasLastWith 73 = .ok (.iconst 1, 1) := by decide +kernel
theorem dX1_hasLastWith_74 : decode cX1_hasLastWith 74 = .ok (.iload 5, 2) := by decide +kernel
theorem dX1_hasLastWith_76 : decode cX1_hasLastWith 76 = .ok (.ishl, 1) := by decide +kernel
theorem dX1_hasLastWith_77 : decode cX1_hasLastWith 77 = .ok (.iconst (-1), 1) := by decide +kernel
theorem dX1_hasLastWith_78 : decode cX1_hasLastWith 78 = .ok (.ixor, 1) := by decide +kernel
theorem dX1_hasLastWith_79 : decode cX1_hasLastWith 79 = .ok (.iand, 1) := by decide +kernel
theorem dX1_hasLastWith_80 : decode cX1_hasLastWith 80 = .ok (.baload, 1) := by decide +kernel
theorem dX1_hasLastWith_81 : decode cX1_hasLastWith 81 = .ok (.ifCond .eq 5, 3) := by decide +kernel
theorem dX1_hasLastWith_84 : decode cX1_hasLastWith 84 = .ok (.iconst 1, 1) := by decide +kernel
theorem dX1_hasLastWith_85 : decode cX1_hasLastWith 85 = .ok (.ireturn, 1) := by decide +kernel
theorem dX1_hasLastWith_86 : decode cX1_hasLastWith 86 = .ok (.iinc 5 1, 3) := by decide +kernel
theorem dX1_hasLastWith_89 : decode cX1_hasLastWith 89 = .ok (.goto (-60), 3) := by decide +kernel
theorem dX1_hasLastWith_92 : decode cX1_hasLastWith 92 = .ok (.iconst 0, 1) := by decide +kernel
theorem dX1_hasLastWith_93 : decode cX1_hasLastWith 93 = .ok (.ireturn, 1) := by decide +kernel
abbrev cX1_elapse : ByteArray := prog_3_method_21_code
def yX1_elapse : MethodName := ⟨RX1, "elapse", "(I)I"⟩
theorem dX1_elapse_0 : decode cX1_elapse 0 = .ok (.iload_n 1, 1) := by decide +kernel
theorem dX1_elapse_1 : decode cX1_elapse 1 = .ok (.ifCond .lt 10, 3) := by decide +kernel
theorem dX1_elapse_4 : decode cX1_elapse 4 = .ok (.iload_n 1, 1) := by decide +kernel
theorem dX1_elapse_5 : decode cX1_elapse 5 = .ok (.sipush 200, 3) := by decide +kernel
theorem dX1_elapse_8 : decode cX1_elapse 8 = .ok (.if_icmp .le 5, 3) := by decide +kernel
theorem dX1_elapse_11 : decode cX1_elapse 11 = .ok (.iconst (-1), 1) := by decide +kernel
theorem dX1_elapse_12 : decode cX1_elapse 12 = .ok (.ireturn, 1) := by decide +kernel
theorem dX1_elapse_13 : decode cX1_elapse 13 = .ok (.iconst 0, 1) := by decide +kernel
theorem dX1_elapse_14 : decode cX1_elapse 14 = .ok (.istore_n 2, 1) := by decide +kernel
theorem dX1_elapse_15 : decode cX1_elapse 15 = .ok (.iload_n 2, 1) := by decide +kernel
theorem dX1_elapse_16 : decode cX1_elapse 16 = .ok (.bipush 10, 2) := by decide +kernel
theorem dX1_elapse_18 : decode cX1_elapse 18 = .ok (.if_icmp .ge 35, 3) := by decide +kernel
theorem dX1_elapse_21 : decode cX1_elapse 21 = .ok (.aload_n 0, 1) := by decide +kernel
theorem dX1_elapse_22 : decode cX1_elapse 22 = .ok (.getfield 13, 3) := by decide +kernel
theorem dX1_elapse_25 : decode cX1_elapse 25 = .ok (.iload_n 2, 1) := by decide +kernel
theorem dX1_elapse_26 : decode cX1_elapse 26 = .ok (.dup2, 1) := by decide +kernel
theorem dX1_elapse_27 : decode cX1_elapse 27 = .ok (.iaload, 1) := by decide +kernel
theorem dX1_elapse_28 : decode cX1_elapse 28 = .ok (.iload_n 1, 1) := by decide +kernel
theorem dX1_elapse_29 : decode cX1_elapse 29 = .ok (.isub, 1) := by decide +kernel
theorem dX1_elapse_30 : decode cX1_elapse 30 = .ok (.iastore, 1) := by decide +kernel
theorem dX1_elapse_31 : decode cX1_elapse 31 = .ok (.aload_n 0, 1) := by decide +kernel
theorem dX1_elapse_32 : decode cX1_elapse 32 = .ok (.getfield 13, 3) := by decide +kernel
theorem dX1_elapse_35 : decode cX1_elapse 35 = .ok (.iload_n 2, 1) := by decide +kernel
theorem dX1_elapse_36 : decode cX1_elapse 36 = .ok (.iaload, 1) := by decide +kernel
theorem dX1_elapse_37 : decode cX1_elapse 37 = .ok (.ifCond .ge 10, 3) := by decide +kernel
theorem dX1_elapse_40 : decode cX1_elapse 40 = .ok (.aload_n 0, 1) := by decide +kernel
theorem dX1_elapse_41 : decode cX1_elapse 41 = .ok (.getfield 7, 3) := by decide +kernel
theorem dX1_elapse_44 : decode cX1_elapse 44 = .ok (.iload_n 2, 1) := by decide +kernel
theorem dX1_elapse_45 : decode cX1_elapse 45 = .ok (.iconst 0, 1) := by decide +kernel
theorem dX1_elapse_46 : decode cX1_elapse 46 = .ok (.iastore, 1) := by decide +kernel
theorem dX1_elapse_47 : decode cX1_elapse 47 = .ok (.iinc 2 1, 3) := by decide +kernel
theorem dX1_elapse_50 : decode cX1_elapse 50 = .ok (.goto (-35), 3) := by decide +kernel
theorem dX1_elapse_53 : decode cX1_elapse 53 = .ok (.aload_n 0, 1) := by decide +kernel
theorem dX1_elapse_54 : decode cX1_elapse 54 = .ok (.invokevirtual 34, 3) := by decide +kernel
theorem dX1_elapse_57 : decode cX1_elapse 57 = .ok (.ireturn, 1) := by decide +kernel
theorem q19 : (Jvm.Cond.initialized "LateJobAdmitModel") ∈ lw_all := lw_g (lw_at lw_m0 2 rfl) rfl
theorem q129 : (Jvm.Cond.instantiable "LateJobAdmitModel" (5 : Nat)) ∈ lw_all := lw_g (lw_at lw_m0 112 rfl) rfl
theorem q131 : (Jvm.Cond.instanceMethod ({ cls := "LateJobAdmitModel", name := "<init>", desc := "()V" } : Jvm.MethodName)) ∈ lw_all := lw_g (lw_at lw_m0 114 rfl) rfl
theorem q132 : (Jvm.Cond.code ({ cls := "LateJobAdmitModel", name := "<init>", desc := "()V" } : Jvm.MethodName) prog_3_method_1_code (1 : Nat) (Option.none : Option Jvm.ClassFile.FieldType)) ∈ lw_all := lw_g (lw_at lw_m0 115 rfl) rfl
theorem q133 : (Jvm.Cond.methodLink "LateJobAdmitModel" (1 : Nat) ({ cls := "java/lang/Object", name := "<init>", desc := "()V" } : Jvm.MethodName)) ∈ lw_all := lw_g (lw_at lw_m0 116 rfl) rfl
theorem q134 : (Jvm.Cond.fieldLink "LateJobAdmitModel" (7 : Nat) "LateJobAdmitModel" "length" "[I") ∈ lw_all := lw_g (lw_at lw_m0 117 rfl) rfl
theorem q135 : (Jvm.Cond.fieldLink "LateJobAdmitModel" (13 : Nat) "LateJobAdmitModel" "deadline" "[I") ∈ lw_all := lw_g (lw_at lw_m0 118 rfl) rfl
theorem q136 : (Jvm.Cond.fieldLink "LateJobAdmitModel" (16 : Nat) "LateJobAdmitModel" "firm" "[Z") ∈ lw_all := lw_g (lw_at lw_m0 119 rfl) rfl
theorem q137 : (Jvm.Cond.fieldLink "LateJobAdmitModel" (20 : Nat) "LateJobAdmitModel" "good" "[Z") ∈ lw_all := lw_g (lw_at lw_m0 120 rfl) rfl
theorem q138 : (Jvm.Cond.fieldLink "LateJobAdmitModel" (23 : Nat) "LateJobAdmitModel" "joined" "[Z") ∈ lw_all := lw_g (lw_at lw_m0 121 rfl) rfl
theorem q139 : (Jvm.Cond.lays "LateJobAdmitModel" "LateJobAdmitModel" "length" "[I") ∈ lw_all := lw_g (lw_at lw_m0 122 rfl) rfl
theorem q140 : (Jvm.Cond.soleField "LateJobAdmitModel" "length") ∈ lw_all := lw_g (lw_at lw_m0 123 rfl) rfl
theorem q141 : (Jvm.Cond.lays "LateJobAdmitModel" "LateJobAdmitModel" "deadline" "[I") ∈ lw_all := lw_g (lw_at lw_m0 124 rfl) rfl
theorem q142 : (Jvm.Cond.soleField "LateJobAdmitModel" "deadline") ∈ lw_all := lw_g (lw_at lw_m0 125 rfl) rfl
theorem q143 : (Jvm.Cond.lays "LateJobAdmitModel" "LateJobAdmitModel" "firm" "[Z") ∈ lw_all := lw_g (lw_at lw_m0 126 rfl) rfl
theorem q144 : (Jvm.Cond.soleField "LateJobAdmitModel" "firm") ∈ lw_all := lw_g (lw_at lw_m0 127 rfl) rfl
theorem q145 : (Jvm.Cond.lays "LateJobAdmitModel" "LateJobAdmitModel" "good" "[Z") ∈ lw_all := lw_g (lw_at lw_m0 128 rfl) rfl
theorem q146 : (Jvm.Cond.soleField "LateJobAdmitModel" "good") ∈ lw_all := lw_g (lw_at lw_m0 129 rfl) rfl
theorem q147 : (Jvm.Cond.lays "LateJobAdmitModel" "LateJobAdmitModel" "joined" "[Z") ∈ lw_all := lw_g (lw_at lw_m0 130 rfl) rfl
theorem q148 : (Jvm.Cond.soleField "LateJobAdmitModel" "joined") ∈ lw_all := lw_g (lw_at lw_m0 131 rfl) rfl
theorem q149 : (Jvm.Cond.superclass "LateJobAdmitModel" "java/lang/Object") ∈ lw_all := lw_g (lw_at lw_m0 132 rfl) rfl
theorem q152 : (Jvm.Cond.instanceMethod ({ cls := "LateJobAdmitModel", name := "put", desc := "(IIZ)I" } : Jvm.MethodName)) ∈ lw_all := lw_g (lw_at lw_m0 135 rfl) rfl
theorem q153 : (Jvm.Cond.selects "LateJobAdmitModel" ({ cls := "LateJobAdmitModel", name := "put", desc := "(IIZ)I" } : Jvm.MethodName) ({ cls := "LateJobAdmitModel", name := "put", desc := "(IIZ)I" } : Jvm.MethodName)) ∈ lw_all := lw_g (lw_at lw_m0 136 rfl) rfl
theorem q154 : (Jvm.Cond.code ({ cls := "LateJobAdmitModel", name := "put", desc := "(IIZ)I" } : Jvm.MethodName) prog_3_method_5_code (6 : Nat) (Option.some Jvm.ClassFile.FieldType.int)) ∈ lw_all := lw_g (lw_at lw_m0 137 rfl) rfl
theorem q155 : (Jvm.Cond.methodLink "LateJobAdmitModel" (26 : Nat) ({ cls := "LateJobAdmitModel", name := "fits", desc := "(II)Z" } : Jvm.MethodName)) ∈ lw_all := lw_g (lw_at lw_m0 138 rfl) rfl
theorem q156 : (Jvm.Cond.privateMethod ({ cls := "LateJobAdmitModel", name := "fits", desc := "(II)Z" } : Jvm.MethodName)) ∈ lw_tbl := lw_at lw_m0 139 rfl
theorem q157 : (Jvm.Cond.instanceMethod ({ cls := "LateJobAdmitModel", name := "fits", desc := "(II)Z" } : Jvm.MethodName)) ∈ lw_all := lw_g (lw_at lw_m0 140 rfl) rfl
theorem q158 : (Jvm.Cond.code ({ cls := "LateJobAdmitModel", name := "fits", desc := "(II)Z" } : Jvm.MethodName) prog_3_method_4_code (3 : Nat) (Option.some Jvm.ClassFile.FieldType.boolean)) ∈ lw_all := lw_g (lw_at lw_m0 141 rfl) rfl
theorem q160 : (Jvm.Cond.instanceMethod ({ cls := "LateJobAdmitModel", name := "drop", desc := "(I)I" } : Jvm.MethodName)) ∈ lw_all := lw_g (lw_at lw_m0 143 rfl) rfl
theorem q161 : (Jvm.Cond.selects "LateJobAdmitModel" ({ cls := "LateJobAdmitModel", name := "drop", desc := "(I)I" } : Jvm.MethodName) ({ cls := "LateJobAdmitModel", name := "drop", desc := "(I)I" } : Jvm.MethodName)) ∈ lw_all := lw_g (lw_at lw_m0 144 rfl) rfl
theorem q162 : (Jvm.Cond.code ({ cls := "LateJobAdmitModel", name := "drop", desc := "(I)I" } : Jvm.MethodName) prog_3_method_6_code (2 : Nat) (Option.some Jvm.ClassFile.FieldType.int)) ∈ lw_all := lw_g (lw_at lw_m0 145 rfl) rfl
theorem q163 : (Jvm.Cond.methodLink "LateJobAdmitModel" (30 : Nat) ({ cls := "LateJobAdmitModel", name := "isJob", desc := "(I)Z" } : Jvm.MethodName)) ∈ lw_all := lw_g (lw_at lw_m0 146 rfl) rfl
theorem q164 : (Jvm.Cond.privateMethod ({ cls := "LateJobAdmitModel", name := "isJob", desc := "(I)Z" } : Jvm.MethodName)) ∈ lw_tbl := lw_at lw_m0 147 rfl
theorem q165 : (Jvm.Cond.instanceMethod ({ cls := "LateJobAdmitModel", name := "isJob", desc := "(I)Z" } : Jvm.MethodName)) ∈ lw_all := lw_g (lw_at lw_m0 148 rfl) rfl
theorem q166 : (Jvm.Cond.code ({ cls := "LateJobAdmitModel", name := "isJob", desc := "(I)Z" } : Jvm.MethodName) prog_3_method_2_code (2 : Nat) (Option.some Jvm.ClassFile.FieldType.boolean)) ∈ lw_all := lw_g (lw_at lw_m0 149 rfl) rfl
theorem q167 : (Jvm.Cond.methodLink "LateJobAdmitModel" (34 : Nat) ({ cls := "LateJobAdmitModel", name := "jobs", desc := "()I" } : Jvm.MethodName)) ∈ lw_all := lw_g (lw_at lw_m0 150 rfl) rfl
theorem q168 : (Jvm.Cond.instanceMethod ({ cls := "LateJobAdmitModel", name := "jobs", desc := "()I" } : Jvm.MethodName)) ∈ lw_all := lw_g (lw_at lw_m0 151 rfl) rfl
theorem q169 : (Jvm.Cond.selects "LateJobAdmitModel" ({ cls := "LateJobAdmitModel", name := "jobs", desc := "()I" } : Jvm.MethodName) ({ cls := "LateJobAdmitModel", name := "jobs", desc := "()I" } : Jvm.MethodName)) ∈ lw_all := lw_g (lw_at lw_m0 152 rfl) rfl
theorem q170 : (Jvm.Cond.code ({ cls := "LateJobAdmitModel", name := "jobs", desc := "()I" } : Jvm.MethodName) prog_3_method_8_code (3 : Nat) (Option.some Jvm.ClassFile.FieldType.int)) ∈ lw_all := lw_g (lw_at lw_m0 153 rfl) rfl
theorem q172 : (Jvm.Cond.instanceMethod ({ cls := "LateJobAdmitModel", name := "makeFirm", desc := "(IZ)Z" } : Jvm.MethodName)) ∈ lw_all := lw_g (lw_at lw_m0 155 rfl) rfl
theorem q173 : (Jvm.Cond.selects "LateJobAdmitModel" ({ cls := "LateJobAdmitModel", name := "makeFirm", desc := "(IZ)Z" } : Jvm.MethodName) ({ cls := "LateJobAdmitModel", name := "makeFirm", desc := "(IZ)Z" } : Jvm.MethodName)) ∈ lw_all := lw_g (lw_at lw_m0 156 rfl) rfl
theorem q174 : (Jvm.Cond.code ({ cls := "LateJobAdmitModel", name := "makeFirm", desc := "(IZ)Z" } : Jvm.MethodName) prog_3_method_7_code (3 : Nat) (Option.some Jvm.ClassFile.FieldType.boolean)) ∈ lw_all := lw_g (lw_at lw_m0 157 rfl) rfl
theorem q177 : (Jvm.Cond.instanceMethod ({ cls := "LateJobAdmitModel", name := "feasible", desc := "(I)Z" } : Jvm.MethodName)) ∈ lw_all := lw_g (lw_at lw_m0 160 rfl) rfl
theorem q178 : (Jvm.Cond.selects "LateJobAdmitModel" ({ cls := "LateJobAdmitModel", name := "feasible", desc := "(I)Z" } : Jvm.MethodName) ({ cls := "LateJobAdmitModel", name := "feasible", desc := "(I)Z" } : Jvm.MethodName)) ∈ lw_all := lw_g (lw_at lw_m0 161 rfl) rfl
theorem q179 : (Jvm.Cond.code ({ cls := "LateJobAdmitModel", name := "feasible", desc := "(I)Z" } : Jvm.MethodName) prog_3_method_13_code (2 : Nat) (Option.some Jvm.ClassFile.FieldType.boolean)) ∈ lw_all := lw_g (lw_at lw_m0 162 rfl) rfl
theorem q180 : (Jvm.Cond.methodLink "LateJobAdmitModel" (48 : Nat) ({ cls := "LateJobAdmitModel", name := "findGood", desc := "()V" } : Jvm.MethodName)) ∈ lw_all := lw_g (lw_at lw_m0 163 rfl) rfl
theorem q181 : (Jvm.Cond.privateMethod ({ cls := "LateJobAdmitModel", name := "findGood", desc := "()V" } : Jvm.MethodName)) ∈ lw_tbl := lw_at lw_m0 164 rfl
theorem q182 : (Jvm.Cond.instanceMethod ({ cls := "LateJobAdmitModel", name := "findGood", desc := "()V" } : Jvm.MethodName)) ∈ lw_all := lw_g (lw_at lw_m0 165 rfl) rfl
theorem q183 : (Jvm.Cond.code ({ cls := "LateJobAdmitModel", name := "findGood", desc := "()V" } : Jvm.MethodName) prog_3_method_12_code (2 : Nat) (Option.none : Option Jvm.ClassFile.FieldType)) ∈ lw_all := lw_g (lw_at lw_m0 166 rfl) rfl
theorem q184 : (Jvm.Cond.methodLink "LateJobAdmitModel" (45 : Nat) ({ cls := "LateJobAdmitModel", name := "hasLast", desc := "(I)Z" } : Jvm.MethodName)) ∈ lw_all := lw_g (lw_at lw_m0 167 rfl) rfl
theorem q185 : (Jvm.Cond.privateMethod ({ cls := "LateJobAdmitModel", name := "hasLast", desc := "(I)Z" } : Jvm.MethodName)) ∈ lw_tbl := lw_at lw_m0 168 rfl
theorem q186 : (Jvm.Cond.instanceMethod ({ cls := "LateJobAdmitModel", name := "hasLast", desc := "(I)Z" } : Jvm.MethodName)) ∈ lw_all := lw_g (lw_at lw_m0 169 rfl) rfl
theorem q187 : (Jvm.Cond.code ({ cls := "LateJobAdmitModel", name := "hasLast", desc := "(I)Z" } : Jvm.MethodName) prog_3_method_11_code (4 : Nat) (Option.some Jvm.ClassFile.FieldType.boolean)) ∈ lw_all := lw_g (lw_at lw_m0 170 rfl) rfl
theorem q188 : (Jvm.Cond.methodLink "LateJobAdmitModel" (41 : Nat) ({ cls := "LateJobAdmitModel", name := "timeOf", desc := "(I)I" } : Jvm.MethodName)) ∈ lw_all := lw_g (lw_at lw_m0 171 rfl) rfl
theorem q189 : (Jvm.Cond.privateMethod ({ cls := "LateJobAdmitModel", name := "timeOf", desc := "(I)I" } : Jvm.MethodName)) ∈ lw_tbl := lw_at lw_m0 172 rfl
theorem q190 : (Jvm.Cond.instanceMethod ({ cls := "LateJobAdmitModel", name := "timeOf", desc := "(I)I" } : Jvm.MethodName)) ∈ lw_all := lw_g (lw_at lw_m0 173 rfl) rfl
theorem q191 : (Jvm.Cond.code ({ cls := "LateJobAdmitModel", name := "timeOf", desc := "(I)I" } : Jvm.MethodName) prog_3_method_9_code (4 : Nat) (Option.some Jvm.ClassFile.FieldType.int)) ∈ lw_all := lw_g (lw_at lw_m0 174 rfl) rfl
theorem q192 : (Jvm.Cond.methodLink "LateJobAdmitModel" (38 : Nat) ({ cls := "LateJobAdmitModel", name := "in", desc := "(II)Z" } : Jvm.MethodName)) ∈ lw_all := lw_g (lw_at lw_m0 175 rfl) rfl
theorem q193 : (Jvm.Cond.privateMethod ({ cls := "LateJobAdmitModel", name := "in", desc := "(II)Z" } : Jvm.MethodName)) ∈ lw_tbl := lw_at lw_m0 176 rfl
theorem q194 : (Jvm.Cond.instanceMethod ({ cls := "LateJobAdmitModel", name := "in", desc := "(II)Z" } : Jvm.MethodName)) ∈ lw_all := lw_g (lw_at lw_m0 177 rfl) rfl
theorem q195 : (Jvm.Cond.code ({ cls := "LateJobAdmitModel", name := "in", desc := "(II)Z" } : Jvm.MethodName) prog_3_method_3_code (3 : Nat) (Option.some Jvm.ClassFile.FieldType.boolean)) ∈ lw_all := lw_g (lw_at lw_m0 178 rfl) rfl
theorem q197 : (Jvm.Cond.instanceMethod ({ cls := "LateJobAdmitModel", name := "mostInTime", desc := "()I" } : Jvm.MethodName)) ∈ lw_all := lw_g (lw_at lw_m0 180 rfl) rfl
theorem q198 : (Jvm.Cond.selects "LateJobAdmitModel" ({ cls := "LateJobAdmitModel", name := "mostInTime", desc := "()I" } : Jvm.MethodName) ({ cls := "LateJobAdmitModel", name := "mostInTime", desc := "()I" } : Jvm.MethodName)) ∈ lw_all := lw_g (lw_at lw_m0 181 rfl) rfl
theorem q199 : (Jvm.Cond.code ({ cls := "LateJobAdmitModel", name := "mostInTime", desc := "()I" } : Jvm.MethodName) prog_3_method_16_code (2 : Nat) (Option.some Jvm.ClassFile.FieldType.int)) ∈ lw_all := lw_g (lw_at lw_m0 182 rfl) rfl
theorem q200 : (Jvm.Cond.methodLink "LateJobAdmitModel" (54 : Nat) ({ cls := "LateJobAdmitModel", name := "firmSet", desc := "()I" } : Jvm.MethodName)) ∈ lw_all := lw_g (lw_at lw_m0 183 rfl) rfl
theorem q201 : (Jvm.Cond.privateMethod ({ cls := "LateJobAdmitModel", name := "firmSet", desc := "()I" } : Jvm.MethodName)) ∈ lw_tbl := lw_at lw_m0 184 rfl
theorem q202 : (Jvm.Cond.instanceMethod ({ cls := "LateJobAdmitModel", name := "firmSet", desc := "()I" } : Jvm.MethodName)) ∈ lw_all := lw_g (lw_at lw_m0 185 rfl) rfl
theorem q203 : (Jvm.Cond.code ({ cls := "LateJobAdmitModel", name := "firmSet", desc := "()I" } : Jvm.MethodName) prog_3_method_14_code (3 : Nat) (Option.some Jvm.ClassFile.FieldType.int)) ∈ lw_all := lw_g (lw_at lw_m0 186 rfl) rfl
theorem q204 : (Jvm.Cond.methodLink "LateJobAdmitModel" (57 : Nat) ({ cls := "LateJobAdmitModel", name := "most", desc := "(I)I" } : Jvm.MethodName)) ∈ lw_all := lw_g (lw_at lw_m0 187 rfl) rfl
theorem q205 : (Jvm.Cond.privateMethod ({ cls := "LateJobAdmitModel", name := "most", desc := "(I)I" } : Jvm.MethodName)) ∈ lw_tbl := lw_at lw_m0 188 rfl
theorem q206 : (Jvm.Cond.instanceMethod ({ cls := "LateJobAdmitModel", name := "most", desc := "(I)I" } : Jvm.MethodName)) ∈ lw_all := lw_g (lw_at lw_m0 189 rfl) rfl
theorem q207 : (Jvm.Cond.code ({ cls := "LateJobAdmitModel", name := "most", desc := "(I)I" } : Jvm.MethodName) prog_3_method_15_code (5 : Nat) (Option.some Jvm.ClassFile.FieldType.int)) ∈ lw_all := lw_g (lw_at lw_m0 190 rfl) rfl
theorem q208 : (Jvm.Cond.methodLink "LateJobAdmitModel" (51 : Nat) ({ cls := "LateJobAdmitModel", name := "sizeOf", desc := "(I)I" } : Jvm.MethodName)) ∈ lw_all := lw_g (lw_at lw_m0 191 rfl) rfl
theorem q209 : (Jvm.Cond.privateMethod ({ cls := "LateJobAdmitModel", name := "sizeOf", desc := "(I)I" } : Jvm.MethodName)) ∈ lw_tbl := lw_at lw_m0 192 rfl
theorem q210 : (Jvm.Cond.instanceMethod ({ cls := "LateJobAdmitModel", name := "sizeOf", desc := "(I)I" } : Jvm.MethodName)) ∈ lw_all := lw_g (lw_at lw_m0 193 rfl) rfl
theorem q211 : (Jvm.Cond.code ({ cls := "LateJobAdmitModel", name := "sizeOf", desc := "(I)I" } : Jvm.MethodName) prog_3_method_10_code (4 : Nat) (Option.some Jvm.ClassFile.FieldType.int)) ∈ lw_all := lw_g (lw_at lw_m0 194 rfl) rfl
theorem q213 : (Jvm.Cond.instanceMethod ({ cls := "LateJobAdmitModel", name := "leastTime", desc := "()I" } : Jvm.MethodName)) ∈ lw_all := lw_g (lw_at lw_m0 196 rfl) rfl
theorem q214 : (Jvm.Cond.selects "LateJobAdmitModel" ({ cls := "LateJobAdmitModel", name := "leastTime", desc := "()I" } : Jvm.MethodName) ({ cls := "LateJobAdmitModel", name := "leastTime", desc := "()I" } : Jvm.MethodName)) ∈ lw_all := lw_g (lw_at lw_m0 197 rfl) rfl
theorem q215 : (Jvm.Cond.code ({ cls := "LateJobAdmitModel", name := "leastTime", desc := "()I" } : Jvm.MethodName) prog_3_method_17_code (6 : Nat) (Option.some Jvm.ClassFile.FieldType.int)) ∈ lw_all := lw_g (lw_at lw_m0 198 rfl) rfl
theorem q217 : (Jvm.Cond.instanceMethod ({ cls := "LateJobAdmitModel", name := "affordable", desc := "(I)Z" } : Jvm.MethodName)) ∈ lw_all := lw_g (lw_at lw_m0 200 rfl) rfl
theorem q218 : (Jvm.Cond.selects "LateJobAdmitModel" ({ cls := "LateJobAdmitModel", name := "affordable", desc := "(I)Z" } : Jvm.MethodName) ({ cls := "LateJobAdmitModel", name := "affordable", desc := "(I)Z" } : Jvm.MethodName)) ∈ lw_all := lw_g (lw_at lw_m0 201 rfl) rfl
theorem q219 : (Jvm.Cond.code ({ cls := "LateJobAdmitModel", name := "affordable", desc := "(I)Z" } : Jvm.MethodName) prog_3_method_18_code (5 : Nat) (Option.some Jvm.ClassFile.FieldType.boolean)) ∈ lw_all := lw_g (lw_at lw_m0 202 rfl) rfl
theorem q220 : (Jvm.Cond.methodLink "LateJobAdmitModel" (60 : Nat) ({ cls := "LateJobAdmitModel", name := "mostInTime", desc := "()I" } : Jvm.MethodName)) ∈ lw_all := lw_g (lw_at lw_m0 203 rfl) rfl
theorem q222 : (Jvm.Cond.instanceMethod ({ cls := "LateJobAdmitModel", name := "welcome", desc := "(II)Z" } : Jvm.MethodName)) ∈ lw_all := lw_g (lw_at lw_m0 205 rfl) rfl
theorem q223 : (Jvm.Cond.selects "LateJobAdmitModel" ({ cls := "LateJobAdmitModel", name := "welcome", desc := "(II)Z" } : Jvm.MethodName) ({ cls := "LateJobAdmitModel", name := "welcome", desc := "(II)Z" } : Jvm.MethodName)) ∈ lw_all := lw_g (lw_at lw_m0 206 rfl) rfl
theorem q224 : (Jvm.Cond.code ({ cls := "LateJobAdmitModel", name := "welcome", desc := "(II)Z" } : Jvm.MethodName) prog_3_method_20_code (6 : Nat) (Option.some Jvm.ClassFile.FieldType.boolean)) ∈ lw_all := lw_g (lw_at lw_m0 207 rfl) rfl
theorem q225 : (Jvm.Cond.methodLink "LateJobAdmitModel" (63 : Nat) ({ cls := "LateJobAdmitModel", name := "hasLastWith", desc := "(III)Z" } : Jvm.MethodName)) ∈ lw_all := lw_g (lw_at lw_m0 208 rfl) rfl
theorem q226 : (Jvm.Cond.privateMethod ({ cls := "LateJobAdmitModel", name := "hasLastWith", desc := "(III)Z" } : Jvm.MethodName)) ∈ lw_tbl := lw_at lw_m0 209 rfl
theorem q227 : (Jvm.Cond.instanceMethod ({ cls := "LateJobAdmitModel", name := "hasLastWith", desc := "(III)Z" } : Jvm.MethodName)) ∈ lw_all := lw_g (lw_at lw_m0 210 rfl) rfl
theorem q228 : (Jvm.Cond.code ({ cls := "LateJobAdmitModel", name := "hasLastWith", desc := "(III)Z" } : Jvm.MethodName) prog_3_method_19_code (6 : Nat) (Option.some Jvm.ClassFile.FieldType.boolean)) ∈ lw_all := lw_g (lw_at lw_m0 211 rfl) rfl
theorem q230 : (Jvm.Cond.instanceMethod ({ cls := "LateJobAdmitModel", name := "elapse", desc := "(I)I" } : Jvm.MethodName)) ∈ lw_all := lw_g (lw_at lw_m0 213 rfl) rfl
theorem q231 : (Jvm.Cond.selects "LateJobAdmitModel" ({ cls := "LateJobAdmitModel", name := "elapse", desc := "(I)I" } : Jvm.MethodName) ({ cls := "LateJobAdmitModel", name := "elapse", desc := "(I)I" } : Jvm.MethodName)) ∈ lw_all := lw_g (lw_at lw_m0 214 rfl) rfl
theorem q232 : (Jvm.Cond.code ({ cls := "LateJobAdmitModel", name := "elapse", desc := "(I)I" } : Jvm.MethodName) prog_3_method_21_code (3 : Nat) (Option.some Jvm.ClassFile.FieldType.int)) ∈ lw_all := lw_g (lw_at lw_m0 215 rfl) rfl
theorem in_X1 : ∀ w ∈ wsX10, w ∈ lw_all := lw_in wsX10 [139, 141, 143, 145, 147] (by decide +kernel) (by decide +kernel)
end
section
/-! the law's own entry -/
set_option maxRecDepth 100000
abbrev cL_law : ByteArray := code
theorem dL_law_0 : decode cL_law 0 = .ok (.new 7, 3) := by decide +kernel
theorem dL_law_3 : decode cL_law 3 = .ok (.dup, 1) := by decide +kernel
theorem dL_law_4 : decode cL_law 4 = .ok (.invokespecial 9, 3) := by decide +kernel
theorem dL_law_7 : decode cL_law 7 = .ok (.astore_n 1, 1) := by decide +kernel
theorem dL_law_8 : decode cL_law 8 = .ok (.new 10, 3) := by decide +kernel
theorem dL_law_11 : decode cL_law 11 = .ok (.dup, 1) := by decide +kernel
theorem dL_law_12 : decode cL_law 12 = .ok (.invokespecial 12, 3) := by decide +kernel
theorem dL_law_15 : decode cL_law 15 = .ok (.astore_n 2, 1) := by decide +kernel
theorem dL_law_16 : decode cL_law 16 = .ok (.iconst 0, 1) := by decide +kernel
theorem dL_law_17 : decode cL_law 17 = .ok (.istore_n 3, 1) := by decide +kernel
theorem dL_law_18 : decode cL_law 18 = .ok (.iload_n 3, 1) := by decide +kernel
theorem dL_law_19 : decode cL_law 19 = .ok (.aload_n 0, 1) := by decide +kernel
theorem dL_law_20 : decode cL_law 20 = .ok (.arraylength, 1) := by decide +kernel
theorem dL_law_21 : decode cL_law 21 = .ok (.iconst 4, 1) := by decide +kernel
theorem dL_law_22 : decode cL_law 22 = .ok (.isub, 1) := by decide +kernel
theorem dL_law_23 : decode cL_law 23 = .ok (.if_icmp .gt 343, 3) := by decide +kernel
theorem dL_law_26 : decode cL_law 26 = .ok (.aload_n 0, 1) := by decide +kernel
theorem dL_law_27 : decode cL_law 27 = .ok (.iload_n 3, 1) := by decide +kernel
theorem dL_law_28 : decode cL_law 28 = .ok (.iaload, 1) := by decide +kernel
theorem dL_law_29 : decode cL_law 29 = .ok (.bipush 15, 2) := by decide +kernel
theorem dL_law_31 : decode cL_law 31 = .ok (.iand, 1) := by decide +kernel
theorem dL_law_32 : decode cL_law 32 = .ok (.tableswitch 328 0 9 #[56, 115, 138, 187, 200, 223, 236, 249, 272, 305], 56) := by decide +kernel
theorem dL_law_88 : decode cL_law 88 = .ok (.aload_n 1, 1) := by decide +kernel
theorem dL_law_89 : decode cL_law 89 = .ok (.aload_n 0, 1) := by decide +kernel
theorem dL_law_90 : decode cL_law 90 = .ok (.iload_n 3, 1) := by decide +kernel
theorem dL_law_91 : decode cL_law 91 = .ok (.iconst 1, 1) := by decide +kernel
theorem dL_law_92 : decode cL_law 92 = .ok (.iadd, 1) := by decide +kernel
theorem dL_law_93 : decode cL_law 93 = .ok (.iaload, 1) := by decide +kernel
theorem dL_law_94 : decode cL_law 94 = .ok (.aload_n 0, 1) := by decide +kernel
theorem dL_law_95 : decode cL_law 95 = .ok (.iload_n 3, 1) := by decide +kernel
theorem dL_law_96 : decode cL_law 96 = .ok (.iconst 2, 1) := by decide +kernel
theorem dL_law_97 : decode cL_law 97 = .ok (.iadd, 1) := by decide +kernel
theorem dL_law_98 : decode cL_law 98 = .ok (.iaload, 1) := by decide +kernel
theorem dL_law_99 : decode cL_law 99 = .ok (.aload_n 0, 1) := by decide +kernel
theorem dL_law_100 : decode cL_law 100 = .ok (.iload_n 3, 1) := by decide +kernel
theorem dL_law_101 : decode cL_law 101 = .ok (.iconst 3, 1) := by decide +kernel
theorem dL_law_102 : decode cL_law 102 = .ok (.iadd, 1) := by decide +kernel
theorem dL_law_103 : decode cL_law 103 = .ok (.iaload, 1) := by decide +kernel
theorem dL_law_104 : decode cL_law 104 = .ok (.ifCond .eq 7, 3) := by decide +kernel
theorem dL_law_107 : decode cL_law 107 = .ok (.iconst 1, 1) := by decide +kernel
theorem dL_law_108 : decode cL_law 108 = .ok (.goto 4, 3) := by decide +kernel
theorem dL_law_111 : decode cL_law 111 = .ok (.iconst 0, 1) := by decide +kernel
theorem dL_law_112 : decode cL_law 112 = .ok (.invokevirtual 13, 3) := by decide +kernel
theorem dL_law_115 : decode cL_law 115 = .ok (.aload_n 2, 1) := by decide +kernel
theorem dL_law_116 : decode cL_law 116 = .ok (.aload_n 0, 1) := by decide +kernel
theorem dL_law_117 : decode cL_law 117 = .ok (.iload_n 3, 1) := by decide +kernel
theorem dL_law_118 : decode cL_law 118 = .ok (.iconst 1, 1) := by decide +kernel
theorem dL_law_119 : decode cL_law 119 = .ok (.iadd, 1) := by decide +kernel
theorem dL_law_120 : decode cL_law 120 = .ok (.iaload, 1) := by decide +kernel
theorem dL_law_121 : decode cL_law 121 = .ok (.aload_n 0, 1) := by decide +kernel
theorem dL_law_122 : decode cL_law 122 = .ok (.iload_n 3, 1) := by decide +kernel
theorem dL_law_123 : decode cL_law 123 = .ok (.iconst 2, 1) := by decide +kernel
theorem dL_law_124 : decode cL_law 124 = .ok (.iadd, 1) := by decide +kernel
theorem dL_law_125 : decode cL_law 125 = .ok (.iaload, 1) := by decide +kernel
theorem dL_law_126 : decode cL_law 126 = .ok (.aload_n 0, 1) := by decide +kernel
theorem dL_law_127 : decode cL_law 127 = .ok (.iload_n 3, 1) := by decide +kernel
theorem dL_law_128 : decode cL_law 128 = .ok (.iconst 3, 1) := by decide +kernel
theorem dL_law_129 : decode cL_law 129 = .ok (.iadd, 1) := by decide +kernel
theorem dL_law_130 : decode cL_law 130 = .ok (.iaload, 1) := by decide +kernel
theorem dL_law_131 : decode cL_law 131 = .ok (.ifCond .eq 7, 3) := by decide +kernel
theorem dL_law_134 : decode cL_law 134 = .ok (.iconst 1, 1) := by decide +kernel
theorem dL_law_135 : decode cL_law 135 = .ok (.goto 4, 3) := by decide +kernel
theorem dL_law_138 : decode cL_law 138 = .ok (.iconst 0, 1) := by decide +kernel
theorem dL_law_139 : decode cL_law 139 = .ok (.invokevirtual 17, 3) := by decide +kernel
theorem dL_law_142 : decode cL_law 142 = .ok (.if_icmp .eq 218, 3) := by decide +kernel
theorem dL_law_145 : decode cL_law 145 = .ok (.iconst 0, 1) := by decide +kernel
theorem dL_law_146 : decode cL_law 146 = .ok (.ireturn, 1) := by decide +kernel
theorem dL_law_147 : decode cL_law 147 = .ok (.aload_n 1, 1) := by decide +kernel
theorem dL_law_148 : decode cL_law 148 = .ok (.aload_n 0, 1) := by decide +kernel
theorem dL_law_149 : decode cL_law 149 = .ok (.iload_n 3, 1) := by decide +kernel
theorem dL_law_150 : decode cL_law 150 = .ok (.iconst 1, 1) := by decide +kernel
theorem dL_law_151 : decode cL_law 151 = .ok (.iadd, 1) := by decide +kernel
theorem dL_law_152 : decode cL_law 152 = .ok (.iaload, 1) := by decide +kernel
theorem dL_law_153 : decode cL_law 153 = .ok (.invokevirtual 18, 3) := by decide +kernel
theorem dL_law_156 : decode cL_law 156 = .ok (.aload_n 2, 1) := by decide +kernel
theorem dL_law_157 : decode cL_law 157 = .ok (.aload_n 0, 1) := by decide +kernel
theorem dL_law_158 : decode cL_law 158 = .ok (.iload_n 3, 1) := by decide +kernel
theorem dL_law_159 : decode cL_law 159 = .ok (.iconst 1, 1) := by decide +kernel
theorem dL_law_160 : decode cL_law 160 = .ok (.iadd, 1) := by decide +kernel
theorem dL_law_161 : decode cL_law 161 = .ok (.iaload, 1) := by decide +kernel
theorem dL_law_162 : decode cL_law 162 = .ok (.invokevirtual 22, 3) := by decide +kernel
theorem dL_law_165 : decode cL_law 165 = .ok (.if_icmp .eq 195, 3) := by decide +kernel
theorem dL_law_168 : decode cL_law 168 = .ok (.iconst 0, 1) := by decide +kernel
theorem dL_law_169 : decode cL_law 169 = .ok (.ireturn, 1) := by decide +kernel
theorem dL_law_170 : decode cL_law 170 = .ok (.aload_n 1, 1) := by decide +kernel
theorem dL_law_171 : decode cL_law 171 = .ok (.aload_n 0, 1) := by decide +kernel
theorem dL_law_172 : decode cL_law 172 = .ok (.iload_n 3, 1) := by decide +kernel
theorem dL_law_173 : decode cL_law 173 = .ok (.iconst 1, 1) := by decide +kernel
theorem dL_law_174 : decode cL_law 174 = .ok (.iadd, 1) := by decide +kernel
theorem dL_law_175 : decode cL_law 175 = .ok (.iaload, 1) := by decide +kernel
theorem dL_law_176 : decode cL_law 176 = .ok (.aload_n 0, 1) := by decide +kernel
theorem dL_law_177 : decode cL_law 177 = .ok (.iload_n 3, 1) := by decide +kernel
theorem dL_law_178 : decode cL_law 178 = .ok (.iconst 2, 1) := by decide +kernel
theorem dL_law_179 : decode cL_law 179 = .ok (.iadd, 1) := by decide +kernel
theorem dL_law_180 : decode cL_law 180 = .ok (.iaload, 1) := by decide +kernel
theorem dL_law_181 : decode cL_law 181 = .ok (.ifCond .eq 7, 3) := by decide +kernel
theorem dL_law_184 : decode cL_law 184 = .ok (.iconst 1, 1) := by decide +kernel
theorem dL_law_185 : decode cL_law 185 = .ok (.goto 4, 3) := by decide +kernel
theorem dL_law_188 : decode cL_law 188 = .ok (.iconst 0, 1) := by decide +kernel
theorem dL_law_189 : decode cL_law 189 = .ok (.invokevirtual 23, 3) := by decide +kernel
theorem dL_law_192 : decode cL_law 192 = .ok (.aload_n 2, 1) := by decide +kernel
theorem dL_law_193 : decode cL_law 193 = .ok (.aload_n 0, 1) := by decide +kernel
theorem dL_law_194 : decode cL_law 194 = .ok (.iload_n 3, 1) := by decide +kernel
theorem dL_law_195 : decode cL_law 195 = .ok (.iconst 1, 1) := by decide +kernel
theorem dL_law_196 : decode cL_law 196 = .ok (.iadd, 1) := by decide +kernel
theorem dL_law_197 : decode cL_law 197 = .ok (.iaload, 1) := by decide +kernel
theorem dL_law_198 : decode cL_law 198 = .ok (.aload_n 0, 1) := by decide +kernel
theorem dL_law_199 : decode cL_law 199 = .ok (.iload_n 3, 1) := by decide +kernel
theorem dL_law_200 : decode cL_law 200 = .ok (.iconst 2, 1) := by decide +kernel
theorem dL_law_201 : decode cL_law 201 = .ok (.iadd, 1) := by decide +kernel
theorem dL_law_202 : decode cL_law 202 = .ok (.iaload, 1) := by decide +kernel
theorem dL_law_203 : decode cL_law 203 = .ok (.ifCond .eq 7, 3) := by decide +kernel
theorem dL_law_206 : decode cL_law 206 = .ok (.iconst 1, 1) := by decide +kernel
theorem dL_law_207 : decode cL_law 207 = .ok (.goto 4, 3) := by decide +kernel
theorem dL_law_210 : decode cL_law 210 = .ok (.iconst 0, 1) := by decide +kernel
theorem dL_law_211 : decode cL_law 211 = .ok (.invokevirtual 27, 3) := by decide +kernel
theorem dL_law_214 : decode cL_law 214 = .ok (.if_icmp .eq 146, 3) := by decide +kernel
theorem dL_law_217 : decode cL_law 217 = .ok (.iconst 0, 1) := by decide +kernel
theorem dL_law_218 : decode cL_law 218 = .ok (.ireturn, 1) := by decide +kernel
theorem dL_law_219 : decode cL_law 219 = .ok (.aload_n 1, 1) := by decide +kernel
theorem dL_law_220 : decode cL_law 220 = .ok (.invokevirtual 28, 3) := by decide +kernel
theorem dL_law_223 : decode cL_law 223 = .ok (.aload_n 2, 1) := by decide +kernel
theorem dL_law_224 : decode cL_law 224 = .ok (.invokevirtual 32, 3) := by decide +kernel
theorem dL_law_227 : decode cL_law 227 = .ok (.if_icmp .eq 133, 3) := by decide +kernel
theorem dL_law_230 : decode cL_law 230 = .ok (.iconst 0, 1) := by decide +kernel
theorem dL_law_231 : decode cL_law 231 = .ok (.ireturn, 1) := by decide +kernel
theorem dL_law_232 : decode cL_law 232 = .ok (.aload_n 1, 1) := by decide +kernel
theorem dL_law_233 : decode cL_law 233 = .ok (.aload_n 0, 1) := by decide +kernel
theorem dL_law_234 : decode cL_law 234 = .ok (.iload_n 3, 1) := by decide +kernel
theorem dL_law_235 : decode cL_law 235 = .ok (.iconst 1, 1) := by decide +kernel
theorem dL_law_236 : decode cL_law 236 = .ok (.iadd, 1) := by decide +kernel
theorem dL_law_237 : decode cL_law 237 = .ok (.iaload, 1) := by decide +kernel
theorem dL_law_238 : decode cL_law 238 = .ok (.invokevirtual 33, 3) := by decide +kernel
theorem dL_law_241 : decode cL_law 241 = .ok (.aload_n 2, 1) := by decide +kernel
theorem dL_law_242 : decode cL_law 242 = .ok (.aload_n 0, 1) := by decide +kernel
theorem dL_law_243 : decode cL_law 243 = .ok (.iload_n 3, 1) := by decide +kernel
theorem dL_law_244 : decode cL_law 244 = .ok (.iconst 1, 1) := by decide +kernel
theorem dL_law_245 : decode cL_law 245 = .ok (.iadd, 1) := by decide +kernel
theorem dL_law_246 : decode cL_law 246 = .ok (.iaload, 1) := by decide +kernel
theorem dL_law_247 : decode cL_law 247 = .ok (.invokevirtual 37, 3) := by decide +kernel
theorem dL_law_250 : decode cL_law 250 = .ok (.if_icmp .eq 110, 3) := by decide +kernel
theorem dL_law_253 : decode cL_law 253 = .ok (.iconst 0, 1) := by decide +kernel
theorem dL_law_254 : decode cL_law 254 = .ok (.ireturn, 1) := by decide +kernel
theorem dL_law_255 : decode cL_law 255 = .ok (.aload_n 1, 1) := by decide +kernel
theorem dL_law_256 : decode cL_law 256 = .ok (.invokevirtual 38, 3) := by decide +kernel
theorem dL_law_259 : decode cL_law 259 = .ok (.aload_n 2, 1) := by decide +kernel
theorem dL_law_260 : decode cL_law 260 = .ok (.invokevirtual 41, 3) := by decide +kernel
theorem dL_law_263 : decode cL_law 263 = .ok (.if_icmp .eq 97, 3) := by decide +kernel
theorem dL_law_266 : decode cL_law 266 = .ok (.iconst 0, 1) := by decide +kernel
theorem dL_law_267 : decode cL_law 267 = .ok (.ireturn, 1) := by decide +kernel
theorem dL_law_268 : decode cL_law 268 = .ok (.aload_n 1, 1) := by decide +kernel
theorem dL_law_269 : decode cL_law 269 = .ok (.invokevirtual 42, 3) := by decide +kernel
theorem dL_law_272 : decode cL_law 272 = .ok (.aload_n 2, 1) := by decide +kernel
theorem dL_law_273 : decode cL_law 273 = .ok (.invokevirtual 45, 3) := by decide +kernel
theorem dL_law_276 : decode cL_law 276 = .ok (.if_icmp .eq 84, 3) := by decide +kernel
theorem dL_law_279 : decode cL_law 279 = .ok (.iconst 0, 1) := by decide +kernel
theorem dL_law_280 : decode cL_law 280 = .ok (.ireturn, 1) := by decide +kernel
theorem dL_law_281 : decode cL_law 281 = .ok (.aload_n 1, 1) := by decide +kernel
theorem dL_law_282 : decode cL_law 282 = .ok (.aload_n 0, 1) := by decide +kernel
theorem dL_law_283 : decode cL_law 283 = .ok (.iload_n 3, 1) := by decide +kernel
theorem dL_law_284 : decode cL_law 284 = .ok (.iconst 1, 1) := by decide +kernel
theorem dL_law_285 : decode cL_law 285 = .ok (.iadd, 1) := by decide +kernel
theorem dL_law_286 : decode cL_law 286 = .ok (.iaload, 1) := by decide +kernel
theorem dL_law_287 : decode cL_law 287 = .ok (.invokevirtual 46, 3) := by decide +kernel
theorem dL_law_290 : decode cL_law 290 = .ok (.aload_n 2, 1) := by decide +kernel
theorem dL_law_291 : decode cL_law 291 = .ok (.aload_n 0, 1) := by decide +kernel
theorem dL_law_292 : decode cL_law 292 = .ok (.iload_n 3, 1) := by decide +kernel
theorem dL_law_293 : decode cL_law 293 = .ok (.iconst 1, 1) := by decide +kernel
theorem dL_law_294 : decode cL_law 294 = .ok (.iadd, 1) := by decide +kernel
theorem dL_law_295 : decode cL_law 295 = .ok (.iaload, 1) := by decide +kernel
theorem dL_law_296 : decode cL_law 296 = .ok (.invokevirtual 49, 3) := by decide +kernel
theorem dL_law_299 : decode cL_law 299 = .ok (.if_icmp .eq 61, 3) := by decide +kernel
theorem dL_law_302 : decode cL_law 302 = .ok (.iconst 0, 1) := by decide +kernel
theorem dL_law_303 : decode cL_law 303 = .ok (.ireturn, 1) := by decide +kernel
theorem dL_law_304 : decode cL_law 304 = .ok (.aload_n 1, 1) := by decide +kernel
theorem dL_law_305 : decode cL_law 305 = .ok (.aload_n 0, 1) := by decide +kernel
theorem dL_law_306 : decode cL_law 306 = .ok (.iload_n 3, 1) := by decide +kernel
theorem dL_law_307 : decode cL_law 307 = .ok (.iconst 1, 1) := by decide +kernel
theorem dL_law_308 : decode cL_law 308 = .ok (.iadd, 1) := by decide +kernel
theorem dL_law_309 : decode cL_law 309 = .ok (.iaload, 1) := by decide +kernel
theorem dL_law_310 : decode cL_law 310 = .ok (.aload_n 0, 1) := by decide +kernel
theorem dL_law_311 : decode cL_law 311 = .ok (.iload_n 3, 1) := by decide +kernel
theorem dL_law_312 : decode cL_law 312 = .ok (.iconst 2, 1) := by decide +kernel
theorem dL_law_313 : decode cL_law 313 = .ok (.iadd, 1) := by decide +kernel
theorem dL_law_314 : decode cL_law 314 = .ok (.iaload, 1) := by decide +kernel
theorem dL_law_315 : decode cL_law 315 = .ok (.invokevirtual 50, 3) := by decide +kernel
theorem dL_law_318 : decode cL_law 318 = .ok (.aload_n 2, 1) := by decide +kernel
theorem dL_law_319 : decode cL_law 319 = .ok (.aload_n 0, 1) := by decide +kernel
theorem dL_law_320 : decode cL_law 320 = .ok (.iload_n 3, 1) := by decide +kernel
theorem dL_law_321 : decode cL_law 321 = .ok (.iconst 1, 1) := by decide +kernel
theorem dL_law_322 : decode cL_law 322 = .ok (.iadd, 1) := by decide +kernel
theorem dL_law_323 : decode cL_law 323 = .ok (.iaload, 1) := by decide +kernel
theorem dL_law_324 : decode cL_law 324 = .ok (.aload_n 0, 1) := by decide +kernel
theorem dL_law_325 : decode cL_law 325 = .ok (.iload_n 3, 1) := by decide +kernel
theorem dL_law_326 : decode cL_law 326 = .ok (.iconst 2, 1) := by decide +kernel
theorem dL_law_327 : decode cL_law 327 = .ok (.iadd, 1) := by decide +kernel
theorem dL_law_328 : decode cL_law 328 = .ok (.iaload, 1) := by decide +kernel
theorem dL_law_329 : decode cL_law 329 = .ok (.invokevirtual 54, 3) := by decide +kernel
theorem dL_law_332 : decode cL_law 332 = .ok (.if_icmp .eq 28, 3) := by decide +kernel
theorem dL_law_335 : decode cL_law 335 = .ok (.iconst 0, 1) := by decide +kernel
theorem dL_law_336 : decode cL_law 336 = .ok (.ireturn, 1) := by decide +kernel
theorem dL_law_337 : decode cL_law 337 = .ok (.aload_n 1, 1) := by decide +kernel
theorem dL_law_338 : decode cL_law 338 = .ok (.aload_n 0, 1) := by decide +kernel
theorem dL_law_339 : decode cL_law 339 = .ok (.iload_n 3, 1) := by decide +kernel
theorem dL_law_340 : decode cL_law 340 = .ok (.iconst 1, 1) := by decide +kernel
theorem dL_law_341 : decode cL_law 341 = .ok (.iadd, 1) := by decide +kernel
theorem dL_law_342 : decode cL_law 342 = .ok (.iaload, 1) := by decide +kernel
theorem dL_law_343 : decode cL_law 343 = .ok (.invokevirtual 55, 3) := by decide +kernel
theorem dL_law_346 : decode cL_law 346 = .ok (.aload_n 2, 1) := by decide +kernel
theorem dL_law_347 : decode cL_law 347 = .ok (.aload_n 0, 1) := by decide +kernel
theorem dL_law_348 : decode cL_law 348 = .ok (.iload_n 3, 1) := by decide +kernel
theorem dL_law_349 : decode cL_law 349 = .ok (.iconst 1, 1) := by decide +kernel
theorem dL_law_350 : decode cL_law 350 = .ok (.iadd, 1) := by decide +kernel
theorem dL_law_351 : decode cL_law 351 = .ok (.iaload, 1) := by decide +kernel
theorem dL_law_352 : decode cL_law 352 = .ok (.invokevirtual 58, 3) := by decide +kernel
theorem dL_law_355 : decode cL_law 355 = .ok (.if_icmp .eq 5, 3) := by decide +kernel
theorem dL_law_358 : decode cL_law 358 = .ok (.iconst 0, 1) := by decide +kernel
theorem dL_law_359 : decode cL_law 359 = .ok (.ireturn, 1) := by decide +kernel
theorem dL_law_360 : decode cL_law 360 = .ok (.iinc 3 4, 3) := by decide +kernel
theorem dL_law_363 : decode cL_law 363 = .ok (.goto (-345), 3) := by decide +kernel
theorem dL_law_366 : decode cL_law 366 = .ok (.iconst 1, 1) := by decide +kernel
theorem dL_law_367 : decode cL_law 367 = .ok (.ireturn, 1) := by decide +kernel
def RJ0 : String := "java/lang/Object"
abbrev cJ0_init : ByteArray := object_method_1_code
def yJ0_init : MethodName := ⟨RJ0, "<init>", "()V"⟩
theorem dJ0_init_0 : decode cJ0_init 0 = .ok (.return_, 1) := by decide +kernel
theorem q26 : (Jvm.Cond.instanceMethod ({ cls := "java/lang/Object", name := "<init>", desc := "()V" } : Jvm.MethodName)) ∈ lw_all := lw_g (lw_at lw_m0 9 rfl) rfl
theorem q27 : (Jvm.Cond.code ({ cls := "java/lang/Object", name := "<init>", desc := "()V" } : Jvm.MethodName) object_method_1_code (1 : Nat) (Option.none : Option Jvm.ClassFile.FieldType)) ∈ lw_all := lw_g (lw_at lw_m0 10 rfl) rfl
theorem q17 : (Jvm.Cond.initialized "LateJobAdmitLaw") ∈ lw_all := lw_g (lw_at lw_m0 0 rfl) rfl
theorem q20 : (Jvm.Cond.classLink "LateJobAdmitLaw" (7 : Nat) "LateJobAdmit") ∈ lw_all := lw_g (lw_at lw_m0 3 rfl) rfl
theorem q22 : (Jvm.Cond.methodLink "LateJobAdmitLaw" (9 : Nat) ({ cls := "LateJobAdmit", name := "<init>", desc := "()V" } : Jvm.MethodName)) ∈ lw_all := lw_g (lw_at lw_m0 5 rfl) rfl
theorem q59 : (Jvm.Cond.methodLink "LateJobAdmitLaw" (13 : Nat) ({ cls := "LateJobAdmit", name := "put", desc := "(IIZ)I" } : Jvm.MethodName)) ∈ lw_all := lw_g (lw_at lw_m0 42 rfl) rfl
theorem q71 : (Jvm.Cond.methodLink "LateJobAdmitLaw" (18 : Nat) ({ cls := "LateJobAdmit", name := "drop", desc := "(I)I" } : Jvm.MethodName)) ∈ lw_all := lw_g (lw_at lw_m0 54 rfl) rfl
theorem q83 : (Jvm.Cond.methodLink "LateJobAdmitLaw" (23 : Nat) ({ cls := "LateJobAdmit", name := "makeFirm", desc := "(IZ)Z" } : Jvm.MethodName)) ∈ lw_all := lw_g (lw_at lw_m0 66 rfl) rfl
theorem q87 : (Jvm.Cond.methodLink "LateJobAdmitLaw" (28 : Nat) ({ cls := "LateJobAdmit", name := "jobs", desc := "()I" } : Jvm.MethodName)) ∈ lw_all := lw_g (lw_at lw_m0 70 rfl) rfl
theorem q91 : (Jvm.Cond.methodLink "LateJobAdmitLaw" (33 : Nat) ({ cls := "LateJobAdmit", name := "feasible", desc := "(I)Z" } : Jvm.MethodName)) ∈ lw_all := lw_g (lw_at lw_m0 74 rfl) rfl
theorem q99 : (Jvm.Cond.methodLink "LateJobAdmitLaw" (38 : Nat) ({ cls := "LateJobAdmit", name := "mostInTime", desc := "()I" } : Jvm.MethodName)) ∈ lw_all := lw_g (lw_at lw_m0 82 rfl) rfl
theorem q111 : (Jvm.Cond.methodLink "LateJobAdmitLaw" (42 : Nat) ({ cls := "LateJobAdmit", name := "leastTime", desc := "()I" } : Jvm.MethodName)) ∈ lw_all := lw_g (lw_at lw_m0 94 rfl) rfl
theorem q115 : (Jvm.Cond.methodLink "LateJobAdmitLaw" (46 : Nat) ({ cls := "LateJobAdmit", name := "affordable", desc := "(I)Z" } : Jvm.MethodName)) ∈ lw_all := lw_g (lw_at lw_m0 98 rfl) rfl
theorem q119 : (Jvm.Cond.methodLink "LateJobAdmitLaw" (50 : Nat) ({ cls := "LateJobAdmit", name := "welcome", desc := "(II)Z" } : Jvm.MethodName)) ∈ lw_all := lw_g (lw_at lw_m0 102 rfl) rfl
theorem q123 : (Jvm.Cond.methodLink "LateJobAdmitLaw" (55 : Nat) ({ cls := "LateJobAdmit", name := "elapse", desc := "(I)I" } : Jvm.MethodName)) ∈ lw_all := lw_g (lw_at lw_m0 106 rfl) rfl
theorem q128 : (Jvm.Cond.classLink "LateJobAdmitLaw" (10 : Nat) "LateJobAdmitModel") ∈ lw_all := lw_g (lw_at lw_m0 111 rfl) rfl
theorem q130 : (Jvm.Cond.methodLink "LateJobAdmitLaw" (12 : Nat) ({ cls := "LateJobAdmitModel", name := "<init>", desc := "()V" } : Jvm.MethodName)) ∈ lw_all := lw_g (lw_at lw_m0 113 rfl) rfl
theorem q151 : (Jvm.Cond.methodLink "LateJobAdmitLaw" (17 : Nat) ({ cls := "LateJobAdmitModel", name := "put", desc := "(IIZ)I" } : Jvm.MethodName)) ∈ lw_all := lw_g (lw_at lw_m0 134 rfl) rfl
theorem q159 : (Jvm.Cond.methodLink "LateJobAdmitLaw" (22 : Nat) ({ cls := "LateJobAdmitModel", name := "drop", desc := "(I)I" } : Jvm.MethodName)) ∈ lw_all := lw_g (lw_at lw_m0 142 rfl) rfl
theorem q171 : (Jvm.Cond.methodLink "LateJobAdmitLaw" (27 : Nat) ({ cls := "LateJobAdmitModel", name := "makeFirm", desc := "(IZ)Z" } : Jvm.MethodName)) ∈ lw_all := lw_g (lw_at lw_m0 154 rfl) rfl
theorem q175 : (Jvm.Cond.methodLink "LateJobAdmitLaw" (32 : Nat) ({ cls := "LateJobAdmitModel", name := "jobs", desc := "()I" } : Jvm.MethodName)) ∈ lw_all := lw_g (lw_at lw_m0 158 rfl) rfl
theorem q176 : (Jvm.Cond.methodLink "LateJobAdmitLaw" (37 : Nat) ({ cls := "LateJobAdmitModel", name := "feasible", desc := "(I)Z" } : Jvm.MethodName)) ∈ lw_all := lw_g (lw_at lw_m0 159 rfl) rfl
theorem q196 : (Jvm.Cond.methodLink "LateJobAdmitLaw" (41 : Nat) ({ cls := "LateJobAdmitModel", name := "mostInTime", desc := "()I" } : Jvm.MethodName)) ∈ lw_all := lw_g (lw_at lw_m0 179 rfl) rfl
theorem q212 : (Jvm.Cond.methodLink "LateJobAdmitLaw" (45 : Nat) ({ cls := "LateJobAdmitModel", name := "leastTime", desc := "()I" } : Jvm.MethodName)) ∈ lw_all := lw_g (lw_at lw_m0 195 rfl) rfl
theorem q216 : (Jvm.Cond.methodLink "LateJobAdmitLaw" (49 : Nat) ({ cls := "LateJobAdmitModel", name := "affordable", desc := "(I)Z" } : Jvm.MethodName)) ∈ lw_all := lw_g (lw_at lw_m0 199 rfl) rfl
theorem q221 : (Jvm.Cond.methodLink "LateJobAdmitLaw" (54 : Nat) ({ cls := "LateJobAdmitModel", name := "welcome", desc := "(II)Z" } : Jvm.MethodName)) ∈ lw_all := lw_g (lw_at lw_m0 204 rfl) rfl
theorem q229 : (Jvm.Cond.methodLink "LateJobAdmitLaw" (58 : Nat) ({ cls := "LateJobAdmitModel", name := "elapse", desc := "(I)I" } : Jvm.MethodName)) ∈ lw_all := lw_g (lw_at lw_m0 212 rfl) rfl
theorem q56 : (Jvm.Cond.arrayClass Jvm.ClassFile.FieldType.byte) ∈ lw_all := lw_g (lw_at lw_m0 39 rfl) rfl
theorem q57 : (Jvm.Cond.arrayClass Jvm.ClassFile.FieldType.short) ∈ lw_all := lw_g (lw_at lw_m0 40 rfl) rfl
theorem q58 : (Jvm.Cond.arrayClass Jvm.ClassFile.FieldType.boolean) ∈ lw_all := lw_g (lw_at lw_m0 41 rfl) rfl
theorem q150 : (Jvm.Cond.arrayClass Jvm.ClassFile.FieldType.int) ∈ lw_all := lw_g (lw_at lw_m0 133 rfl) rfl
end
section
/-! PURE 1: sums over sets of places, feasible sets -/
section LJPURE
/-- the sum of f over the places below n that are in S -/
def lj_sm (S : Nat → Bool) (f : Nat → Nat) : Nat → Nat
  | 0 => 0
  | n + 1 => lj_sm S f n + (if S n = true then f n else 0)
theorem lj_sm_succ (S : Nat → Bool) (f : Nat → Nat) (n : Nat) : lj_sm S f (n + 1) = lj_sm S f n + (if S n = true then f n else 0) := rfl
theorem lj_sm_congr {S T : Nat → Bool} {f h : Nat → Nat} {n : Nat} (hS : ∀ i, i < n → S i = T i) (hf : ∀ i, i < n → T i = true → f i = h i) : lj_sm S f n = lj_sm T h n := by
  induction n with
  | zero => rfl
  | succ n ih =>
    have h1 := ih (fun i hi => hS i (by omega)) (fun i hi => hf i (by omega))
    have h2 := hS n (by omega)
    have h3 := hf n (by omega)
    simp only [lj_sm, h1, h2]
    by_cases ht : T n = true
    · simp [ht, h3 ht]
    · simp [ht]
theorem lj_sm_mono {S T : Nat → Bool} {f : Nat → Nat} {n : Nat} (h : ∀ i, i < n → S i = true → T i = true) : lj_sm S f n ≤ lj_sm T f n := by
  induction n with
  | zero => exact Nat.le_refl _
  | succ n ih =>
    have h1 := ih (fun i hi => h i (by omega))
    have h2 := h n (by omega)
    simp only [lj_sm]
    by_cases hs : S n = true
    · rw [if_pos hs, if_pos (h2 hs)]; omega
    · rw [if_neg hs]; omega
theorem lj_sm_out {S : Nat → Bool} {f : Nat → Nat} {g n : Nat} (b : Bool) (h : n ≤ g) : lj_sm (va_up S g b) f n = lj_sm S f n :=
  lj_sm_congr (fun i hi => va_up_ne S b (by omega)) (fun _ _ _ => rfl)
theorem lj_sm_up {S : Nat → Bool} {f : Nat → Nat} {g n : Nat} (b : Bool) (hg : g < n) : lj_sm (va_up S g b) f n + (if S g = true then f g else 0) = lj_sm S f n + (if b = true then f g else 0) := by
  induction n with
  | zero => omega
  | succ n ih =>
    simp only [lj_sm]
    by_cases hn : g = n
    · subst hn
      rw [lj_sm_out b (Nat.le_refl _), va_up_self]
      omega
    · have h1 := ih (by omega)
      rw [va_up_ne S b (Ne.symm hn)]
      omega
theorem lj_sm_ins {S : Nat → Bool} {f : Nat → Nat} {g n : Nat} (hg : g < n) (h : S g = false) : lj_sm (va_up S g true) f n = lj_sm S f n + f g := by
  have h1 := lj_sm_up (S := S) (f := f) true hg
  rw [if_neg (by rw [h]; decide), if_pos rfl] at h1
  omega
theorem lj_sm_del {S : Nat → Bool} {f : Nat → Nat} {g n : Nat} (hg : g < n) (h : S g = true) : lj_sm (va_up S g false) f n + f g = lj_sm S f n := by
  have h1 := lj_sm_up (S := S) (f := f) false hg
  rw [if_pos h, if_neg (by decide)] at h1
  omega
theorem lj_sm_none {S : Nat → Bool} {f : Nat → Nat} {n : Nat} (h : ∀ i, i < n → S i = false) : lj_sm S f n = 0 := by
  induction n with
  | zero => rfl
  | succ n ih =>
    have h1 := ih (fun i hi => h i (by omega))
    have h2 := h n (by omega)
    simp [lj_sm, h1, h2]
theorem lj_sm_le {S : Nat → Bool} {n : Nat} : lj_sm S (fun _ => 1) n ≤ n := by
  induction n with
  | zero => exact Nat.le_refl _
  | succ n ih =>
    simp only [lj_sm]
    by_cases h : S n = true
    · rw [if_pos h]; omega
    · rw [if_neg h]; omega
theorem lj_sm_leB {S : Nat → Bool} {f : Nat → Nat} {b n : Nat} (h : ∀ i, i < n → f i ≤ b) : lj_sm S f n ≤ b * n := by
  induction n with
  | zero => exact Nat.zero_le _
  | succ n ih =>
    have h1 := ih (fun i hi => h i (by omega))
    have h2 := h n (by omega)
    simp only [lj_sm]
    rw [Nat.mul_succ]
    by_cases h : S n = true
    · rw [if_pos h]; omega
    · rw [if_neg h]; omega
theorem lj_sm_zero {S : Nat → Bool} {n : Nat} (h : lj_sm S (fun _ => 1) n = 0) : ∀ i, i < n → S i = false := by
  induction n with
  | zero => intro i hi; omega
  | succ n ih =>
    simp only [lj_sm] at h
    intro i hi
    by_cases e : i = n
    · subst e
      cases hs : S i
      · rfl
      · rw [hs, if_pos rfl] at h; omega
    · exact ih (by omega) i (by omega)
theorem lj_sm_eq {C A : Nat → Bool} {n : Nat} (h : ∀ i, i < n → C i = true → A i = true) (he : lj_sm A (fun _ => 1) n ≤ lj_sm C (fun _ => 1) n) : ∀ i, i < n → C i = A i := by
  induction n with
  | zero => intro i hi; omega
  | succ n ih =>
    have hm : lj_sm C (fun _ => 1) n ≤ lj_sm A (fun _ => 1) n := lj_sm_mono (fun i hi => h i (by omega))
    have h2 := h n (by omega)
    simp only [lj_sm] at he
    have h3 : lj_sm A (fun _ => 1) n ≤ lj_sm C (fun _ => 1) n := by
      by_cases hc : C n = true
      · rw [if_pos hc, if_pos (h2 hc)] at he; omega
      · rw [if_neg hc] at he; omega
    intro i hi
    by_cases e : i = n
    · subst e
      cases hc : C i
      · cases ha : A i
        · rfl
        · rw [hc, ha, if_pos rfl, if_neg (by decide)] at he; omega
      · exact (h2 hc).symm
    · exact ih (fun i hi => h i (by omega)) h3 i (by omega)
theorem lj_max (B : Nat → Bool) (d : Nat → Nat) (n : Nat) : (∀ i, i < n → B i = false) ∨ ∃ j, j < n ∧ B j = true ∧ ∀ i, i < n → B i = true → d i ≤ d j := by
  induction n with
  | zero => exact Or.inl (fun i hi => by omega)
  | succ n ih =>
    rcases ih with h | ⟨j, hj, hB, hm⟩
    · cases hb : B n
      · left
        intro i hi
        by_cases e : i = n
        · rw [e]; exact hb
        · exact h i (by omega)
      · right
        refine ⟨n, by omega, hb, fun i hi hi2 => ?_⟩
        by_cases e : i = n
        · rw [e]; exact Nat.le_refl _
        · rw [h i (by omega)] at hi2; cases hi2
    · right
      cases hb : B n
      · refine ⟨j, by omega, hB, fun i hi hi2 => ?_⟩
        by_cases e : i = n
        · rw [e, hb] at hi2; cases hi2
        · exact hm i (by omega) hi2
      · by_cases hd : d n ≤ d j
        · refine ⟨j, by omega, hB, fun i hi hi2 => ?_⟩
          by_cases e : i = n
          · rw [e]; exact hd
          · exact hm i (by omega) hi2
        · refine ⟨n, by omega, hb, fun i hi hi2 => ?_⟩
          by_cases e : i = n
          · rw [e]; exact Nat.le_refl _
          · have h9 := hm i (by omega) hi2
            omega
/-- the set S of places can be done in time (in some order): said without an order -/
def lj_fe (len dl : Nat → Nat) (S : Nat → Bool) : Prop := ∀ j, j < 11 → S j = true → 0 < len j ∧ lj_sm (fun i => S i && decide (dl i ≤ dl j)) len 11 ≤ dl j
theorem lj_fe_mono {len dl : Nat → Nat} {S T : Nat → Bool} (h : ∀ i, i < 11 → T i = true → S i = true) (hS : lj_fe len dl S) : lj_fe len dl T := by
  intro j hj hT
  obtain ⟨h1, h2⟩ := hS j hj (h j hj hT)
  refine ⟨h1, Nat.le_trans (lj_sm_mono ?_) h2⟩
  intro i hi hi2
  rw [Bool.and_eq_true] at hi2 ⊢
  exact ⟨h i hi hi2.1, hi2.2⟩
theorem lj_fe_congr {len dl : Nat → Nat} {S T : Nat → Bool} (h : ∀ i, i < 11 → S i = T i) : lj_fe len dl S ↔ lj_fe len dl T :=
  ⟨lj_fe_mono (fun i hi q => (h i hi).trans q), lj_fe_mono (fun i hi q => (h i hi).symm.trans q)⟩
theorem lj_fe_data {len dl len' dl' : Nat → Nat} {S : Nat → Bool} (hl : ∀ i, i < 11 → S i = true → len i = len' i) (hd : ∀ i, i < 11 → S i = true → dl i = dl' i) (h : lj_fe len dl S) : lj_fe len' dl' S := by
  intro j hj hS
  obtain ⟨h1, h2⟩ := h j hj hS
  refine ⟨by rw [← hl j hj hS]; exact h1, ?_⟩
  rw [← hd j hj hS]
  refine Nat.le_trans (Nat.le_of_eq ?_) h2
  refine lj_sm_congr ?_ ?_
  · intro i hi
    cases hs : S i
    · rfl
    · rw [hd i hi hs]
  · intro i hi q
    rw [Bool.and_eq_true] at q
    exact (hl i hi q.1).symm
theorem lj_fe_max {len dl : Nat → Nat} {B : Nat → Bool} {j : Nat} (hB : lj_fe len dl B) (hj : j < 11) (h1 : B j = true) (hm : ∀ i, i < 11 → B i = true → dl i ≤ dl j) : lj_sm B len 11 ≤ dl j := by
  refine Nat.le_trans (Nat.le_of_eq ?_) (hB j hj h1).2
  refine lj_sm_congr ?_ (fun _ _ _ => rfl)
  intro i hi
  cases hb : B i
  · rfl
  · simp [hm i hi hb]
theorem lj_fe_total {len dl : Nat → Nat} {B : Nat → Bool} {d : Nat} (hB : lj_fe len dl B) (h : ∀ i, i < 11 → B i = true → dl i ≤ d) : lj_sm B len 11 ≤ d := by
  rcases lj_max B dl 11 with h0 | ⟨j, hj, h1, h2⟩
  · rw [lj_sm_none h0]; exact Nat.zero_le _
  · exact Nat.le_trans (lj_fe_max hB hj h1 h2) (h j hj h1)
theorem lj_fe_last {len dl : Nat → Nat} {A S : Nat → Bool} {i : Nat} (hA : lj_fe len dl A) (hl : 0 < len i) (hs : ∀ x, x < 11 → S x = true → A x = true ∨ x = i) (ht : S i = true → lj_sm S len 11 ≤ dl i) : lj_fe len dl S := by
  intro j hj hS
  refine ⟨?_, ?_⟩
  · rcases hs j hj hS with h | h
    · exact (hA j hj h).1
    · rw [h]; exact hl
  · by_cases hd : S i = true ∧ dl i ≤ dl j
    · refine Nat.le_trans (lj_sm_mono ?_) (Nat.le_trans (ht hd.1) hd.2)
      intro x hx q
      rw [Bool.and_eq_true] at q
      exact q.1
    · have hji : A j = true := by
        rcases hs j hj hS with h | h
        · exact h
        · rw [h] at hd hS
          exact absurd ⟨hS, Nat.le_refl _⟩ hd
      refine Nat.le_trans (lj_sm_mono ?_) (hA j hj hji).2
      intro x hx q
      rw [Bool.and_eq_true] at q ⊢
      refine ⟨?_, q.2⟩
      rcases hs x hx q.1 with h | h
      · exact h
      · rw [h] at q
        exact absurd ⟨q.1, of_decide_eq_true q.2⟩ hd
theorem lj_fe_0 {len dl : Nat → Nat} {S : Nat → Bool} (h : ∀ i, i < 11 → S i = false) : lj_fe len dl S := by
  intro j hj hS
  rw [h j hj] at hS
  cases hS
/-- a set is feasible if it's empty or some job of it can be the last -/
theorem lj_fe_rec {len dl : Nat → Nat} {S : Nat → Bool} : lj_fe len dl S ↔ (∀ i, i < 11 → S i = false) ∨ ∃ i, i < 11 ∧ S i = true ∧ 0 < len i ∧ lj_sm S len 11 ≤ dl i ∧ lj_fe len dl (va_up S i false) := by
  constructor
  · intro h
    rcases lj_max S dl 11 with h0 | ⟨j, hj, h1, h2⟩
    · exact Or.inl h0
    · refine Or.inr ⟨j, hj, h1, (h j hj h1).1, lj_fe_max h hj h1 h2, lj_fe_mono ?_ h⟩
      intro x hx q
      by_cases e : x = j
      · rw [e]; exact h1
      · rw [va_up_ne S false e] at q; exact q
  · rintro (h0 | ⟨i, hi, h1, h2, h3, h4⟩)
    · exact lj_fe_0 h0
    · refine lj_fe_last h4 h2 ?_ (fun _ => h3)
      intro x hx q
      by_cases e : x = i
      · exact Or.inr e
      · refine Or.inl ?_
        rw [va_up_ne S false e]; exact q
end LJPURE
/-! PURE 2: the rank -/
section LJRANK
/-- i is one of r 0 .. r (n-1) -/
def lj_in (r : Nat → Nat) : Nat → Nat → Bool
  | 0, _ => false
  | n + 1, i => lj_in r n i || decide (r n = i)
theorem lj_in_iff {r : Nat → Nat} {n i : Nat} : lj_in r n i = true ↔ ∃ j, j < n ∧ r j = i := by
  induction n with
  | zero => simp [lj_in]
  | succ n ih =>
    simp only [lj_in, Bool.or_eq_true, decide_eq_true_eq, ih]
    constructor
    · rintro (⟨j, h1, h2⟩ | h)
      · exact ⟨j, by omega, h2⟩
      · exact ⟨n, by omega, h⟩
    · rintro ⟨j, h1, h2⟩
      by_cases e : j = n
      · exact Or.inr (by rw [← e]; exact h2)
      · exact Or.inl ⟨j, by omega, h2⟩
/-- r 0 .. r (k-1): the places with a job, each once, by their keys -/
def lj_rk (len key r : Nat → Nat) (k : Nat) : Prop := (∀ j, j < k → r j < 11 ∧ 0 < len (r j)) ∧ (∀ a b, a < k → b < k → r a = r b → a = b) ∧ (∀ i, i < 11 → 0 < len i → ∃ j, j < k ∧ r j = i) ∧ ∀ a b, a ≤ b → b < k → key (r a) ≤ key (r b)
theorem lj_ps {len r : Nat → Nat} {S : Nat → Bool} {n : Nat} (h1 : ∀ j, j < n → r j < 11) (h2 : ∀ a b, a < n → b < n → r a = r b → a = b) : lj_sm (fun j => S (r j)) (fun j => len (r j)) n = lj_sm (fun i => S i && lj_in r n i) len 11 := by
  induction n with
  | zero =>
    rw [lj_sm_none (S := fun i => S i && lj_in r 0 i)]
    · rfl
    · intro i hi; simp [lj_in]
  | succ n ih =>
    have h3 := ih (fun j hj => h1 j (by omega)) (fun a b ha hb => h2 a b (by omega) (by omega))
    have hn : lj_in r n (r n) = false := by
      cases hc : lj_in r n (r n)
      · rfl
      · obtain ⟨j, hj, e⟩ := lj_in_iff.mp hc
        have := h2 j n (by omega) (by omega) e
        omega
    have hlt := h1 n (by omega)
    rw [lj_sm_succ _ _ n, h3]
    show lj_sm (fun i => S i && lj_in r n i) len 11 + (if S (r n) = true then len (r n) else 0) = _
    cases hs : S (r n)
    · rw [if_neg (by decide), Nat.add_zero]
      refine lj_sm_congr ?_ (fun _ _ _ => rfl)
      intro i hi
      simp only [lj_in]
      by_cases e : r n = i
      · rw [← e, hs]; rfl
      · simp [e]
    · rw [if_pos rfl, ← lj_sm_ins (S := fun i => S i && lj_in r n i) hlt (by simp [hn])]
      refine lj_sm_congr ?_ (fun _ _ _ => rfl)
      intro i hi
      simp only [lj_in]
      by_cases e : i = r n
      · rw [e, va_up_self, hs]; simp
      · rw [va_up_ne _ true e]
        have e2 : ¬ r n = i := fun q => e q.symm
        simp [e2]
/-- in the order of deadlines a set is in time if it is in time in any order -/
theorem lj_edf {len dl r : Nat → Nat} {k : Nat} {S : Nat → Bool} (hr : lj_rk len dl r k) (hS : ∀ i, i < 11 → S i = true → 0 < len i) : lj_fe len dl S ↔ ∀ a, a < k → S (r a) = true → lj_sm (fun j => S (r j)) (fun j => len (r j)) (a + 1) ≤ dl (r a) := by
  obtain ⟨r1, r2, r3, r4⟩ := hr
  have hps : ∀ a, a < k → lj_sm (fun j => S (r j)) (fun j => len (r j)) (a + 1) = lj_sm (fun i => S i && lj_in r (a + 1) i) len 11 := fun a ha => lj_ps (fun j hj => (r1 j (by omega)).1) (fun x y hx hy => r2 x y (by omega) (by omega))
  constructor
  · intro h a ha hs
    rw [hps a ha]
    refine Nat.le_trans (lj_sm_mono ?_) (h (r a) (r1 a ha).1 hs).2
    intro i hi q
    rw [Bool.and_eq_true] at q ⊢
    refine ⟨q.1, ?_⟩
    obtain ⟨j, hj, e⟩ := lj_in_iff.mp q.2
    rw [← e]
    exact decide_eq_true (r4 j a (by omega) ha)
  · intro h j hj hs
    refine ⟨hS j hj hs, ?_⟩
    rcases lj_max (fun x => S (r x) && decide (dl (r x) ≤ dl j)) (fun x => x) k with h0 | ⟨q, hq, h1, h2⟩
    · obtain ⟨p, hp, e⟩ := r3 j hj (hS j hj hs)
      have := h0 p hp
      rw [e] at this
      simp [hs] at this
    · rw [Bool.and_eq_true] at h1
      refine Nat.le_trans ?_ (Nat.le_trans (h q hq h1.1) (of_decide_eq_true h1.2))
      rw [hps q hq]
      refine lj_sm_mono ?_
      intro i hi z
      rw [Bool.and_eq_true] at z ⊢
      refine ⟨z.1, lj_in_iff.mpr ?_⟩
      obtain ⟨x, hx, e⟩ := r3 i hi (hS i hi z.1)
      have h9 := h2 x hx (by rw [Bool.and_eq_true, e]; exact z)
      exact ⟨x, by omega, e⟩
end LJRANK
/-! PURE 3: the admission keeps a best set -/
section LJADMIT
abbrev lj_sz (S : Nat → Bool) : Nat := lj_sm S (fun _ => 1) 11
abbrev lj_tm (len : Nat → Nat) (S : Nat → Bool) : Nat := lj_sm S len 11
/-- c jobs in t time is the best of the feasible sets with all of F -/
def lj_best (len dl : Nat → Nat) (F : Nat → Bool) (c t : Nat) : Prop := ∃ A : Nat → Bool, lj_fe len dl A ∧ (∀ i, i < 11 → F i = true → A i = true) ∧ lj_sz A = c ∧ lj_tm len A = t ∧ ∀ B : Nat → Bool, lj_fe len dl B → (∀ i, i < 11 → F i = true → B i = true) → lj_sz B ≤ c ∧ (lj_sz B = c → t ≤ lj_tm len B)
def lj_none (len dl : Nat → Nat) (F : Nat → Bool) : Prop := ∀ B : Nat → Bool, lj_fe len dl B → (∀ i, i < 11 → F i = true → B i = true) → False
theorem lj_best_uniq {len dl : Nat → Nat} {F : Nat → Bool} {c t c' t' : Nat} (h : lj_best len dl F c t) (h' : lj_best len dl F c' t') : c = c' ∧ t = t' := by
  obtain ⟨A, a1, a2, a3, a4, a5⟩ := h
  obtain ⟨B, b1, b2, b3, b4, b5⟩ := h'
  have x := a5 B b1 b2
  have y := b5 A a1 a2
  have hc : c = c' := by omega
  exact ⟨hc, by have := x.2 (by omega); have := y.2 (by omega); omega⟩
theorem lj_best_none {len dl : Nat → Nat} {F : Nat → Bool} {c t : Nat} (h : lj_best len dl F c t) (h' : lj_none len dl F) : False := by
  obtain ⟨A, a1, a2, -⟩ := h
  exact h' A a1 a2
/-- A has what counts of the first n: every feasible set of them is matched by a part of A of the same size that takes no longer -/
def lj_dom (len dl : Nat → Nat) (F : Nat → Bool) (r : Nat → Nat) (n : Nat) (A : Nat → Bool) : Prop := (∀ i, i < 11 → A i = true → lj_in r n i = true) ∧ (∀ i, i < 11 → F i = true → lj_in r n i = true → A i = true) ∧ ∀ B : Nat → Bool, (∀ i, i < 11 → B i = true → lj_in r n i = true) → (∀ i, i < 11 → F i = true → lj_in r n i = true → B i = true) → lj_fe len dl B → ∃ C : Nat → Bool, (∀ i, i < 11 → C i = true → A i = true) ∧ (∀ i, i < 11 → F i = true → lj_in r n i = true → C i = true) ∧ lj_sz C = lj_sz B ∧ lj_tm len C ≤ lj_tm len B
theorem lj_dom_0 {len dl r : Nat → Nat} {F A : Nat → Bool} (h : ∀ i, i < 11 → A i = false) : lj_dom len dl F r 0 A := by
  refine ⟨fun i hi q => (by rw [h i hi] at q; cases q), fun i hi _ q => (by simp [lj_in] at q), fun B b1 _ _ => ⟨A, fun _ _ q => q, fun i hi _ q => (by simp [lj_in] at q), ?_, ?_⟩⟩
  · have hB : ∀ i, i < 11 → B i = false := fun i hi => by
      cases hb : B i
      · rfl
      · have := b1 i hi hb
        simp [lj_in] at this
    rw [lj_sz, lj_sz, lj_sm_none h, lj_sm_none hB]
  · rw [lj_tm, lj_sm_none h]; exact Nat.zero_le _
theorem lj_dom_add {len dl r : Nat → Nat} {F A : Nat → Bool} {n : Nat} (hi : r n < 11) (hf : lj_in r n (r n) = false) (h : lj_dom len dl F r n A) : lj_dom len dl F r (n + 1) (va_up A (r n) true) := by
  obtain ⟨h1, h2, h3⟩ := h
  have hA : A (r n) = false := by
    cases hc : A (r n)
    · rfl
    · rw [h1 _ hi hc] at hf; cases hf
  have hin : ∀ i, i ≠ r n → lj_in r (n + 1) i = lj_in r n i := fun i e => by
    have e2 : ¬ r n = i := fun q => e q.symm
    simp [lj_in, e2]
  have hin1 : lj_in r (n + 1) (r n) = true := by simp [lj_in]
  refine ⟨?_, ?_, ?_⟩
  · intro i hi' q
    by_cases e : i = r n
    · rw [e]; exact hin1
    · rw [va_up_ne _ true e] at q
      rw [hin i e]; exact h1 i hi' q
  · intro i hi' q1 q2
    by_cases e : i = r n
    · rw [e, va_up_self]
    · rw [va_up_ne _ true e]
      rw [hin i e] at q2
      exact h2 i hi' q1 q2
  · intro B b1 b2 b3
    cases hb : B (r n)
    · obtain ⟨C, c1, c2, c3, c4⟩ := h3 B (fun i hi' q => by
        by_cases e : i = r n
        · rw [e, hb] at q; cases q
        · rw [← hin i e]; exact b1 i hi' q) (fun i hi' q1 q2 => by
        refine b2 i hi' q1 ?_
        by_cases e : i = r n
        · rw [e]; exact hin1
        · rw [hin i e]; exact q2) b3
      refine ⟨C, ?_, ?_, c3, c4⟩
      · intro i hi' q
        by_cases e : i = r n
        · rw [e, va_up_self]
        · rw [va_up_ne _ true e]; exact c1 i hi' q
      · intro i hi' q1 q2
        by_cases e : i = r n
        · have := b2 i hi' q1 q2
          rw [e, hb] at this; cases this
        · rw [hin i e] at q2; exact c2 i hi' q1 q2
    · obtain ⟨C, c1, c2, c3, c4⟩ := h3 (va_up B (r n) false) (fun i hi' q => by
        by_cases e : i = r n
        · rw [e, va_up_self] at q; cases q
        · rw [va_up_ne _ false e] at q
          rw [← hin i e]; exact b1 i hi' q) (fun i hi' q1 q2 => by
        by_cases e : i = r n
        · rw [e, hf] at q2; cases q2
        · rw [va_up_ne _ false e]
          exact b2 i hi' q1 (by rw [hin i e]; exact q2)) (lj_fe_mono (fun i hi' q => by
        by_cases e : i = r n
        · rw [e]; exact hb
        · rw [va_up_ne _ false e] at q; exact q) b3)
      have hC : C (r n) = false := by
        cases hc : C (r n)
        · rfl
        · rw [c1 _ hi hc] at hA; cases hA
      refine ⟨va_up C (r n) true, ?_, ?_, ?_, ?_⟩
      · intro i hi' q
        by_cases e : i = r n
        · rw [e, va_up_self]
        · rw [va_up_ne _ true e] at q ⊢; exact c1 i hi' q
      · intro i hi' q1 q2
        by_cases e : i = r n
        · rw [e, va_up_self]
        · rw [va_up_ne _ true e]
          rw [hin i e] at q2
          exact c2 i hi' q1 q2
      · have e1 := lj_sm_ins (f := fun _ => 1) hi hC
        have e2 := lj_sm_del (f := fun _ => 1) hi hb
        simp only [lj_sz] at c3 ⊢
        omega
      · have e1 := lj_sm_ins (f := len) hi hC
        have e2 := lj_sm_del (f := len) hi hb
        simp only [lj_tm] at c4 ⊢
        omega
/-- the longest job that isn't firm is given up while the set is late -/
theorem lj_dom_del {len dl r : Nat → Nat} {F A : Nat → Bool} {n g d : Nat} (hd : ∀ x, x < 11 → lj_in r n x = true → dl x ≤ d) (hlate : d < lj_tm len A) (hg : g < 11) (hAg : A g = true) (hFg : F g = false) (hm : ∀ x, x < 11 → A x = true → F x = false → len x ≤ len g) (h : lj_dom len dl F r n A) : lj_dom len dl F r n (va_up A g false) := by
  obtain ⟨h1, h2, h3⟩ := h
  refine ⟨?_, ?_, ?_⟩
  · intro i hi q
    by_cases e : i = g
    · rw [e, va_up_self] at q; cases q
    · rw [va_up_ne _ false e] at q; exact h1 i hi q
  · intro i hi q1 q2
    by_cases e : i = g
    · rw [e, hFg] at q1; cases q1
    · rw [va_up_ne _ false e]; exact h2 i hi q1 q2
  · intro B b1 b2 b3
    obtain ⟨C, c1, c2, c3, c4⟩ := h3 B b1 b2 b3
    cases hc : C g
    · refine ⟨C, ?_, c2, c3, c4⟩
      intro i hi q
      by_cases e : i = g
      · rw [e, hc] at q; cases q
      · rw [va_up_ne _ false e]; exact c1 i hi q
    · by_cases hall : ∀ x, x < 11 → A x = true → C x = true
      · have e1 : lj_tm len A ≤ lj_tm len C := lj_sm_mono hall
        have e2 : lj_tm len B ≤ d := lj_fe_total b3 (fun i hi q => hd i hi (b1 i hi q))
        omega
      · have hex : ∃ x, x < 11 ∧ A x = true ∧ C x = false := by
          refine Classical.byContradiction fun hne => hall fun x hx ha => ?_
          cases hcx : C x
          · exact absurd ⟨x, hx, ha, hcx⟩ hne
          · rfl
        obtain ⟨x, hx, hax, hcx⟩ := hex
        have hxg : x ≠ g := fun e => by rw [e, hc] at hcx; cases hcx
        have hFx : F x = false := by
          cases hf : F x
          · rfl
          · rw [c2 x hx hf (h1 x hx hax)] at hcx; cases hcx
        have hlx := hm x hx hax hFx
        have hx1 : va_up C g false x = false := by rw [va_up_ne _ false hxg]; exact hcx
        refine ⟨va_up (va_up C g false) x true, ?_, ?_, ?_, ?_⟩
        · intro i hi q
          by_cases e : i = x
          · rw [e, va_up_ne _ false hxg]; exact hax
          · rw [va_up_ne _ true e] at q
            by_cases e2 : i = g
            · rw [e2, va_up_self] at q; cases q
            · rw [va_up_ne _ false e2] at q ⊢; exact c1 i hi q
        · intro i hi q1 q2
          by_cases e : i = x
          · rw [e, va_up_self]
          · rw [va_up_ne _ true e]
            by_cases e2 : i = g
            · rw [e2, hFg] at q1; cases q1
            · rw [va_up_ne _ false e2]; exact c2 i hi q1 q2
        · have e1 := lj_sm_ins (f := fun _ => 1) hx hx1
          have e2 := lj_sm_del (f := fun _ => 1) hg hc
          simp only [lj_sz] at c3 ⊢
          omega
        · have e1 := lj_sm_ins (f := len) hx hx1
          have e2 := lj_sm_del (f := len) hg hc
          simp only [lj_tm] at c4 ⊢
          omega
/-- firm jobs alone are late -/
theorem lj_dom_fail {len dl r : Nat → Nat} {F A : Nat → Bool} {n d : Nat} (hd : ∀ x, x < 11 → lj_in r n x = true → dl x ≤ d) (hlate : d < lj_tm len A) (hm : ∀ x, x < 11 → A x = true → F x = true) (h : lj_dom len dl F r n A) : lj_none len dl F := by
  intro B b1 b2
  obtain ⟨h1, h2, -⟩ := h
  have e1 : lj_tm len A ≤ lj_tm len (fun i => B i && lj_in r n i) := lj_sm_mono (fun i hi q => by
    rw [Bool.and_eq_true]
    exact ⟨b2 i hi (hm i hi q), h1 i hi q⟩)
  have e2 : lj_tm len (fun i => B i && lj_in r n i) ≤ d := by
    refine lj_fe_total (dl := dl) (lj_fe_mono (fun i hi q => ?_) b1) (fun i hi q => hd i hi ?_)
    · rw [Bool.and_eq_true] at q; exact q.1
    · rw [Bool.and_eq_true] at q; exact q.2
  omega
theorem lj_dom_best {len dl r : Nat → Nat} {F A : Nat → Bool} {k : Nat} (hr : lj_rk len dl r k) (hF : ∀ i, i < 11 → F i = true → 0 < len i) (hA : lj_fe len dl A) (h : lj_dom len dl F r k A) : lj_best len dl F (lj_sz A) (lj_tm len A) := by
  obtain ⟨h1, h2, h3⟩ := h
  have hin : ∀ i, i < 11 → 0 < len i → lj_in r k i = true := fun i hi q => lj_in_iff.mpr (hr.2.2.1 i hi q)
  refine ⟨A, hA, fun i hi q => h2 i hi q (hin i hi (hF i hi q)), rfl, rfl, fun B b1 b2 => ?_⟩
  obtain ⟨C, c1, c2, c3, c4⟩ := h3 B (fun i hi q => hin i hi (b1 i hi q).1) (fun i hi q _ => b2 i hi q) b1
  have e1 : lj_sz C ≤ lj_sz A := lj_sm_mono c1
  refine ⟨by omega, fun e => ?_⟩
  have e2 := lj_sm_eq c1 (by show lj_sz A ≤ lj_sz C; omega)
  have e3 : lj_tm len C = lj_tm len A := lj_sm_congr e2 (fun _ _ _ => rfl)
  omega
end LJADMIT
end
section
/-! NUMBERS: masks, truth values, small numbers -/
section LJBITS
theorem lj_sl : ∀ n, n < 32 → ((nI n &&& 31).toBitVec.smod 32).toNat = n := by decide +kernel
theorem lj_and (a b : Nat) : nI a &&& nI b = nI (a &&& b) := by
  apply Int32.toBitVec_inj.1
  show BitVec.ofNat 32 a &&& BitVec.ofNat 32 b = BitVec.ofNat 32 (a &&& b)
  apply BitVec.eq_of_getLsbD_eq
  intro i hi
  simp [hi]
theorem lj_or (a b : Nat) : nI a ||| nI b = nI (a ||| b) := by
  apply Int32.toBitVec_inj.1
  show BitVec.ofNat 32 a ||| BitVec.ofNat 32 b = BitVec.ofNat 32 (a ||| b)
  apply BitVec.eq_of_getLsbD_eq
  intro i hi
  simp [hi]
theorem lj_xor (a b : Nat) : nI a ^^^ nI b = nI (a ^^^ b) := by
  apply Int32.toBitVec_inj.1
  show BitVec.ofNat 32 a ^^^ BitVec.ofNat 32 b = BitVec.ofNat 32 (a ^^^ b)
  apply BitVec.eq_of_getLsbD_eq
  intro i hi
  simp [hi]
theorem lj_m1 : (-1 : Int32) = nI 4294967295 := by decide +kernel
/-- b's complement in 32 bits -/
def lj_cp (b : Nat) : Nat := b ^^^ 4294967295
theorem lj_not (b : Nat) : nI b ^^^ (-1) = nI (lj_cp b) := by rw [lj_m1, lj_xor]; rfl
theorem lj_cp_bit {b i : Nat} (hi : i < 32) : (lj_cp b).testBit i = !b.testBit i := by
  unfold lj_cp
  rw [Nat.testBit_xor, show (4294967295 : Nat) = 2 ^ 32 - 1 from rfl, Nat.testBit_two_pow_sub_one]
  simp [hi]
theorem lj_shl {i : Nat} (hi : i < 31) : nI 1 <<< (nI i &&& 31) = nI (2 ^ i) := by
  rw [pk_shlN (n := 1) (nI i &&& 31) i (lj_sl i (by omega)) (by rw [Nat.one_mul]; exact Nat.pow_lt_pow_right (by decide) (by omega)), Nat.one_mul]
theorem lj_shr {m i : Nat} (hm : m < 2 ^ 31) (hi : i < 32) : nI m >>> (nI i &&& 31) = nI (m / 2 ^ i) := pk_shrN hm _ i (lj_sl i hi)
noncomputable def lj_pI (P : Prop) : Int32 := @ite Int32 P (Classical.propDecidable P) (nI 1) (nI 0)
theorem lj_t {P : Prop} (h : P) : lj_pI P = nI 1 := if_pos h
theorem lj_f {P : Prop} (h : ¬ P) : lj_pI P = nI 0 := if_neg h
theorem lj_01 (P : Prop) : lj_pI P = nI 1 ∨ lj_pI P = nI 0 := by
  rcases Classical.em P with h | h
  · exact Or.inl (lj_t h)
  · exact Or.inr (lj_f h)
theorem lj_pI0 {P : Prop} : lj_pI P = 0 ↔ ¬ P := by
  rcases Classical.em P with h | h
  · rw [lj_t h]
    exact ⟨fun q => absurd q (by decide +kernel), fun q => absurd h q⟩
  · rw [lj_f h]
    exact ⟨fun _ => h, fun _ => rfl⟩
theorem lj_pIn {P : Prop} : ¬ lj_pI P = 0 ↔ P := by
  rw [lj_pI0]; exact Classical.not_not
theorem lj_congr {P Q : Prop} (h : P ↔ Q) : lj_pI P = lj_pI Q := by rw [propext h]
theorem lj_narz (P : Prop) : narrow .boolean (.int (lj_pI P)) = .int (lj_pI P) := by
  rcases lj_01 P with h | h <;> rw [h] <;> rfl
theorem lj_vz (P : Prop) : vp_nar .boolean (lj_pI P) = lj_pI P := by
  unfold vp_nar
  rw [lj_narz]
theorem lj_bit {m i : Nat} (hm : m < 2 ^ 31) (hi : i < 32) : (nI m >>> (nI i &&& 31)) &&& nI 1 = lj_pI (m.testBit i = true) := by
  rw [lj_shr hm hi, lj_and, Nat.and_one_is_mod]
  rw [Nat.testBit_eq_decide_div_mod_eq]
  rcases Nat.mod_two_eq_zero_or_one (m / 2 ^ i) with h | h
  · rw [h, lj_f]
    simp
  · rw [h, lj_t]
    simp
theorem lj_bor {a i : Nat} : (a ||| 2 ^ i).testBit = va_up a.testBit i true := by
  funext x
  rw [Nat.testBit_or, Nat.testBit_two_pow]
  by_cases h : x = i
  · rw [h, va_up_self]; simp
  · rw [va_up_ne _ true h]
    have h2 : ¬ i = x := fun e => h e.symm
    simp [h2]
theorem lj_bclr {a i : Nat} (ha : a < 2 ^ 31) : (a &&& lj_cp (2 ^ i)).testBit = va_up a.testBit i false := by
  funext x
  rw [Nat.testBit_and]
  by_cases hx : x < 32
  · rw [lj_cp_bit hx, Nat.testBit_two_pow]
    by_cases h : x = i
    · rw [h, va_up_self]; simp
    · rw [va_up_ne _ false h]
      have h2 : ¬ i = x := fun e => h e.symm
      simp [h2]
  · have h0 : a.testBit x = false := Nat.testBit_lt_two_pow (Nat.lt_of_lt_of_le ha (Nat.pow_le_pow_right (by decide) (by omega)))
    rw [h0]
    by_cases h : x = i
    · rw [h, va_up_self]; simp
    · rw [va_up_ne _ false h, h0]; simp
theorem lj_orlt {a i n : Nat} (ha : a < 2 ^ n) (hi : i < n) : a ||| 2 ^ i < 2 ^ n := Nat.or_lt_two_pow ha (Nat.pow_lt_pow_right (by decide) hi)
theorem lj_andle {a b : Nat} : a &&& b ≤ a := Nat.and_le_left
theorem lj_clrlt {a i : Nat} (ha : a < 2 ^ 31) (h : a.testBit i = true) : a &&& lj_cp (2 ^ i) < a := by
  rcases Nat.lt_or_eq_of_le (lj_andle (a := a) (b := lj_cp (2 ^ i))) with h1 | h1
  · exact h1
  · have h2 := congrFun (lj_bclr (i := i) ha) i
    rw [h1, va_up_self, h] at h2
    cases h2
theorem lj_bhi {a i n : Nat} (ha : a < 2 ^ n) (hi : n ≤ i) : a.testBit i = false := Nat.testBit_lt_two_pow (Nat.lt_of_lt_of_le ha (Nat.pow_le_pow_right (by decide) hi))
/-- 'all & ~set' is 0 if set has all of all -/
theorem lj_subset {a b : Nat} (ha : a < 2 ^ 11) : nI a &&& (nI b ^^^ (-1)) = 0 ↔ ∀ i, i < 11 → a.testBit i = true → b.testBit i = true := by
  rw [lj_not, lj_and, ← nI_0, nI_eq (Nat.lt_of_le_of_lt lj_andle (by omega)) (by decide)]
  constructor
  · intro h i hi q
    have h1 : (a &&& lj_cp b).testBit i = false := by rw [h]; exact Nat.zero_testBit i
    rw [Nat.testBit_and, lj_cp_bit (by omega), q] at h1
    simpa using h1
  · intro h
    apply Nat.eq_of_testBit_eq
    intro i
    rw [Nat.testBit_and, Nat.zero_testBit]
    rcases Nat.lt_or_ge i 11 with hi | hi
    · rw [lj_cp_bit (by omega)]
      cases q : a.testBit i
      · rfl
      · rw [h i hi q]; rfl
    · rw [lj_bhi ha hi]; rfl
/-- every set of places below n is a mask -/
theorem lj_mask (B : Nat → Bool) (n : Nat) : ∃ m, m < 2 ^ n ∧ ∀ i, i < n → m.testBit i = B i := by
  induction n with
  | zero => exact ⟨0, by decide, fun i hi => by omega⟩
  | succ n ih =>
    obtain ⟨m, h1, h2⟩ := ih
    cases hb : B n
    · refine ⟨m, Nat.lt_trans h1 (Nat.pow_lt_pow_right (by decide) (by omega)), fun i hi => ?_⟩
      by_cases e : i = n
      · rw [e, hb]; exact lj_bhi h1 (Nat.le_refl _)
      · exact h2 i (by omega)
    · refine ⟨m ||| 2 ^ n, lj_orlt (Nat.lt_trans h1 (Nat.pow_lt_pow_right (by decide) (by omega))) (by omega), fun i hi => ?_⟩
      rw [lj_bor]
      by_cases e : i = n
      · rw [e, va_up_self, hb]
      · rw [va_up_ne _ true e]; exact h2 i (by omega)
theorem lj_b8 : ∀ n, n < 128 → (nI n).toInt8.toInt32 = nI n := by decide +kernel
theorem lj_b16 : ∀ n, n < 256 → (nI n).toInt16.toInt32 = nI n := by decide +kernel
theorem lj_vb {n : Nat} (h : n < 128) : vp_nar .byte (nI n) = nI n := by rw [vp_nar_byte, lj_b8 n h]
theorem lj_vs {n : Nat} (h : n < 256) : vp_nar .short (nI n) = nI n := by rw [vp_nar_short, lj_b16 n h]
theorem lj_lt0 {n : Nat} (h : n < 2 ^ 31) : ¬ nI n < 0 := nI_pos h
theorem lj_sub {a b : Nat} (h : b ≤ a) : nI a - nI b = nI (a - b) := pk_sub h
theorem lj_upd_s {f : Nat → Int32} {k : Nat} {x : Int32} : upd f k x k = x := pk_us
theorem lj_upd_n {f : Nat → Int32} {k j : Nat} {x : Int32} (h : j ≠ k) : upd f k x j = f j := pk_un h
theorem lj_upd_back {f : Nat → Int32} {k : Nat} {x : Int32} : upd (upd f k x) k (f k) = f := by
  funext j
  by_cases h : j = k
  · rw [h, lj_upd_s]
  · rw [lj_upd_n h, lj_upd_n h]
/-- a job as the law's calls give it -/
def lj_job (a b : Int32) : Prop := ¬ a < nI 1 ∧ ¬ nI 50 < a ∧ ¬ b < 0 ∧ ¬ nI 200 < b
theorem lj_job_of {a b : Int32} (h : lj_job a b) : ∃ x y : Nat, 1 ≤ x ∧ x ≤ 50 ∧ y ≤ 200 ∧ a = nI x ∧ b = nI y := by
  obtain ⟨h1, h2, h3, h4⟩ := h
  have ha0 : ¬ a < 0 := by
    intro q
    rw [Int32.lt_iff_toInt_lt] at q h1
    rw [nI_toInt (by decide)] at h1
    have : (0 : Int32).toInt = 0 := rfl
    omega
  obtain ⟨x, hx, rfl⟩ := nI_of ha0
  obtain ⟨y, hy, rfl⟩ := nI_of h3
  rw [nI_ltI hx (by decide)] at h1
  rw [nI_ltI (by decide) hx] at h2
  rw [nI_ltI (by decide) hy] at h4
  exact ⟨x, y, by omega, by omega, by omega, rfl, rfl⟩
/-- a place with a job -/
def lj_place (len : Nat → Nat) (i : Int32) : Prop := ∃ j : Nat, j < 10 ∧ i = nI j ∧ 0 < len j
theorem lj_ix9 {i : Int32} (h1 : ¬ i < 0) (h2 : ¬ nI 9 < i) : ∃ j : Nat, j < 10 ∧ i = nI j := by
  obtain ⟨j, hj, rfl⟩ := nI_of h1
  rw [nI_ltI (by decide) hj] at h2
  exact ⟨j, by omega, rfl⟩
theorem lj_inc1 (a : Nat) : nI a + Int32.ofInt 1 = nI (a + 1) := nI_1 a
theorem lj_inc4 (a : Nat) : nI a + Int32.ofInt 4 = nI (a + 4) := by
  rw [← nI_add]; rfl
theorem lj_dec {a : Nat} (h : 0 < a) : nI a + Int32.ofInt (-1) = nI (a - 1) := sb_m1 h
end LJBITS
end
section
/-! PURE 4: the rank under insert and withdraw, the number of jobs, what the states say -/
section LJSTATE
/-- the rank with x put in at q; with the place q taken out -/
def lj_insr (r : Nat → Nat) (q x : Nat) : Nat → Nat := fun j => if j < q then r j else if j = q then x else r (j - 1)
def lj_outr (r : Nat → Nat) (q : Nat) : Nat → Nat := fun j => if j < q then r j else r (j + 1)
theorem lj_insr_lt {r : Nat → Nat} {q x j : Nat} (h : j < q) : lj_insr r q x j = r j := if_pos h
theorem lj_insr_eq {r : Nat → Nat} {q x : Nat} : lj_insr r q x q = x := by
  unfold lj_insr; rw [if_neg (Nat.lt_irrefl q), if_pos rfl]
theorem lj_insr_gt {r : Nat → Nat} {q x j : Nat} (h : q < j) : lj_insr r q x j = r (j - 1) := by
  unfold lj_insr; rw [if_neg (by omega), if_neg (by omega)]
theorem lj_outr_lt {r : Nat → Nat} {q j : Nat} (h : j < q) : lj_outr r q j = r j := if_pos h
theorem lj_outr_ge {r : Nat → Nat} {q j : Nat} (h : q ≤ j) : lj_outr r q j = r (j + 1) := if_neg (by omega)
theorem lj_rk_key {len key key' r : Nat → Nat} {k : Nat} (h : ∀ i, i < 11 → 0 < len i → key i = key' i) (hr : lj_rk len key r k) : lj_rk len key' r k := by
  obtain ⟨h1, h2, h3, h4⟩ := hr
  refine ⟨h1, h2, h3, fun a b hab hb => ?_⟩
  obtain ⟨a1, a2⟩ := h1 a (by omega)
  obtain ⟨b1, b2⟩ := h1 b hb
  rw [← h _ a1 a2, ← h _ b1 b2]
  exact h4 a b hab hb
theorem lj_rk_ins {len key r : Nat → Nat} {k x q ln : Nat} (hr : lj_rk len key r k) (hx : x < 11) (hx0 : len x = 0) (hln : 0 < ln) (hq : q ≤ k) (hlo : q = 0 ∨ key (r (q - 1)) ≤ key x) (hhi : ∀ j, q ≤ j → j < k → key x < key (r j)) : lj_rk (va_up len x ln) key (lj_insr r q x) (k + 1) := by
  obtain ⟨h1, h2, h3, h4⟩ := hr
  have hne : ∀ j, j < k → r j ≠ x := fun j hj e => by
    have := (h1 j hj).2
    rw [e, hx0] at this
    omega
  have hle : ∀ j, j < q → key (r j) ≤ key x := fun j hj => by
    rcases hlo with e | e
    · omega
    · exact Nat.le_trans (h4 j (q - 1) (by omega) (by omega)) e
  refine ⟨?_, ?_, ?_, ?_⟩
  · intro j hj
    rcases Nat.lt_trichotomy j q with z | z | z
    · rw [lj_insr_lt z, va_up_ne _ _ (hne j (by omega))]; exact h1 j (by omega)
    · rw [z, lj_insr_eq, va_up_self]; exact ⟨hx, hln⟩
    · rw [lj_insr_gt z, va_up_ne _ _ (hne _ (by omega))]; exact h1 _ (by omega)
  · intro a b ha hb e
    rcases Nat.lt_trichotomy a q with z | z | z <;> rcases Nat.lt_trichotomy b q with w | w | w
    · rw [lj_insr_lt z, lj_insr_lt w] at e; exact h2 a b (by omega) (by omega) e
    · subst w; rw [lj_insr_lt z, lj_insr_eq] at e; exact absurd e (hne a (by omega))
    · rw [lj_insr_lt z, lj_insr_gt w] at e; have := h2 a (b - 1) (by omega) (by omega) e; omega
    · subst z; rw [lj_insr_lt w, lj_insr_eq] at e; exact absurd e.symm (hne b (by omega))
    · omega
    · subst z; rw [lj_insr_gt w, lj_insr_eq] at e; exact absurd e.symm (hne (b - 1) (by omega))
    · rw [lj_insr_lt w, lj_insr_gt z] at e; have := h2 (a - 1) b (by omega) (by omega) e; omega
    · subst w; rw [lj_insr_gt z, lj_insr_eq] at e; exact absurd e (hne (a - 1) (by omega))
    · rw [lj_insr_gt z, lj_insr_gt w] at e; have := h2 (a - 1) (b - 1) (by omega) (by omega) e; omega
  · intro i hi h0
    by_cases e : i = x
    · exact ⟨q, by omega, by rw [lj_insr_eq, e]⟩
    · rw [va_up_ne _ _ e] at h0
      obtain ⟨j, hj, ej⟩ := h3 i hi h0
      rcases Nat.lt_or_ge j q with z | z
      · exact ⟨j, by omega, by rw [lj_insr_lt z]; exact ej⟩
      · exact ⟨j + 1, by omega, by rw [lj_insr_gt (by omega), Nat.add_sub_cancel]; exact ej⟩
  · intro a b hab hb
    rcases Nat.lt_trichotomy a q with z | z | z <;> rcases Nat.lt_trichotomy b q with w | w | w
    · rw [lj_insr_lt z, lj_insr_lt w]; exact h4 a b hab (by omega)
    · subst w; rw [lj_insr_lt z, lj_insr_eq]; exact hle a z
    · rw [lj_insr_lt z, lj_insr_gt w]; exact h4 a (b - 1) (by omega) (by omega)
    · omega
    · rw [z, w]; exact Nat.le_refl _
    · subst z; rw [lj_insr_gt w, lj_insr_eq]; exact Nat.le_of_lt (hhi (b - 1) (by omega) (by omega))
    · omega
    · omega
    · rw [lj_insr_gt z, lj_insr_gt w]; exact h4 (a - 1) (b - 1) (by omega) (by omega)
theorem lj_rk_out {len key r : Nat → Nat} {k q : Nat} (hr : lj_rk len key r k) (hq : q < k) : lj_rk (va_up len (r q) 0) key (lj_outr r q) (k - 1) := by
  obtain ⟨h1, h2, h3, h4⟩ := hr
  have hv : ∀ j, j < k - 1 → ∃ z, z < k ∧ z ≠ q ∧ lj_outr r q j = r z ∧ (j < q → z = j) ∧ (q ≤ j → z = j + 1) := fun j hj => by
    rcases Nat.lt_or_ge j q with w | w
    · exact ⟨j, by omega, by omega, lj_outr_lt w, fun _ => rfl, fun h => by omega⟩
    · exact ⟨j + 1, by omega, by omega, lj_outr_ge w, fun h => by omega, fun _ => rfl⟩
  refine ⟨?_, ?_, ?_, ?_⟩
  · intro j hj
    obtain ⟨z, z1, z2, z3, -⟩ := hv j hj
    rw [z3, va_up_ne _ _ (fun e => z2 (h2 z q z1 hq e))]
    exact h1 z z1
  · intro a b ha hb e
    obtain ⟨z, z1, z2, z3, z4, z5⟩ := hv a ha
    obtain ⟨w, w1, w2, w3, w4, w5⟩ := hv b hb
    rw [z3, w3] at e
    have := h2 z w z1 w1 e
    omega
  · intro i hi h0
    by_cases e : i = r q
    · rw [e, va_up_self] at h0; omega
    · rw [va_up_ne _ _ e] at h0
      obtain ⟨j, hj, ej⟩ := h3 i hi h0
      rcases Nat.lt_trichotomy j q with z | z | z
      · exact ⟨j, by omega, by rw [lj_outr_lt z]; exact ej⟩
      · rw [z] at ej; exact absurd ej.symm e
      · exact ⟨j - 1, by omega, by rw [lj_outr_ge (by omega), show j - 1 + 1 = j by omega]; exact ej⟩
  · intro a b hab hb
    obtain ⟨z, z1, z2, z3, z4, z5⟩ := hv a (by omega)
    obtain ⟨w, w1, w2, w3, w4, w5⟩ := hv b hb
    rw [z3, w3]
    exact h4 z w (by omega) w1
/-- where a place stands in the rank, and nowhere before -/
theorem lj_rk_at {len key r : Nat → Nat} {k x : Nat} (hr : lj_rk len key r k) (hx : x < 11) (h0 : 0 < len x) : ∃ q, q < k ∧ r q = x ∧ ∀ j, j < q → r j ≠ x := by
  obtain ⟨q, h1, h2⟩ := hr.2.2.1 x hx h0
  refine ⟨q, h1, h2, fun j hj e => ?_⟩
  have := hr.2.1 j q (by omega) h1 (e.trans h2.symm)
  omega
/-- how many jobs -/
def lj_ct (len : Nat → Nat) : Nat := lj_sm (fun i => decide (0 < len i)) (fun _ => 1) 10
theorem lj_ct_ins {len : Nat → Nat} {x ln : Nat} (hx : x < 10) (h0 : len x = 0) (hl : 0 < ln) : lj_ct (va_up len x ln) = lj_ct len + 1 := by
  unfold lj_ct
  rw [← lj_sm_ins (S := fun i => decide (0 < len i)) (f := fun _ => 1) hx (by simp [h0])]
  refine lj_sm_congr (fun i hi => ?_) (fun _ _ _ => rfl)
  by_cases e : i = x
  · rw [e, va_up_self, va_up_self]; exact decide_eq_true hl
  · rw [va_up_ne _ _ e, va_up_ne _ _ e]
theorem lj_ct_del {len : Nat → Nat} {x : Nat} (hx : x < 10) (h0 : 0 < len x) : lj_ct (va_up len x 0) + 1 = lj_ct len := by
  unfold lj_ct
  rw [← lj_sm_del (S := fun i => decide (0 < len i)) (f := fun _ => 1) hx (by simp [h0])]
  refine congrArg (· + 1) (lj_sm_congr (fun i hi => ?_) (fun _ _ _ => rfl))
  by_cases e : i = x
  · rw [e, va_up_self, va_up_self]; rfl
  · rw [va_up_ne _ _ e, va_up_ne _ _ e]
theorem lj_ct_le (len : Nat → Nat) : lj_ct len ≤ 10 := lj_sm_le
theorem lj_ct_full {len : Nat → Nat} (h : 10 ≤ lj_ct len) : ∀ i, i < 10 → 0 < len i := by
  intro i hi
  have h1 := lj_sm_eq (C := fun i => decide (0 < len i)) (A := fun _ => true) (n := 10) (fun _ _ _ => rfl) (by exact h) i hi
  exact of_decide_eq_true h1
theorem lj_ct_all {len : Nat → Nat} (h : ∀ i, i < 10 → 0 < len i) : lj_ct len = 10 := by
  unfold lj_ct
  rw [lj_sm_congr (T := fun _ => true) (h := fun _ => 1) (fun i hi => decide_eq_true (h i hi)) (fun _ _ _ => rfl)]
  rfl
theorem lj_ct_congr {len len' : Nat → Nat} (h : ∀ i, i < 10 → (0 < len i ↔ 0 < len' i)) : lj_ct len = lj_ct len' :=
  lj_sm_congr (fun i hi => decide_eq_decide.mpr (h i hi)) (fun _ _ _ => rfl)
/-- what holds of the numbers alone -/
def lj_ok (len dl r : Nat → Nat) (k : Nat) : Prop := (∀ i, len i ≤ 50) ∧ (∀ i, 10 ≤ i → len i = 0) ∧ (∀ i, 0 < len i → dl i ≤ 200) ∧ k = lj_ct len ∧ lj_rk len dl r k
/-- what X's cells hold -/
def lj_XR (len dl : Nat → Nat) (fm : Nat → Bool) (r : Nat → Nat) (k : Nat) (L D F R : Nat → Int32) : Prop := (∀ i, i < 10 → L i = nI (len i)) ∧ (∀ i, i < 10 → 0 < len i → D i = nI (dl i)) ∧ (∀ i, i < 10 → F i = lj_pI (fm i = true)) ∧ (∀ j, j < k → R j = nI (r j)) ∧ lj_ok len dl r k
/-- what X's admission reads -/
def lj_XA (len dl : Nat → Nat) (fm : Nat → Bool) (r : Nat → Nat) (k : Nat) (L D F R : Nat → Int32) : Prop := (∀ i, i < 11 → 0 < len i → L i = nI (len i) ∧ D i = nI (dl i) ∧ F i = lj_pI (fm i = true)) ∧ (∀ j, j < k → R j = nI (r j)) ∧ k ≤ 11 ∧ (∀ i, len i ≤ 50) ∧ (∀ i, i < 11 → 0 < len i → dl i ≤ 200) ∧ lj_rk len dl r k
theorem lj_XR_A {len dl : Nat → Nat} {fm : Nat → Bool} {r : Nat → Nat} {k : Nat} {L D F R : Nat → Int32} (h : lj_XR len dl fm r k L D F R) : lj_XA len dl fm r k L D F R := by
  obtain ⟨h1, h2, h3, h4, h5, h6, h7, h8, h9⟩ := h
  refine ⟨fun i hi h0 => ?_, h4, ?_, h5, fun i _ h => h7 i h, h9⟩
  · have hi2 : i < 10 := by
      rcases Nat.lt_or_ge i 10 with z | z
      · exact z
      · rw [h6 i z] at h0; omega
    exact ⟨h1 i hi2, h2 i hi2 h0, h3 i hi2⟩
  · rw [h8]; have := lj_ct_le len; omega
theorem lj_first9 {len : Nat → Nat} {i : Nat} (hc : lj_ct len < 10) (hi : i ≤ 9) (h : ∀ j, j < i → 0 < len j) (h2 : i = 9 ∨ len i = 0) : len i = 0 := by
  rcases h2 with e | e
  · rcases Nat.eq_zero_or_pos (len i) with z | z
    · exact z
    · have := lj_ct_all (len := len) (fun j hj => by
        by_cases q : j = 9
        · rw [q, ← e]; exact z
        · exact h j (by omega))
      omega
  · exact e
theorem lj_XR_put {len dl : Nat → Nat} {fm : Nat → Bool} {r : Nat → Nat} {k : Nat} {L D F R R2 : Nat → Int32} {x y i q : Nat} {b : Bool} (h : lj_XR len dl fm r k L D F R) (hx : 1 ≤ x) (hx2 : x ≤ 50) (hy : y ≤ 200) (hi : i < 10) (h0 : len i = 0) (hq : q ≤ k) (hlo : q = 0 ∨ va_up dl i y (r (q - 1)) ≤ va_up dl i y i) (hhi : ∀ j, q ≤ j → j < k → va_up dl i y i < va_up dl i y (r j)) (hR2 : ∀ j, j < k + 1 → R2 j = nI (lj_insr r q i j)) : lj_XR (va_up len i x) (va_up dl i y) (va_up fm i b) (lj_insr r q i) (k + 1) (upd L i (nI x)) (upd D i (nI y)) (upd F i (lj_pI (b = true))) R2 := by
  obtain ⟨h1, h2, h3, h4, h5, h6, h7, h8, h9⟩ := h
  refine ⟨?_, ?_, ?_, hR2, ?_, ?_, ?_, ?_, ?_⟩
  · intro j hj
    by_cases e : j = i
    · rw [e, lj_upd_s, va_up_self]
    · rw [lj_upd_n e, va_up_ne _ _ e]; exact h1 j hj
  · intro j hj hj0
    by_cases e : j = i
    · rw [e, lj_upd_s, va_up_self]
    · rw [va_up_ne _ _ e] at hj0
      rw [lj_upd_n e, va_up_ne _ _ e]; exact h2 j hj hj0
  · intro j hj
    by_cases e : j = i
    · rw [e, lj_upd_s, va_up_self]
    · rw [lj_upd_n e, va_up_ne _ _ e]; exact h3 j hj
  · intro j
    by_cases e : j = i
    · rw [e, va_up_self]; exact hx2
    · rw [va_up_ne _ _ e]; exact h5 j
  · intro j hj
    rw [va_up_ne _ _ (by omega)]; exact h6 j hj
  · intro j hj
    by_cases e : j = i
    · rw [e, va_up_self]; exact hy
    · rw [va_up_ne _ _ e] at hj ⊢; exact h7 j hj
  · rw [lj_ct_ins hi h0 (by omega), h8]
  · refine lj_rk_ins (lj_rk_key (fun j hj hj0 => ?_) h9) (by omega) h0 (by omega) hq hlo hhi
    rw [va_up_ne _ _ (fun e => by rw [e, h0] at hj0; omega)]
theorem lj_XR_drop {len dl : Nat → Nat} {fm : Nat → Bool} {r : Nat → Nat} {k : Nat} {L D F R R2 : Nat → Int32} {j q : Nat} (h : lj_XR len dl fm r k L D F R) (hj : j < 10) (h0 : 0 < len j) (hq : q < k) (hrq : r q = j) (hR2 : ∀ i, i < k - 1 → R2 i = nI (lj_outr r q i)) : lj_XR (va_up len j 0) dl fm (lj_outr r q) (k - 1) (upd L j (nI 0)) D F R2 := by
  obtain ⟨h1, h2, h3, h4, h5, h6, h7, h8, h9⟩ := h
  refine ⟨?_, ?_, h3, hR2, ?_, ?_, ?_, ?_, ?_⟩
  · intro i hi
    by_cases e : i = j
    · rw [e, lj_upd_s, va_up_self]
    · rw [lj_upd_n e, va_up_ne _ _ e]; exact h1 i hi
  · intro i hi hi0
    by_cases e : i = j
    · rw [e, va_up_self] at hi0; omega
    · rw [va_up_ne _ _ e] at hi0; exact h2 i hi hi0
  · intro i
    by_cases e : i = j
    · rw [e, va_up_self]; omega
    · rw [va_up_ne _ _ e]; exact h5 i
  · intro i hi
    rw [va_up_ne _ _ (by omega)]; exact h6 i hi
  · intro i hi
    by_cases e : i = j
    · rw [e, va_up_self] at hi; omega
    · rw [va_up_ne _ _ e] at hi; exact h7 i hi
  · have := lj_ct_del hj h0; omega
  · rw [← hrq]; exact lj_rk_out h9 hq
/-- what M's cells hold -/
def lj_MR (len dl : Nat → Nat) (fm : Nat → Bool) (L D F : Nat → Int32) : Prop := (∀ i, i < 10 → L i = nI (len i)) ∧ (∀ i, i < 10 → 0 < len i → D i = nI (dl i)) ∧ (∀ i, i < 10 → F i = lj_pI (fm i = true)) ∧ (∀ i, len i ≤ 50) ∧ (∀ i, 10 ≤ i → len i = 0) ∧ (∀ i, 0 < len i → dl i ≤ 200)
/-- the firm jobs -/
def lj_fs (len : Nat → Nat) (fm : Nat → Bool) : Nat → Bool := fun i => fm i && decide (0 < len i)
/-- what the methods do, for both classes -/
def lj_pput (len dl : Nat → Nat) (fm : Nat → Bool) (p0 p1 : Int32) (b : Bool) (r : Int32) (len' dl' : Nat → Nat) (fm' : Nat → Bool) : Prop :=
  (10 ≤ lj_ct len ∧ r = (-2) ∧ len' = len ∧ dl' = dl ∧ fm' = fm) ∨ (lj_ct len < 10 ∧ ¬ lj_job p0 p1 ∧ r = (-1) ∧ len' = len ∧ dl' = dl ∧ fm' = fm) ∨ (lj_ct len < 10 ∧ lj_job p0 p1 ∧ ∃ x y i : Nat, 1 ≤ x ∧ x ≤ 50 ∧ y ≤ 200 ∧ p0 = nI x ∧ p1 = nI y ∧ i < 10 ∧ len i = 0 ∧ (∀ j, j < i → 0 < len j) ∧ r = nI i ∧ len' = va_up len i x ∧ dl' = va_up dl i y ∧ fm' = va_up fm i b)
theorem lj_pput_uniq {len dl : Nat → Nat} {fm : Nat → Bool} {p0 p1 : Int32} {b : Bool} {r r2 : Int32} {l1 d1 l2 d2 : Nat → Nat} {f1 f2 : Nat → Bool} (h : lj_pput len dl fm p0 p1 b r l1 d1 f1) (h2 : lj_pput len dl fm p0 p1 b r2 l2 d2 f2) : r = r2 ∧ l1 = l2 ∧ d1 = d2 ∧ f1 = f2 := by
  rcases h with ⟨a0, a1, a2, a3, a4⟩ | ⟨a0, a5, a1, a2, a3, a4⟩ | ⟨a0, a5, x, y, i, a6, a7, a8, a9, a10, a11, a12, a13, a14, a15, a16, a17⟩ <;> rcases h2 with ⟨b0, b1, b2, b3, b4⟩ | ⟨b0, b5, b1, b2, b3, b4⟩ | ⟨b0, b5, x', y', i', b6, b7, b8, b9, b10, b11, b12, b13, b14, b15, b16, b17⟩
  · exact ⟨a1.trans b1.symm, a2.trans b2.symm, a3.trans b3.symm, a4.trans b4.symm⟩
  · omega
  · omega
  · omega
  · exact ⟨a1.trans b1.symm, a2.trans b2.symm, a3.trans b3.symm, a4.trans b4.symm⟩
  · exact absurd b5 a5
  · omega
  · exact absurd a5 b5
  · rw [a9] at b9
    rw [a10] at b10
    rw [nI_eq (by omega) (by omega)] at b9 b10
    have ei : i = i' := by
      rcases Nat.lt_trichotomy i i' with z | z | z
      · have := b13 i z; omega
      · exact z
      · have := a13 i' z; omega
    subst b9; subst b10; subst ei
    exact ⟨a14.trans b14.symm, a15.trans b15.symm, a16.trans b16.symm, a17.trans b17.symm⟩
def lj_pdrop (len : Nat → Nat) (p0 : Int32) (r : Int32) (len' : Nat → Nat) : Prop :=
  (∃ j : Nat, j < 10 ∧ p0 = nI j ∧ 0 < len j ∧ len' = va_up len j 0 ∧ r = nI (lj_ct len')) ∨ (¬ lj_place len p0 ∧ r = (-1) ∧ len' = len)
theorem lj_pdrop_uniq {len : Nat → Nat} {p0 r r2 : Int32} {l1 l2 : Nat → Nat} (h : lj_pdrop len p0 r l1) (h2 : lj_pdrop len p0 r2 l2) : r = r2 ∧ l1 = l2 := by
  rcases h with ⟨j, a1, a2, a3, a4, a5⟩ | ⟨a1, a2, a3⟩ <;> rcases h2 with ⟨i, b1, b2, b3, b4, b5⟩ | ⟨b1, b2, b3⟩
  · rw [a2, nI_eq (by omega) (by omega)] at b2
    subst b2
    subst a4
    subst b4
    exact ⟨a5.trans b5.symm, rfl⟩
  · exact absurd ⟨j, a1, a2, a3⟩ b1
  · exact absurd ⟨i, b1, b2, b3⟩ a1
  · exact ⟨a2.trans b2.symm, a3.trans b3.symm⟩
def lj_pfirm (len : Nat → Nat) (fm : Nat → Bool) (p0 : Int32) (b : Bool) (r : Int32) (fm' : Nat → Bool) : Prop :=
  (∃ j : Nat, j < 10 ∧ p0 = nI j ∧ 0 < len j ∧ fm' = va_up fm j b ∧ r = nI 1) ∨ (¬ lj_place len p0 ∧ r = nI 0 ∧ fm' = fm)
theorem lj_pfirm_uniq {len : Nat → Nat} {fm : Nat → Bool} {p0 r r2 : Int32} {b : Bool} {f1 f2 : Nat → Bool} (h : lj_pfirm len fm p0 b r f1) (h2 : lj_pfirm len fm p0 b r2 f2) : r = r2 ∧ f1 = f2 := by
  rcases h with ⟨j, a1, a2, a3, a4, a5⟩ | ⟨a1, a2, a3⟩ <;> rcases h2 with ⟨i, b1, b2, b3, b4, b5⟩ | ⟨b1, b2, b3⟩
  · rw [a2, nI_eq (by omega) (by omega)] at b2
    subst b2
    exact ⟨a5.trans b5.symm, a4.trans b4.symm⟩
  · exact absurd ⟨j, a1, a2, a3⟩ b1
  · exact absurd ⟨i, b1, b2, b3⟩ a1
  · exact ⟨a2.trans b2.symm, a3.trans b3.symm⟩
def lj_pel (len dl : Nat → Nat) (p0 : Int32) (r : Int32) (len' dl' : Nat → Nat) : Prop :=
  (∃ t : Nat, t ≤ 200 ∧ p0 = nI t ∧ len' = (fun i => if dl i < t then 0 else len i) ∧ dl' = (fun i => dl i - t) ∧ r = nI (lj_ct len')) ∨ ((¬ ∃ t : Nat, t ≤ 200 ∧ p0 = nI t) ∧ r = (-1) ∧ len' = len ∧ dl' = dl)
theorem lj_pel_uniq {len dl : Nat → Nat} {p0 r r2 : Int32} {l1 l2 d1 d2 : Nat → Nat} (h : lj_pel len dl p0 r l1 d1) (h2 : lj_pel len dl p0 r2 l2 d2) : r = r2 ∧ l1 = l2 ∧ d1 = d2 := by
  rcases h with ⟨j, a1, a2, a3, a4, a5⟩ | ⟨a1, a2, a3, a4⟩ <;> rcases h2 with ⟨i, b1, b2, b3, b4, b5⟩ | ⟨b1, b2, b3, b4⟩
  · rw [a2, nI_eq (by omega) (by omega)] at b2
    subst b2
    subst a3
    subst b3
    exact ⟨a5.trans b5.symm, rfl, a4.trans b4.symm⟩
  · exact absurd ⟨j, a1, a2⟩ b1
  · exact absurd ⟨i, b1, b2⟩ a1
  · exact ⟨a2.trans b2.symm, a3.trans b3.symm, a4.trans b4.symm⟩
/-- the answers of the questions -/
def lj_pmost (len dl : Nat → Nat) (F : Nat → Bool) (r : Int32) : Prop := (∃ c t : Nat, lj_best len dl F c t ∧ r = nI c) ∨ (lj_none len dl F ∧ r = (-3))
def lj_pleast (len dl : Nat → Nat) (F : Nat → Bool) (r : Int32) : Prop := (∃ c t : Nat, lj_best len dl F c t ∧ r = nI t) ∨ (lj_none len dl F ∧ r = (-3))
theorem lj_pmost_uniq {len dl : Nat → Nat} {F : Nat → Bool} {r r2 : Int32} (h : lj_pmost len dl F r) (h2 : lj_pmost len dl F r2) : r = r2 := by
  rcases h with ⟨c, t, a1, a2⟩ | ⟨a1, a2⟩ <;> rcases h2 with ⟨c2, t2, b1, b2⟩ | ⟨b1, b2⟩
  · rw [a2, b2, (lj_best_uniq a1 b1).1]
  · exact absurd b1 (fun h => lj_best_none a1 h)
  · exact absurd a1 (fun h => lj_best_none b1 h)
  · exact a2.trans b2.symm
theorem lj_pleast_uniq {len dl : Nat → Nat} {F : Nat → Bool} {r r2 : Int32} (h : lj_pleast len dl F r) (h2 : lj_pleast len dl F r2) : r = r2 := by
  rcases h with ⟨c, t, a1, a2⟩ | ⟨a1, a2⟩ <;> rcases h2 with ⟨c2, t2, b1, b2⟩ | ⟨b1, b2⟩
  · rw [a2, b2, (lj_best_uniq a1 b1).2]
  · exact absurd b1 (fun h => lj_best_none a1 h)
  · exact absurd a1 (fun h => lj_best_none b1 h)
  · exact a2.trans b2.symm
def lj_pfeas (len dl : Nat → Nat) (p0 : Int32) : Prop := ∃ m : Nat, m < 1024 ∧ p0 = nI m ∧ lj_fe len dl m.testBit
def lj_paff (len dl : Nat → Nat) (F : Nat → Bool) (p0 : Int32) : Prop := ∃ j : Nat, j < 10 ∧ p0 = nI j ∧ 0 < len j ∧ ∃ c t t' : Nat, lj_best len dl F c t ∧ lj_best len dl (va_up F j true) c t'
def lj_pwel (len dl : Nat → Nat) (F : Nat → Bool) (p0 p1 : Int32) : Prop := ∃ x y : Nat, 1 ≤ x ∧ x ≤ 50 ∧ y ≤ 200 ∧ p0 = nI x ∧ p1 = nI y ∧ ∃ c t : Nat, lj_best len dl F c t ∧ ∃ B : Nat → Bool, lj_fe (va_up len 10 x) (va_up dl 10 y) B ∧ (∀ i, i < 11 → F i = true → B i = true) ∧ B 10 = true ∧ c < lj_sz B
end LJSTATE
end
section
/-! PURE 5: the admission's steps, as the walk takes them -/
section LJSTEPS
theorem lj_subE {a b c : Nat} (h : c + b = a) : nI a - nI b = nI c := by
  rw [lj_sub (by omega)]; congr 1; omega
def lj_lg (S fm : Nat → Bool) (len : Nat → Nat) (i : Nat) (lo : Int32) : Prop := (lo = (-1) ∧ ∀ x, x < i → S x = true → fm x = true) ∨ ∃ z, z < i ∧ lo = nI z ∧ S z = true ∧ fm z = false ∧ ∀ x, x < i → S x = true → fm x = false → len x ≤ len z
theorem lj_lg_skip {S fm : Nat → Bool} {len : Nat → Nat} {i : Nat} {lo : Int32} (h : lj_lg S fm len i lo) (h2 : S i = true → fm i = true) : lj_lg S fm len (i + 1) lo := by
  rcases h with ⟨e, h⟩ | ⟨z, z1, z2, z3, z4, z5⟩
  · refine Or.inl ⟨e, fun x hx hs => ?_⟩
    by_cases q : x = i
    · rw [q] at hs ⊢; exact h2 hs
    · exact h x (by omega) hs
  · refine Or.inr ⟨z, by omega, z2, z3, z4, fun x hx hs hf => ?_⟩
    by_cases q : x = i
    · rw [q] at hs hf; rw [h2 hs] at hf; cases hf
    · exact z5 x (by omega) hs hf
theorem lj_lg_new {S fm : Nat → Bool} {len : Nat → Nat} {i : Nat} (hs : S i = true) (hf : ¬ fm i = true) (h : ∀ x, x < i → S x = true → fm x = false → len x ≤ len i) : lj_lg S fm len (i + 1) (nI i) := by
  refine Or.inr ⟨i, by omega, rfl, hs, by simpa using hf, fun x hx h1 h2 => ?_⟩
  by_cases q : x = i
  · rw [q]; exact Nat.le_refl _
  · exact h x (by omega) h1 h2
theorem lj_lg_keep {S fm : Nat → Bool} {len : Nat → Nat} {i z : Nat} (hz : z < i) (hs : S z = true) (hf : fm z = false) (h : ∀ x, x < i → S x = true → fm x = false → len x ≤ len z) (hi : len i ≤ len z) : lj_lg S fm len (i + 1) (nI z) := by
  refine Or.inr ⟨z, by omega, rfl, hs, hf, fun x hx h1 h2 => ?_⟩
  by_cases q : x = i
  · rw [q]; exact hi
  · exact h x (by omega) h1 h2
theorem lj_lg_neg {S fm : Nat → Bool} {len : Nat → Nat} {i : Nat} {lo : Int32} (hi : i ≤ 11) (h : lj_lg S fm len i lo) (hn : lo < 0) : ∀ x, x < i → S x = true → fm x = true := by
  rcases h with ⟨e, h⟩ | ⟨z, z1, z2, -⟩
  · exact h
  · rw [z2] at hn; exact absurd hn (nI_pos (by omega))
theorem lj_lg_pos {S fm : Nat → Bool} {len : Nat → Nat} {i : Nat} {lo : Int32} (h : lj_lg S fm len i lo) (hn : ¬ lo < 0) : ∃ z, z < i ∧ lo = nI z ∧ S z = true ∧ fm z = false ∧ ∀ x, x < i → S x = true → fm x = false → len x ≤ len z := by
  rcases h with ⟨e, h⟩ | h
  · rw [e] at hn; exact absurd (by decide) hn
  · exact h
theorem lj_lg_0 {S fm : Nat → Bool} {len : Nat → Nat} : lj_lg S fm len 0 (-1) := Or.inl ⟨rfl, fun x hx => absurd hx (by omega)⟩
theorem lj_fs_of {len : Nat → Nat} {fm : Nat → Bool} {x : Nat} (h : 0 < len x) : lj_fs len fm x = fm x := by
  unfold lj_fs; rw [decide_eq_true h, Bool.and_true]
theorem lj_adm_live {len dl r : Nat → Nat} {F A : Nat → Bool} {k d : Nat} (hr : lj_rk len dl r k) (hd : d ≤ k) (h : lj_dom len dl F r d A) : ∀ x, x < 11 → A x = true → 0 < len x := by
  intro x hx hA
  obtain ⟨j, hj, e⟩ := lj_in_iff.mp (h.1 x hx hA)
  rw [← e]; exact (hr.1 j (by omega)).2
theorem lj_adm_in {len dl r : Nat → Nat} {k d : Nat} (hr : lj_rk len dl r k) (hd : d < k) : ∀ x, x < 11 → lj_in r (d + 1) x = true → dl x ≤ dl (r d) := by
  intro x hx h
  obtain ⟨j, hj, e⟩ := lj_in_iff.mp h
  rw [← e]; exact hr.2.2.2 j d (by omega) hd
theorem lj_adm_del {len dl r : Nat → Nat} {fm : Nat → Bool} {k d a z : Nat} (hr : lj_rk len dl r k) (hd : d < k) (ha : a < 2048) (hdom : lj_dom len dl (lj_fs len fm) r (d + 1) a.testBit) (hlate : dl (r d) < lj_sm a.testBit len 11) (hz : z < 11) (hbit : a.testBit z = true) (hfm : fm z = false) (hmax : ∀ x, x < 11 → a.testBit x = true → fm x = false → len x ≤ len z) : lj_dom len dl (lj_fs len fm) r (d + 1) (a &&& lj_cp (2 ^ z)).testBit := by
  have hlv := lj_adm_live hr (by omega) hdom
  rw [lj_bclr (by omega)]
  refine lj_dom_del (lj_adm_in hr hd) hlate hz hbit ?_ ?_ hdom
  · rw [lj_fs_of (hlv z hz hbit)]; exact hfm
  · intro x hx h1 h2
    rw [lj_fs_of (hlv x hx h1)] at h2
    exact hmax x hx h1 h2
theorem lj_adm_fail {len dl r : Nat → Nat} {fm : Nat → Bool} {k d a : Nat} (hr : lj_rk len dl r k) (hd : d < k) (hdom : lj_dom len dl (lj_fs len fm) r (d + 1) a.testBit) (hlate : dl (r d) < lj_sm a.testBit len 11) (hall : ∀ x, x < 11 → a.testBit x = true → fm x = true) : lj_none len dl (lj_fs len fm) := by
  have hlv := lj_adm_live hr (by omega) hdom
  refine lj_dom_fail (lj_adm_in hr hd) hlate ?_ hdom
  intro x hx h1
  rw [lj_fs_of (hlv x hx h1)]
  exact hall x hx h1
theorem lj_adm_new {len dl r : Nat → Nat} {F : Nat → Bool} {k d a : Nat} (hr : lj_rk len dl r k) (hd : d < k) (hdom : lj_dom len dl F r d a.testBit) : lj_in r d (r d) = false ∧ a.testBit (r d) = false := by
  have h1 : lj_in r d (r d) = false := by
    cases hc : lj_in r d (r d)
    · rfl
    · obtain ⟨j, hj, e⟩ := lj_in_iff.mp hc
      have := hr.2.1 j d (by omega) hd e
      omega
  refine ⟨h1, ?_⟩
  cases hc : a.testBit (r d)
  · rfl
  · rw [hdom.1 _ (hr.1 d hd).1 hc] at h1; cases h1
theorem lj_adm_add {len dl r : Nat → Nat} {F : Nat → Bool} {k d a : Nat} (hr : lj_rk len dl r k) (hd : d < k) (ha : a < 2048) (hdom : lj_dom len dl F r d a.testBit) (hfe : lj_fe len dl a.testBit) : a ||| 2 ^ r d < 2048 ∧ lj_dom len dl F r (d + 1) (a ||| 2 ^ r d).testBit ∧ (∃ A0 : Nat → Bool, lj_fe len dl A0 ∧ ∀ x, x < 11 → (a ||| 2 ^ r d).testBit x = true → A0 x = true ∨ x = r d) ∧ lj_sm (a ||| 2 ^ r d).testBit (fun _ => 1) 11 = lj_sm a.testBit (fun _ => 1) 11 + 1 ∧ lj_sm (a ||| 2 ^ r d).testBit len 11 = lj_sm a.testBit len 11 + len (r d) := by
  obtain ⟨h1, h2⟩ := lj_adm_new hr hd hdom
  have hi := (hr.1 d hd).1
  refine ⟨lj_orlt (n := 11) ha hi, ?_, ⟨a.testBit, hfe, ?_⟩, ?_, ?_⟩
  · rw [lj_bor]; exact lj_dom_add hi h1 hdom
  · intro x hx q
    rw [lj_bor] at q
    by_cases e : x = r d
    · exact Or.inr e
    · rw [va_up_ne _ true e] at q; exact Or.inl q
  · rw [lj_bor]; exact lj_sm_ins hi h2
  · rw [lj_bor]; exact lj_sm_ins hi h2
theorem lj_adm_sub {A0 : Nat → Bool} {a z i : Nat} (ha : a < 2048) (h : ∀ x, x < 11 → a.testBit x = true → A0 x = true ∨ x = i) : ∀ x, x < 11 → (a &&& lj_cp (2 ^ z)).testBit x = true → A0 x = true ∨ x = i := by
  intro x hx q
  rw [lj_bclr (by omega)] at q
  by_cases e : x = z
  · rw [e, va_up_self] at q; cases q
  · rw [va_up_ne _ false e] at q; exact h x hx q
theorem lj_clr_sz {a z : Nat} (ha : a < 2048) (hz : z < 11) (hb : a.testBit z = true) (f : Nat → Nat) : lj_sm (a &&& lj_cp (2 ^ z)).testBit f 11 + f z = lj_sm a.testBit f 11 := by
  rw [lj_bclr (by omega)]; exact lj_sm_del hz hb
theorem lj_adm_t {rr : Int32} {P Q : Prop} (h : (rr = nI 1 ∧ P) ∨ (rr = nI 0 ∧ Q)) (h0 : rr = 0) : Q := by
  rcases h with ⟨e, -⟩ | ⟨-, q⟩
  · rw [e] at h0; exact absurd h0 (by decide)
  · exact q
theorem lj_adm_f {rr : Int32} {P Q : Prop} (h : (rr = nI 1 ∧ P) ∨ (rr = nI 0 ∧ Q)) (h0 : ¬ rr = 0) : P := by
  rcases h with ⟨-, q⟩ | ⟨e, -⟩
  · exact q
  · rw [e] at h0; exact absurd rfl h0
theorem lj_best_le {len dl : Nat → Nat} {F : Nat → Bool} {c t : Nat} (h : lj_best len dl F c t) : c ≤ 11 := by
  obtain ⟨A, -, -, e, -⟩ := h
  rw [← e]; exact lj_sm_le
theorem lj_fs_up {len : Nat → Nat} {fm : Nat → Bool} {j : Nat} (h : 0 < len j) : lj_fs len (va_up fm j true) = va_up (lj_fs len fm) j true := by
  funext i
  by_cases e : i = j
  · rw [e, va_up_self, lj_fs_of h, va_up_self]
  · rw [va_up_ne _ _ e]; unfold lj_fs; rw [va_up_ne _ _ e]
theorem lj_XA_firm {len dl : Nat → Nat} {fm : Nat → Bool} {r : Nat → Nat} {k j : Nat} {L D F R : Nat → Int32} (h : lj_XA len dl fm r k L D F R) : lj_XA len dl (va_up fm j true) r k L D (upd F j (nI 1)) R := by
  obtain ⟨h1, h2⟩ := h
  refine ⟨fun i hi h0 => ⟨(h1 i hi h0).1, (h1 i hi h0).2.1, ?_⟩, h2⟩
  by_cases e : i = j
  · rw [e, lj_upd_s, va_up_self]; exact (lj_t rfl).symm
  · rw [lj_upd_n e, va_up_ne _ _ e]; exact (h1 i hi h0).2.2
/-- welcome -/
theorem lj_fs_10 {len : Nat → Nat} {fm : Nat → Bool} {x : Nat} (h : len 10 = 0) : lj_fs (va_up len 10 x) (va_up fm 10 false) = lj_fs len fm := by
  funext i
  unfold lj_fs
  by_cases e : i = 10
  · rw [e, va_up_self, h]; simp
  · rw [va_up_ne _ _ e, va_up_ne _ _ e]
theorem lj_out_ins {r : Nat → Nat} {q x j : Nat} : lj_outr (lj_insr r q x) q j = r j := by
  rcases Nat.lt_or_ge j q with h | h
  · rw [lj_outr_lt h, lj_insr_lt h]
  · rw [lj_outr_ge h, lj_insr_gt (by omega), Nat.add_sub_cancel]
theorem lj_XA_wel {len dl : Nat → Nat} {fm : Nat → Bool} {r : Nat → Nat} {k : Nat} {L D F R R2 : Nat → Int32} {x y q : Nat} (h : lj_XR len dl fm r k L D F R) (hx : 1 ≤ x) (hx2 : x ≤ 50) (hy : y ≤ 200) (hq : q ≤ k) (hlo : q = 0 ∨ va_up dl 10 y (r (q - 1)) ≤ va_up dl 10 y 10) (hhi : ∀ j, q ≤ j → j < k → va_up dl 10 y 10 < va_up dl 10 y (r j)) (hR2 : ∀ j, j < k + 1 → R2 j = nI (lj_insr r q 10 j)) : lj_XA (va_up len 10 x) (va_up dl 10 y) (va_up fm 10 false) (lj_insr r q 10) (k + 1) (upd L 10 (nI x)) (upd D 10 (nI y)) (upd F 10 (nI 0)) R2 := by
  have hA := lj_XR_A h
  obtain ⟨h1, h2, h3, h4, h5, h6, h7, h8, h9⟩ := h
  have h100 := h6 10 (by omega)
  refine ⟨?_, hR2, ?_, ?_, ?_, ?_⟩
  · intro i hi h0
    by_cases e : i = 10
    · rw [e, lj_upd_s, lj_upd_s, lj_upd_s, va_up_self, va_up_self, va_up_self]
      exact ⟨rfl, rfl, (lj_f (by decide)).symm⟩
    · rw [va_up_ne _ _ e] at h0
      rw [lj_upd_n e, lj_upd_n e, lj_upd_n e, va_up_ne _ _ e, va_up_ne _ _ e, va_up_ne _ _ e]
      exact hA.1 i hi h0
  · have := lj_ct_le len; omega
  · intro j
    by_cases e : j = 10
    · rw [e, va_up_self]; exact hx2
    · rw [va_up_ne _ _ e]; exact h5 j
  · intro j _ hj
    by_cases e : j = 10
    · rw [e, va_up_self]; exact hy
    · rw [va_up_ne _ _ e] at hj ⊢; exact h7 j hj
  · refine lj_rk_ins (lj_rk_key (fun j hj hj0 => ?_) h9) (by omega) h100 (by omega) hq hlo hhi
    rw [va_up_ne _ _ (fun e => by rw [e, h100] at hj0; omega)]
theorem lj_XR_wel {len dl : Nat → Nat} {fm : Nat → Bool} {r : Nat → Nat} {k : Nat} {L D F R R3 : Nat → Int32} {a b c : Int32} {q : Nat} (h : lj_XR len dl fm r k L D F R) (hR3 : ∀ j, j < k + 1 - 1 → R3 j = nI (lj_outr (lj_insr r q 10) q j)) : lj_XR len dl fm r k (upd L 10 a) (upd D 10 b) (upd F 10 c) R3 := by
  obtain ⟨h1, h2, h3, h4, h5⟩ := h
  refine ⟨fun i hi => ?_, fun i hi h0 => ?_, fun i hi => ?_, fun j hj => ?_, h5⟩
  · rw [lj_upd_n (by omega)]; exact h1 i hi
  · rw [lj_upd_n (by omega)]; exact h2 i hi h0
  · rw [lj_upd_n (by omega)]; exact h3 i hi
  · rw [hR3 j (by omega), lj_out_ins]
theorem lj_wel_t {len dl : Nat → Nat} {F : Nat → Bool} {x y c t c2 t2 : Nat} {p0 p1 : Int32} (hx : 1 ≤ x) (hx2 : x ≤ 50) (hy : y ≤ 200) (e0 : p0 = nI x) (e1 : p1 = nI y) (hb : lj_best len dl F c t) (hb2 : lj_best (va_up len 10 x) (va_up dl 10 y) F c2 t2) (hc : c < c2) : lj_pwel len dl F p0 p1 := by
  obtain ⟨A, a1, a2, a3, -, -⟩ := hb2
  refine ⟨x, y, hx, hx2, hy, e0, e1, c, t, hb, A, a1, a2, ?_, by omega⟩
  cases h : A 10
  · have h1 : lj_fe len dl A := lj_fe_data (fun i hi q => va_up_ne _ _ (fun e => by rw [e, h] at q; cases q)) (fun i hi q => va_up_ne _ _ (fun e => by rw [e, h] at q; cases q)) a1
    obtain ⟨-, -, -, -, -, b5⟩ := hb
    have := (b5 A h1 a2).1
    omega
  · rfl
theorem lj_wel_f {len dl : Nat → Nat} {F : Nat → Bool} {x y c t c2 t2 : Nat} (hx2 : x ≤ 50) (hy : y ≤ 200) (hb : lj_best len dl F c t) (hb2 : lj_best (va_up len 10 x) (va_up dl 10 y) F c2 t2) (hc : c2 ≤ c) : ¬ lj_pwel len dl F (nI x) (nI y) := by
  rintro ⟨x', y', h1, h2, h3, h4, h5, c', t', h6, B, b1, b2, b3, b4⟩
  rw [nI_eq (by omega) (by omega)] at h4 h5
  subst h4; subst h5
  have e := (lj_best_uniq hb h6).1
  obtain ⟨-, -, -, -, -, a5⟩ := hb2
  have := (a5 B b1 b2).1
  omega
theorem lj_wel_n {len dl : Nat → Nat} {F : Nat → Bool} {x y : Nat} (hx2 : x ≤ 50) (hy : y ≤ 200) (hb2 : lj_none (va_up len 10 x) (va_up dl 10 y) F) : ¬ lj_pwel len dl F (nI x) (nI y) := by
  rintro ⟨x', y', h1, h2, h3, h4, h5, c', t', h6, B, b1, b2, b3, b4⟩
  rw [nI_eq (by omega) (by omega)] at h4 h5
  subst h4; subst h5
  exact hb2 B b1 b2
theorem lj_wel_0 {len dl : Nat → Nat} {F : Nat → Bool} {p0 p1 : Int32} (h : lj_none len dl F) : ¬ lj_pwel len dl F p0 p1 := by
  rintro ⟨x', y', h1, h2, h3, h4, h5, c', t', h6, -⟩
  exact lj_best_none h6 h
theorem lj_job_mk {x y : Nat} (hx : 1 ≤ x) (hx2 : x ≤ 50) (hy : y ≤ 200) : lj_job (nI x) (nI y) :=
  ⟨nI_nlt hx (by omega), nI_nlt hx2 (by omega), nI_pos (by omega), nI_nlt hy (by omega)⟩
theorem lj_wel_j {len dl : Nat → Nat} {F : Nat → Bool} {p0 p1 : Int32} (h : ¬ lj_job p0 p1) : ¬ lj_pwel len dl F p0 p1 := by
  rintro ⟨x', y', h1, h2, h3, rfl, rfl, -⟩
  exact h (lj_job_mk h1 h2 h3)
/-- elapse -/
theorem lj_neg16 : ∀ n, n < 201 → (-nI n).toInt16.toInt32 = -nI n := by decide +kernel
theorem lj_subneg {a b : Nat} (h : a ≤ b) : nI a - nI b = -nI (b - a) := by
  rw [← lj_sub h]; grind
theorem lj_i2s {a b : Nat} (ha : a ≤ 200) (hb : b ≤ 200) : (nI a - nI b).toInt16.toInt32 = nI a - nI b := by
  rcases Nat.le_total b a with h | h
  · rw [lj_sub h, lj_b16 _ (by omega)]
  · rw [lj_subneg h, lj_neg16 _ (by omega)]
theorem lj_vsub {a b : Nat} (ha : a ≤ 200) (hb : b ≤ 200) : vp_nar .short (nI a - nI b) = nI a - nI b := by rw [vp_nar_short, lj_i2s ha hb]
theorem lj_ge0 {a b : Nat} (ha : a ≤ 200) (hb : b ≤ 200) : 0 ≤ nI a - nI b ↔ b ≤ a := by
  constructor
  · intro h
    rcases Nat.lt_or_ge a b with z | z
    · have := pk_sneg (by omega) z
      rw [Int32.le_iff_toInt_le] at h
      rw [Int32.lt_iff_toInt_lt] at this
      omega
    · exact z
  · intro h
    rw [lj_sub h]; exact nI_pos' (by omega)
def lj_XE (len dl : Nat → Nat) (t i : Nat) (lc rc : Nat → Nat) (kc : Nat) (L D R : Nat → Int32) : Prop := (∀ x, lc x = if x < i ∧ dl x < t then 0 else len x) ∧ (∀ x, x < 10 → L x = nI (lc x)) ∧ (∀ x, x < 10 → 0 < lc x → D x = nI (if x < i then dl x - t else dl x)) ∧ (∀ j, j < kc → R j = nI (rc j)) ∧ kc = lj_ct lc ∧ lj_rk lc dl rc kc
theorem lj_XE_0 {len dl r : Nat → Nat} {fm : Nat → Bool} {k t : Nat} {L D F R : Nat → Int32} (h : lj_XR len dl fm r k L D F R) : lj_XE len dl t 0 len r k L D R := by
  obtain ⟨h1, h2, h3, h4, h5, h6, h7, h8, h9⟩ := h
  exact ⟨fun x => (if_neg (by omega)).symm, h1, fun x hx h0 => by rw [if_neg (by omega)]; exact h2 x hx h0, h4, h8, h9⟩
theorem lj_XE_skip {len dl lc rc : Nat → Nat} {t i kc : Nat} {L D R : Nat → Int32} (h : lj_XE len dl t i lc rc kc L D R) (h0 : lc i = 0) : lj_XE len dl t (i + 1) lc rc kc L D R := by
  obtain ⟨h1, h2, h3, h4, h5, h6⟩ := h
  refine ⟨fun x => ?_, h2, fun x hx hx0 => ?_, h4, h5, h6⟩
  · by_cases e : x = i
    · have e1 := h1 i
      rw [if_neg (by omega)] at e1
      rw [e, h0]
      by_cases z : i < i + 1 ∧ dl i < t
      · rw [if_pos z]
      · rw [if_neg z, ← e1, h0]
    · rw [h1 x]
      by_cases z : x < i ∧ dl x < t
      · rw [if_pos z, if_pos (by omega)]
      · rw [if_neg z, if_neg (by omega)]
  · have e : x ≠ i := fun e => by rw [e, h0] at hx0; omega
    rw [h3 x hx hx0]
    by_cases z : x < i
    · rw [if_pos z, if_pos (by omega)]
    · rw [if_neg z, if_neg (by omega)]
theorem lj_XE_keep {len dl lc rc : Nat → Nat} {t i kc : Nat} {L D R : Nat → Int32} (h : lj_XE len dl t i lc rc kc L D R) (ht : t ≤ dl i) : lj_XE len dl t (i + 1) lc rc kc L (upd D i (nI (dl i) - nI t)) R := by
  obtain ⟨h1, h2, h3, h4, h5, h6⟩ := h
  refine ⟨fun x => ?_, h2, fun x hx hx0 => ?_, h4, h5, h6⟩
  · rw [h1 x]
    by_cases z : x < i ∧ dl x < t
    · rw [if_pos z, if_pos (by omega)]
    · rw [if_neg z]
      by_cases e : x = i
      · rw [e, if_neg (by omega)]
      · rw [if_neg (by omega)]
  · by_cases e : x = i
    · rw [e, lj_upd_s, if_pos (by omega), lj_sub ht]
    · rw [lj_upd_n e, h3 x hx hx0]
      by_cases z : x < i
      · rw [if_pos z, if_pos (by omega)]
      · rw [if_neg z, if_neg (by omega)]
theorem lj_XE_drop {len dl lc rc : Nat → Nat} {t i kc q : Nat} {L D R R2 : Nat → Int32} {z : Int32} (h : lj_XE len dl t i lc rc kc L D R) (hi : i < 10) (h0 : 0 < lc i) (ht : dl i < t) (hq : q < kc) (hrq : rc q = i) (hR2 : ∀ j, j < kc - 1 → R2 j = nI (lj_outr rc q j)) : lj_XE len dl t (i + 1) (va_up lc i 0) (lj_outr rc q) (kc - 1) (upd L i (nI 0)) (upd D i z) R2 := by
  obtain ⟨h1, h2, h3, h4, h5, h6⟩ := h
  refine ⟨fun x => ?_, fun x hx => ?_, fun x hx hx0 => ?_, hR2, ?_, ?_⟩
  · by_cases e : x = i
    · rw [e, va_up_self, if_pos (by omega)]
    · rw [va_up_ne _ _ e, h1 x]
      by_cases z : x < i ∧ dl x < t
      · rw [if_pos z, if_pos (by omega)]
      · rw [if_neg z, if_neg (by omega)]
  · by_cases e : x = i
    · rw [e, va_up_self, lj_upd_s]
    · rw [va_up_ne _ _ e, lj_upd_n e]; exact h2 x hx
  · by_cases e : x = i
    · rw [e, va_up_self] at hx0; omega
    · rw [va_up_ne _ _ e] at hx0
      rw [lj_upd_n e, h3 x hx hx0]
      by_cases z : x < i
      · rw [if_pos z, if_pos (by omega)]
      · rw [if_neg z, if_neg (by omega)]
  · have := lj_ct_del hi h0; omega
  · rw [← hrq]; exact lj_rk_out h6 hq
theorem lj_XE_end {len dl lc rc r : Nat → Nat} {fm : Nat → Bool} {k t kc : Nat} {L D F R L0 D0 R0 : Nat → Int32} (hX : lj_XR len dl fm r k L0 D0 F R0) (h : lj_XE len dl t 10 lc rc kc L D R) : lc = (fun i => if dl i < t then 0 else len i) ∧ lj_XR lc (fun i => dl i - t) fm rc kc L D F R := by
  obtain ⟨x1, x2, x3, x4, x5, x6, x7, x8, x9⟩ := hX
  obtain ⟨h1, h2, h3, h4, h5, h6, h7, h8, h9⟩ := h
  have hlc : ∀ x, lc x = if dl x < t then 0 else len x := fun x => by
    rw [h1 x]
    rcases Nat.lt_or_ge x 10 with z | z
    · by_cases w : dl x < t
      · rw [if_pos ⟨z, w⟩, if_pos w]
      · rw [if_neg (by omega), if_neg w]
    · rw [if_neg (by omega), x6 x z]
      by_cases w : dl x < t
      · rw [if_pos w]
      · rw [if_neg w]
  refine ⟨funext hlc, h2, fun x hx hx0 => ?_, x3, h4, fun x => ?_, fun x hx => ?_, fun x hx => ?_, h5, h6, h7, h8, fun a b hab hb => ?_⟩
  · rw [h3 x hx hx0, if_pos hx]
  · rw [hlc x]
    by_cases w : dl x < t
    · rw [if_pos w]; omega
    · rw [if_neg w]; exact x5 x
  · rw [hlc x, x6 x hx]
    by_cases w : dl x < t
    · rw [if_pos w]
    · rw [if_neg w]
  · rw [hlc x] at hx
    by_cases w : dl x < t
    · rw [if_pos w] at hx; omega
    · rw [if_neg w] at hx
      have := x7 x hx
      show dl x - t ≤ 200
      omega
  · have := h9 a b hab hb
    show dl (rc a) - t ≤ dl (rc b) - t
    omega
theorem lj_XE_at {len dl lc rc : Nat → Nat} {t i kc : Nat} {L D R : Nat → Int32} (h : lj_XE len dl t i lc rc kc L D R) : lc i = len i ∧ kc ≤ 10 := by
  refine ⟨?_, ?_⟩
  · rw [h.1 i, if_neg (by omega)]
  · rw [h.2.2.2.2.1]; exact lj_ct_le _
end LJSTEPS
end
section
/-! WORLDS of the two classes, and the rules of the walk -/
set_option maxRecDepth 100000
abbrev vwCl : List vw_C := [(RX0, TX0, 9), (RX1, TX1, 5)]
/-- X's addresses (object, length, deadline, firm, rank) and its arrays' classes -/
abbrev XG : Type := Nat × Nat × Nat × Nat × Nat × ClassId × ClassId × ClassId × ClassId
/-- X's state: jobCount, length, deadline, firm, ranked, rank, admitted, admittedCount, admittedTime -/
abbrev XS : Type := Int32 × (Nat → Int32) × (Nat → Int32) × (Nat → Int32) × Int32 × (Nat → Int32) × Int32 × Int32 × Int32
abbrev xfs (g : XG) (u : XS) : List Value := [.int u.1, .ref g.2.1, .ref g.2.2.1, .ref g.2.2.2.1, .int u.2.2.2.2.1, .ref g.2.2.2.2.1, .int u.2.2.2.2.2.2.1, .int u.2.2.2.2.2.2.2.1, .int u.2.2.2.2.2.2.2.2]
def wX (g : XG) (u : XS) : va_W := [(g.1, .inr (0, xfs g u)), (g.2.1, .inl (g.2.2.2.2.2.1, 11, .inl u.2.1)), (g.2.2.1, .inl (g.2.2.2.2.2.2.1, 11, .inl u.2.2.1)), (g.2.2.2.1, .inl (g.2.2.2.2.2.2.2.1, 11, .inl u.2.2.2.1)), (g.2.2.2.2.1, .inl (g.2.2.2.2.2.2.2.2, 11, .inl u.2.2.2.2.2.1))]
def tyX (g : XG) : List (ClassId × FieldType) := [(g.2.2.2.2.2.1, .byte), (g.2.2.2.2.2.2.1, .short), (g.2.2.2.2.2.2.2.1, .boolean), (g.2.2.2.2.2.2.2.2, .byte)]
/-- M's addresses (object, length, deadline, firm, good, joined) and its arrays' classes -/
abbrev MG : Type := Nat × Nat × Nat × Nat × Nat × Nat × ClassId × ClassId × ClassId × ClassId × ClassId
/-- M's state: length, deadline, firm, good, joined -/
abbrev MS : Type := (Nat → Int32) × (Nat → Int32) × (Nat → Int32) × (Nat → Int32) × (Nat → Int32)
abbrev mfs (g : MG) : List Value := [.ref g.2.1, .ref g.2.2.1, .ref g.2.2.2.1, .ref g.2.2.2.2.1, .ref g.2.2.2.2.2.1]
def wM (g : MG) (u : MS) : va_W := [(g.1, .inr (1, mfs g)), (g.2.1, .inl (g.2.2.2.2.2.2.1, 10, .inl u.1)), (g.2.2.1, .inl (g.2.2.2.2.2.2.2.1, 10, .inl u.2.1)), (g.2.2.2.1, .inl (g.2.2.2.2.2.2.2.2.1, 10, .inl u.2.2.1)), (g.2.2.2.2.1, .inl (g.2.2.2.2.2.2.2.2.2.1, 1024, .inl u.2.2.2.1)), (g.2.2.2.2.2.1, .inl (g.2.2.2.2.2.2.2.2.2.2, 1024, .inl u.2.2.2.2))]
def tyM (g : MG) : List (ClassId × FieldType) := [(g.2.2.2.2.2.2.1, .int), (g.2.2.2.2.2.2.2.1, .int), (g.2.2.2.2.2.2.2.2.1, .boolean), (g.2.2.2.2.2.2.2.2.2.1, .boolean), (g.2.2.2.2.2.2.2.2.2.2, .boolean)]
section LJRULES
variable {p : Program} {l : Launch} {e : Env} {R : Room} {s : State} {m : MethodId} {args : Array Value} {below : List Frame} {meth : Method} {c : Code} {H : Heap} {locs : List Loc} {cells slots : Nat} {Q : State → Prop}
variable {cc : ByteArray} {pc : Nat} {ls : Array Slot} {rest : List Value} {dd : va_G} {tys : List (ClassId × FieldType)} {A : Nat → Prop} {a : Nat} {ws : va_W} {H0 : Heap}
theorem lj_top {x y : Int32} (h : x = y) (k : W p l e R s m args below meth c H locs cells slots Q (F0 m pc ls (.int y :: rest))) : W p l e R s m args below meth c H locs cells slots Q (F0 m pc ls (.int x :: rest)) := by
  rw [h]; exact k
theorem ya_iald (hexec : p.tables.exec = Jvm.exec) (hb : c.code = cc) (hK : va_K dd vwCl tys s) (hP : va_P dd vwCl ws H) (q0 t0 : Nat) {cA : ClassId} {n : Nat} {f : Nat → Int32} (ha : ws[q0]? = some (a, .inl (cA, n, .inl f))) (ht : tys[t0]? = some (cA, .int)) {j : Nat} {v : Int32} (hj : j < n) (hn : n < 2 ^ 31) (hv : f j = v) (hdg : decode cc pc = .ok (.iaload, 1))
    (kk : W p l e R s m args below meth c H locs cells slots Q (F0 m (pc + 1) ls (.int v :: rest))) : W p l e R s m args below meth c H locs cells slots Q (F0 m pc ls (.int (nI j) :: .ref a :: rest)) :=
  va_iald hexec hb hK hP q0 t0 ha ht (vp_in_nI hj hn) hdg (by rw [nI_clamp (Nat.lt_trans hj hn), hv]; exact kk)
theorem ya_bald (hexec : p.tables.exec = Jvm.exec) (hb : c.code = cc) (hK : va_K dd vwCl tys s) (hP : va_P dd vwCl ws H) (q0 t0 : Nat) {cA : ClassId} {n : Nat} {f : Nat → Int32} (ha : ws[q0]? = some (a, .inl (cA, n, .inl f))) (ht : tys[t0]? = some (cA, .byte)) {j : Nat} {v : Int32} (hj : j < n) (hn : n < 2 ^ 31) (hv : f j = v) (hdg : decode cc pc = .ok (.baload, 1))
    (kk : W p l e R s m args below meth c H locs cells slots Q (F0 m (pc + 1) ls (.int v :: rest))) : W p l e R s m args below meth c H locs cells slots Q (F0 m pc ls (.int (nI j) :: .ref a :: rest)) :=
  va_bald hexec hb hK hP q0 t0 ha ht (vp_in_nI hj hn) hdg (by rw [nI_clamp (Nat.lt_trans hj hn), hv]; exact kk)
theorem ya_zald (hexec : p.tables.exec = Jvm.exec) (hb : c.code = cc) (hK : va_K dd vwCl tys s) (hP : va_P dd vwCl ws H) (q0 t0 : Nat) {cA : ClassId} {n : Nat} {f : Nat → Int32} (ha : ws[q0]? = some (a, .inl (cA, n, .inl f))) (ht : tys[t0]? = some (cA, .boolean)) {j : Nat} {v : Int32} (hj : j < n) (hn : n < 2 ^ 31) (hv : f j = v) (hdg : decode cc pc = .ok (.baload, 1))
    (kk : W p l e R s m args below meth c H locs cells slots Q (F0 m (pc + 1) ls (.int v :: rest))) : W p l e R s m args below meth c H locs cells slots Q (F0 m pc ls (.int (nI j) :: .ref a :: rest)) :=
  va_zald hexec hb hK hP q0 t0 ha ht (vp_in_nI hj hn) hdg (by rw [nI_clamp (Nat.lt_trans hj hn), hv]; exact kk)
theorem ya_sald (hexec : p.tables.exec = Jvm.exec) (hb : c.code = cc) (hK : va_K dd vwCl tys s) (hP : va_P dd vwCl ws H) (q0 t0 : Nat) {cA : ClassId} {n : Nat} {f : Nat → Int32} (ha : ws[q0]? = some (a, .inl (cA, n, .inl f))) (ht : tys[t0]? = some (cA, .short)) {j : Nat} {v : Int32} (hj : j < n) (hn : n < 2 ^ 31) (hv : f j = v) (hdg : decode cc pc = .ok (.saload, 1))
    (kk : W p l e R s m args below meth c H locs cells slots Q (F0 m (pc + 1) ls (.int v :: rest))) : W p l e R s m args below meth c H locs cells slots Q (F0 m pc ls (.int (nI j) :: .ref a :: rest)) :=
  va_sald hexec hb hK hP q0 t0 ha ht (vp_in_nI hj hn) hdg (by rw [nI_clamp (Nat.lt_trans hj hn), hv]; exact kk)
theorem ya_iast (hexec : p.tables.exec = Jvm.exec) (hb : c.code = cc) (hK : va_K dd vwCl tys s) (hP : va_P dd vwCl ws H) (hD : va_D A ws) (hS : va_S A H0 H locs) (q0 t0 : Nat) {cA : ClassId} {n : Nat} {f : Nat → Int32} (ha : ws[q0]? = some (a, .inl (cA, n, .inl f))) (ht : tys[t0]? = some (cA, .int)) {j : Nat} {x y : Int32} {ws' : va_W} (hj : j < n) (hn : n < 2 ^ 31) (hy : x = y) (hw : ws.set q0 (a, .inl (cA, n, .inl (upd f j y))) = ws') (hdg : decode cc pc = .ok (.iastore, 1))
    (kk : ∀ (H1 : Heap) (locs1 : List Loc), va_P dd vwCl ws' H1 → va_D A ws' → va_S A H0 H1 locs1 → W p l e R s m args below meth c H1 locs1 cells slots Q (F0 m (pc + 1) ls rest)) : W p l e R s m args below meth c H locs cells slots Q (F0 m pc ls (.int x :: .int (nI j) :: .ref a :: rest)) := by
  refine va_iast hexec hb hK hP hD hS q0 t0 ha ht (vp_in_nI hj hn) hdg (fun H1 locs1 h1 h2 h3 => ?_)
  rw [nI_clamp (Nat.lt_trans hj hn), hy, hw] at h1 h2
  exact kk H1 locs1 h1 h2 h3
theorem ya_bast (hexec : p.tables.exec = Jvm.exec) (hb : c.code = cc) (hK : va_K dd vwCl tys s) (hP : va_P dd vwCl ws H) (hD : va_D A ws) (hS : va_S A H0 H locs) (q0 t0 : Nat) {cA : ClassId} {n : Nat} {f : Nat → Int32} (ha : ws[q0]? = some (a, .inl (cA, n, .inl f))) (ht : tys[t0]? = some (cA, .byte)) {j : Nat} {x y : Int32} {ws' : va_W} (hj : j < n) (hn : n < 2 ^ 31) (hy : vp_nar .byte x = y) (hw : ws.set q0 (a, .inl (cA, n, .inl (upd f j y))) = ws') (hdg : decode cc pc = .ok (.bastore, 1))
    (kk : ∀ (H1 : Heap) (locs1 : List Loc), va_P dd vwCl ws' H1 → va_D A ws' → va_S A H0 H1 locs1 → W p l e R s m args below meth c H1 locs1 cells slots Q (F0 m (pc + 1) ls rest)) : W p l e R s m args below meth c H locs cells slots Q (F0 m pc ls (.int x :: .int (nI j) :: .ref a :: rest)) := by
  refine va_bast hexec hb hK hP hD hS q0 t0 ha ht (vp_in_nI hj hn) hdg (fun H1 locs1 h1 h2 h3 => ?_)
  rw [nI_clamp (Nat.lt_trans hj hn), hy, hw] at h1 h2
  exact kk H1 locs1 h1 h2 h3
theorem ya_zast (hexec : p.tables.exec = Jvm.exec) (hb : c.code = cc) (hK : va_K dd vwCl tys s) (hP : va_P dd vwCl ws H) (hD : va_D A ws) (hS : va_S A H0 H locs) (q0 t0 : Nat) {cA : ClassId} {n : Nat} {f : Nat → Int32} (ha : ws[q0]? = some (a, .inl (cA, n, .inl f))) (ht : tys[t0]? = some (cA, .boolean)) {j : Nat} {x y : Int32} {ws' : va_W} (hj : j < n) (hn : n < 2 ^ 31) (hy : vp_nar .boolean x = y) (hw : ws.set q0 (a, .inl (cA, n, .inl (upd f j y))) = ws') (hdg : decode cc pc = .ok (.bastore, 1))
    (kk : ∀ (H1 : Heap) (locs1 : List Loc), va_P dd vwCl ws' H1 → va_D A ws' → va_S A H0 H1 locs1 → W p l e R s m args below meth c H1 locs1 cells slots Q (F0 m (pc + 1) ls rest)) : W p l e R s m args below meth c H locs cells slots Q (F0 m pc ls (.int x :: .int (nI j) :: .ref a :: rest)) := by
  refine va_zast hexec hb hK hP hD hS q0 t0 ha ht (vp_in_nI hj hn) hdg (fun H1 locs1 h1 h2 h3 => ?_)
  rw [nI_clamp (Nat.lt_trans hj hn), hy, hw] at h1 h2
  exact kk H1 locs1 h1 h2 h3
theorem ya_sast (hexec : p.tables.exec = Jvm.exec) (hb : c.code = cc) (hK : va_K dd vwCl tys s) (hP : va_P dd vwCl ws H) (hD : va_D A ws) (hS : va_S A H0 H locs) (q0 t0 : Nat) {cA : ClassId} {n : Nat} {f : Nat → Int32} (ha : ws[q0]? = some (a, .inl (cA, n, .inl f))) (ht : tys[t0]? = some (cA, .short)) {j : Nat} {x y : Int32} {ws' : va_W} (hj : j < n) (hn : n < 2 ^ 31) (hy : vp_nar .short x = y) (hw : ws.set q0 (a, .inl (cA, n, .inl (upd f j y))) = ws') (hdg : decode cc pc = .ok (.sastore, 1))
    (kk : ∀ (H1 : Heap) (locs1 : List Loc), va_P dd vwCl ws' H1 → va_D A ws' → va_S A H0 H1 locs1 → W p l e R s m args below meth c H1 locs1 cells slots Q (F0 m (pc + 1) ls rest)) : W p l e R s m args below meth c H locs cells slots Q (F0 m pc ls (.int x :: .int (nI j) :: .ref a :: rest)) := by
  refine va_sast hexec hb hK hP hD hS q0 t0 ha ht (vp_in_nI hj hn) hdg (fun H1 locs1 h1 h2 h3 => ?_)
  rw [nI_clamp (Nat.lt_trans hj hn), hy, hw] at h1 h2
  exact kk H1 locs1 h1 h2 h3
/-- X's fields -/
theorem x_get (hexec : p.tables.exec = Jvm.exec) (hb : c.code = cc) (hts : ∀ w ∈ lw_all, w.before args s = true) (hown : s.vm.findClass RX0 = some m.cls) (hK : va_K dd vwCl tys s) {g : XG} {u : XS} (hP : va_P dd vwCl (wX g u) H) (k : Nat) (hk : k < 9) (hT : (TX0 k).1 = RX0) {index : Nat} (hq : Cond.fieldLink RX0 index RX0 (TX0 k).2.1 (TX0 k).2.2.1 ∈ lw_all) {v : Value} (hv : (xfs g u)[k]? = some v) (hdg : decode cc pc = .ok (.getfield index, 3))
    (kk : W p l e R s m args below meth c H locs cells slots Q (F0 m (pc + 3) ls (v :: rest))) : W p l e R s m args below meth c H locs cells slots Q (F0 m pc ls (.ref g.1 :: rest)) :=
  va_get (D := dd) (ci := 0) (C := RX0) (T := TX0) (N := 9) hexec hb hts in_X0 hown hK hP 0 rfl rfl k hk (hts _ hq) (fun x h => by rw [hT] at h; exact h) hv hdg kk
theorem x_put (hexec : p.tables.exec = Jvm.exec) (hb : c.code = cc) (hts : ∀ w ∈ lw_all, w.before args s = true) (hown : s.vm.findClass RX0 = some m.cls) (hK : va_K dd vwCl tys s) {g : XG} {u : XS} (hP : va_P dd vwCl (wX g u) H) (hD : va_D A (wX g u)) (hS : va_S A H0 H locs) (k : Nat) (hk : k < 9) (hT : (TX0 k).1 = RX0) {index : Nat} (hq : Cond.fieldLink RX0 index RX0 (TX0 k).2.1 (TX0 k).2.2.1 ∈ lw_all) (hfin : (TX0 k).2.2.2 = false) (hd : parseFieldDescriptor (TX0 k).2.2.1 = some .int) {x : Int32} {ws' : va_W} (hw : (wX g u).set 0 (g.1, .inr (0, (xfs g u).set k (.int x))) = ws') (hdg : decode cc pc = .ok (.putfield index, 3))
    (kk : ∀ (H1 : Heap) (locs1 : List Loc), va_P dd vwCl ws' H1 → va_D A ws' → va_S A H0 H1 locs1 → W p l e R s m args below meth c H1 locs1 cells slots Q (F0 m (pc + 3) ls rest)) : W p l e R s m args below meth c H locs cells slots Q (F0 m pc ls (.int x :: .ref g.1 :: rest)) := by
  refine va_put (D := dd) (ci := 0) (v := .int x) (ty := .int) (C := RX0) (T := TX0) (N := 9) hexec hb hts in_X0 tyX0 tyX0_ok nmX0 hown hK hP hD hS 0 rfl rfl k hk (hts _ hq) (fun x h => by rw [hT] at h; exact h) hfin hd rfl rfl hk hdg (fun H1 locs1 h1 h2 h3 => ?_)
  rw [hw] at h1 h2
  exact kk H1 locs1 h1 h2 h3
/-- M's fields -/
theorem m_get (hexec : p.tables.exec = Jvm.exec) (hb : c.code = cc) (hts : ∀ w ∈ lw_all, w.before args s = true) (hown : s.vm.findClass RX1 = some m.cls) (hK : va_K dd vwCl tys s) {g : MG} {u : MS} (hP : va_P dd vwCl (wM g u) H) (k : Nat) (hk : k < 5) (hT : (TX1 k).1 = RX1) {index : Nat} (hq : Cond.fieldLink RX1 index RX1 (TX1 k).2.1 (TX1 k).2.2.1 ∈ lw_all) {v : Value} (hv : (mfs g)[k]? = some v) (hdg : decode cc pc = .ok (.getfield index, 3))
    (kk : W p l e R s m args below meth c H locs cells slots Q (F0 m (pc + 3) ls (v :: rest))) : W p l e R s m args below meth c H locs cells slots Q (F0 m pc ls (.ref g.1 :: rest)) :=
  va_get (D := dd) (ci := 1) (C := RX1) (T := TX1) (N := 5) hexec hb hts in_X1 hown hK hP 0 rfl rfl k hk (hts _ hq) (fun x h => by rw [hT] at h; exact h) hv hdg kk
/-- a contract of a method of an object whose world is wf u: int answer; no answer -/
def zB {U : Type} (dd : va_G) (tys : List (ClassId × FieldType)) (wf : U → va_W) (A : Nat → Prop) (u : U) (t : State) : Prop := va_P dd vwCl (wf u) t.heap ∧ va_K dd vwCl tys t ∧ va_D A (wf u)
def zP {U : Type} (dd : va_G) (tys : List (ClassId × FieldType)) (wf : U → va_W) (u : U) (sz : Nat) (V : State) : Prop := V.heap.size = sz ∧ va_P dd vwCl (wf u) V.heap ∧ va_K dd vwCl tys V ∧ va_D (fun _ => True) (wf u)
def zMi {U : Type} (l : Launch) (dd : va_G) (tys : List (ClassId × FieldType)) (wf : U → va_W) (a : Nat) (y : MethodName) (cc : ByteArray) (nL : Nat) (ret : Option FieldType) (fr lo : Nat) (As : List Value) (u : U) (post : Int32 → U → Prop) : Prop :=
  ∀ sz : Nat, Met l y (ws_ y cc nL ret) ({ frames := fr, cells := 0, slots := 0, locals := lo } : Room) (va_Pc (.ref a :: As) (zP dd tys wf u sz)) (va_Qi post (zB dd tys wf (va_A (wf u) sz)) (va_A (wf u) sz)) 0 0 (va_A (wf u) sz)
def zMv {U : Type} (l : Launch) (dd : va_G) (tys : List (ClassId × FieldType)) (wf : U → va_W) (a : Nat) (y : MethodName) (cc : ByteArray) (nL : Nat) (ret : Option FieldType) (fr lo : Nat) (As : List Value) (u : U) (post : U → Prop) : Prop :=
  ∀ sz : Nat, Met l y (ws_ y cc nL ret) ({ frames := fr, cells := 0, slots := 0, locals := lo } : Room) (va_Pc (.ref a :: As) (zP dd tys wf u sz)) (va_Qv post (zB dd tys wf (va_A (wf u) sz)) (va_A (wf u) sz)) 0 0 (va_A (wf u) sz)
abbrev zR (fr lo : Nat) : Room := { frames := fr, cells := 0, slots := 0, locals := lo }
theorem zMi_of {U : Type} {wf : U → va_W} {y : MethodName} {nL fr lo : Nat} {ret : Option FieldType} {As : List Value} {u : U} {post : Int32 → U → Prop} (C : String) (hy : plainName y.cls = true) (hC : y.cls = C) (hlen : (lg_sl (.ref a :: As)).length ≤ nL)
    (body : ∀ (p : Program) (e : Env) (s : State) (m : MethodId) (below : List Frame) (meth : Method) (c : Code) (A : Nat → Prop), p.tables.exec = Jvm.exec → c.code = cc → meth.sig.returnType = ret → c.maxLocals = nL → s.vm.findClass C = some m.cls → (∀ w ∈ lw_all, w.before (Value.ref a :: As).toArray s = true) → meth.locks = false → (∀ q : Nat, s.heap.size ≤ q → A q) → va_K dd vwCl tys s → va_P dd vwCl (wf u) s.heap → va_D A (wf u) → va_S A s.heap s.heap [] → ∀ ls : Array Slot, lv_has ls nL (lv_args 0 (.ref a :: As)) → W p l e (headSpec (ws_ y cc nL ret) (zR fr lo)).room s m (Value.ref a :: As).toArray below meth c s.heap [] 0 0 (MQ below (va_Qi post (zB dd tys wf A) A) (Value.ref a :: As).toArray s 0 0 A) (F0 m 0 ls [])) : zMi l dd tys wf a y cc nL ret fr lo As u post := by
  intro sz
  refine Met.ofW (cc := cc) (maxL := nL) (ret := ret) hy rfl ?_
  intro p e s m args below meth c s₁ B hml hv
  obtain ⟨rfl, hsz, hP, hK, hD0⟩ := hv
  have hts := atoms_spec (ws := ws_ y cc nL ret) B.pre
  have hts : ∀ w ∈ lw_all, w.before _ s = true := fun w h => hts w (List.mem_cons_of_mem _ h)
  have hown : s.vm.findClass C = some m.cls := by rw [← hC]; exact findClass_of_methodNamed B.named
  subst hsz
  have hl := lv_entry (.ref a :: As) (n := nL) hlen
  rw [lg_entry_eq]
  exact body p e s m below meth c (va_A (wf u) s.heap.size) B.exec B.bytes B.returns hml hown hts B.notSynchronized (fun q h => Or.inr h) hK hP hD0.self va_S.rf _ hl
theorem zMv_of {U : Type} {wf : U → va_W} {y : MethodName} {nL fr lo : Nat} {ret : Option FieldType} {As : List Value} {u : U} {post : U → Prop} (C : String) (hy : plainName y.cls = true) (hC : y.cls = C) (hlen : (lg_sl (.ref a :: As)).length ≤ nL)
    (body : ∀ (p : Program) (e : Env) (s : State) (m : MethodId) (below : List Frame) (meth : Method) (c : Code) (A : Nat → Prop), p.tables.exec = Jvm.exec → c.code = cc → meth.sig.returnType = ret → c.maxLocals = nL → s.vm.findClass C = some m.cls → (∀ w ∈ lw_all, w.before (Value.ref a :: As).toArray s = true) → meth.locks = false → (∀ q : Nat, s.heap.size ≤ q → A q) → va_K dd vwCl tys s → va_P dd vwCl (wf u) s.heap → va_D A (wf u) → va_S A s.heap s.heap [] → ∀ ls : Array Slot, lv_has ls nL (lv_args 0 (.ref a :: As)) → W p l e (headSpec (ws_ y cc nL ret) (zR fr lo)).room s m (Value.ref a :: As).toArray below meth c s.heap [] 0 0 (MQ below (va_Qv post (zB dd tys wf A) A) (Value.ref a :: As).toArray s 0 0 A) (F0 m 0 ls [])) : zMv l dd tys wf a y cc nL ret fr lo As u post := by
  intro sz
  refine Met.ofW (cc := cc) (maxL := nL) (ret := ret) hy rfl ?_
  intro p e s m args below meth c s₁ B hml hv
  obtain ⟨rfl, hsz, hP, hK, hD0⟩ := hv
  have hts := atoms_spec (ws := ws_ y cc nL ret) B.pre
  have hts : ∀ w ∈ lw_all, w.before _ s = true := fun w h => hts w (List.mem_cons_of_mem _ h)
  have hown : s.vm.findClass C = some m.cls := by rw [← hC]; exact findClass_of_methodNamed B.named
  subst hsz
  have hl := lv_entry (.ref a :: As) (n := nL) hlen
  rw [lg_entry_eq]
  exact body p e s m below meth c (va_A (wf u) s.heap.size) B.exec B.bytes B.returns hml hown hts B.notSynchronized (fun q h => Or.inr h) hK hP hD0.self va_S.rf _ hl
theorem z_iret {U : Type} {wf : U → va_W} {u : U} {post : Int32 → U → Prop} {v : Int32} (hexec : p.tables.exec = Jvm.exec) (hb : c.code = cc) (hr : meth.sig.returnType = some .int) (hlocks : meth.locks = false) (hK : va_K dd vwCl tys s) (hP : va_P dd vwCl (wf u) H) (hD : va_D A (wf u)) (hS : va_S A s.heap H locs) (hdg : decode cc pc = .ok (.ireturn, 1)) (hp : post v u) : W p l e R s m args below meth c H locs cells slots (MQ below (va_Qi post (zB dd tys wf A) A) args s cells slots A) (F0 m pc ls [.int v]) :=
  W.iret hexec hb hr (fun t ht hW => ⟨⟨v, u, rfl, hp, by rw [ht]; exact hP, va_K.moved hW.alike hK, hD⟩, hS.F ht⟩) hS.2.2 hdg hlocks
theorem z_zret {U : Type} {wf : U → va_W} {u : U} {post : Int32 → U → Prop} {v : Int32} (hexec : p.tables.exec = Jvm.exec) (hb : c.code = cc) (hr : meth.sig.returnType = some .boolean) (hn : narrow .boolean (.int v) = .int v) (hlocks : meth.locks = false) (hK : va_K dd vwCl tys s) (hP : va_P dd vwCl (wf u) H) (hD : va_D A (wf u)) (hS : va_S A s.heap H locs) (hdg : decode cc pc = .ok (.ireturn, 1)) (hp : post v u) : W p l e R s m args below meth c H locs cells slots (MQ below (va_Qi post (zB dd tys wf A) A) args s cells slots A) (F0 m pc ls [.int v]) :=
  W.zret hexec hb hr hn (fun t ht hW => ⟨⟨v, u, rfl, hp, by rw [ht]; exact hP, va_K.moved hW.alike hK, hD⟩, hS.F ht⟩) hS.2.2 hdg hlocks
theorem z_vret {U : Type} {wf : U → va_W} {u : U} {post : U → Prop} (hexec : p.tables.exec = Jvm.exec) (hb : c.code = cc) (hr : meth.sig.returnType = none) (hlocks : meth.locks = false) (hK : va_K dd vwCl tys s) (hP : va_P dd vwCl (wf u) H) (hD : va_D A (wf u)) (hS : va_S A s.heap H locs) (hdg : decode cc pc = .ok (.return_, 1)) (hp : post u) : W p l e R s m args below meth c H locs cells slots (MQ below (va_Qv post (zB dd tys wf A) A) args s cells slots A) (F0 m pc ls []) :=
  W.vret hexec hb hr (fun t ht hW => ⟨⟨u, rfl, hp, by rw [ht]; exact hP, va_K.moved hW.alike hK, hD⟩, hS.F ht⟩) hS.2.2 hdg hlocks
theorem z_blind {U : Type} {wf : U → va_W} {u : U} {av : List Value} {sz : Nat} : FrameBlind (va_Pc av (zP dd tys wf u sz)) := fun a U g mk q => by
  obtain ⟨q0, q1, qP, qK, qD⟩ := q
  exact ⟨q0, q1, qP, va_K.moved (u := U) (U := U.calling g mk a) (Vm.Alike.refl U.vm) qK, qD⟩
variable {nL maxL fr lo index n : Nat} {own C : String} {y : MethodName} {bytes : ByteArray} {ret : Option FieldType} {As st : List Value}
/-- a call of a method of the same object: int answer -/
theorem z_calli {U : Type} {wf : U → va_W} {u : U} {post : Int32 → U → Prop} (S : CallFix p m c cc nL s args lw_all own) (hK : va_K dd vwCl tys s) (hP : va_P dd vwCl (wf u) H) (hD : va_D A (wf u)) (hS : va_S A s.heap H locs) (hA : ∀ q : Nat, s.heap.size ≤ q → A q) (hM : zMi l dd tys wf a y bytes maxL ret fr lo As u post)
    (hG : GoodIn lw_all (wsV own index C y (ws_ y bytes maxL ret))) (hd : y.cls = C ∧ y.cls ≠ "java/lang/invoke/MethodHandle" ∧ y.cls ≠ "java/lang/invoke/VarHandle" ∧ (parseMethodDescriptor y.desc).map (fun d => d.parameters.length) = some n) (hR : fr + 1 ≤ R.frames ∧ 8 + (maxL + 11) + lo ≤ R.locals) {ci : Nat} {q : vw_C} {fs : List Value} (hc : vwCl[ci]? = some q) (hqC : q.1 = C) (he : (wf u)[0]? = some (a, .inr (ci, fs)))
    (hn : As.length = n) (hsz : ls.size = nL) (hst : st = As.reverse ++ .ref a :: rest) (hW : (rest.map fun v => v.category).sum ≤ 8) (hdg : decode cc pc = .ok (.invokevirtual index, 3)) (hcs : cells ≤ R.cells ∧ slots ≤ R.slots)
    (kk : ∀ (r : Int32) (u' : U) (H1 : Heap) (locs1 : List Loc), post r u' → va_P dd vwCl (wf u') H1 → va_D A (wf u') → va_S A s.heap H1 locs1 → W p l e R s m args below meth c H1 locs1 cells slots Q (F0 m (pc + 3) ls (.int r :: rest))) : W p l e R s m args below meth c H locs cells slots Q (F0 m pc ls st) := by
  have hFc : ∀ q, va_A (wf u) H.size q → A q := fun q h => by
    rcases h with ⟨k, e, h⟩ | h
    · exact hD.2 k (q, e) h
    · exact hA q (Nat.le_trans hS.1 h)
  subst hst
  subst hqC
  refine va_calli (va_runV (As := As) (rest := rest) S (hM H.size) (cwV n S.2.2.2.2 hG rfl rfl rfl hd hR) ⟨z_blind, va_recv hK hP (ci := ci) (q0 := 0) hc he, fun U hU hW => ⟨rfl, by rw [hU], by rw [hU]; exact hP, va_K.moved hW.alike hK, hD.weaken (fun _ _ _ _ => trivial)⟩⟩ rfl hn hsz rfl (lv_room hW) hdg hcs) hS (fun q _ h => hFc q h) hFc (fun r u' t H1 locs1 ht hvm hpo hB hz1 hk1 hS1 => ?_)
  obtain ⟨hP1, hK1, hD1⟩ := hB
  rw [ht] at hP1
  exact kk r u' H1 locs1 hpo hP1 (hD1.weaken (fun k q _ h => hFc q.1 h)) hS1
theorem z_callv {U : Type} {wf : U → va_W} {u : U} {post : U → Prop} (S : CallFix p m c cc nL s args lw_all own) (hK : va_K dd vwCl tys s) (hP : va_P dd vwCl (wf u) H) (hD : va_D A (wf u)) (hS : va_S A s.heap H locs) (hA : ∀ q : Nat, s.heap.size ≤ q → A q) (hM : zMv l dd tys wf a y bytes maxL ret fr lo As u post)
    (hG : GoodIn lw_all (wsV own index C y (ws_ y bytes maxL ret))) (hd : y.cls = C ∧ y.cls ≠ "java/lang/invoke/MethodHandle" ∧ y.cls ≠ "java/lang/invoke/VarHandle" ∧ (parseMethodDescriptor y.desc).map (fun d => d.parameters.length) = some n) (hR : fr + 1 ≤ R.frames ∧ 8 + (maxL + 11) + lo ≤ R.locals) {ci : Nat} {q : vw_C} {fs : List Value} (hc : vwCl[ci]? = some q) (hqC : q.1 = C) (he : (wf u)[0]? = some (a, .inr (ci, fs)))
    (hn : As.length = n) (hsz : ls.size = nL) (hst : st = As.reverse ++ .ref a :: rest) (hW : (rest.map fun v => v.category).sum ≤ 8) (hdg : decode cc pc = .ok (.invokevirtual index, 3)) (hcs : cells ≤ R.cells ∧ slots ≤ R.slots)
    (kk : ∀ (u' : U) (H1 : Heap) (locs1 : List Loc), post u' → va_P dd vwCl (wf u') H1 → va_D A (wf u') → va_S A s.heap H1 locs1 → W p l e R s m args below meth c H1 locs1 cells slots Q (F0 m (pc + 3) ls rest)) : W p l e R s m args below meth c H locs cells slots Q (F0 m pc ls st) := by
  have hFc : ∀ q, va_A (wf u) H.size q → A q := fun q h => by
    rcases h with ⟨k, e, h⟩ | h
    · exact hD.2 k (q, e) h
    · exact hA q (Nat.le_trans hS.1 h)
  subst hst
  subst hqC
  refine va_callv (va_runV (As := As) (rest := rest) S (hM H.size) (cwV n S.2.2.2.2 hG rfl rfl rfl hd hR) ⟨z_blind, va_recv hK hP (ci := ci) (q0 := 0) hc he, fun U hU hW => ⟨rfl, by rw [hU], by rw [hU]; exact hP, va_K.moved hW.alike hK, hD.weaken (fun _ _ _ _ => trivial)⟩⟩ rfl hn hsz rfl (lv_room hW) hdg hcs) hS (fun q _ h => hFc q h) hFc (fun u' t H1 locs1 ht hvm hpo hB hz1 hk1 hS1 => ?_)
  obtain ⟨hP1, hK1, hD1⟩ := hB
  rw [ht] at hP1
  exact kk u' H1 locs1 hpo hP1 (hD1.weaken (fun k q _ h => hFc q.1 h)) hS1
end LJRULES
end
section
/-! X: isJob, isPlace, jobs -/
set_option maxHeartbeats 4000000 in
set_option maxRecDepth 100000 in
theorem metX_isJob (l : Launch) (dd : va_G) (g : XG) (jc : Int32) (L D F : Nat → Int32) (rk : Int32) (R : Nat → Int32) (ad ac am : Int32) (p0 p1 : Int32) : zMi l dd (tyX g) (wX g) g.1 yX0_isJob cX0_isJob 3 (some .boolean) 0 0 [.int p0, .int p1] (jc, L, D, F, rk, R, ad, ac, am) (fun r v => r = lj_pI (lj_job p0 p1) ∧ v = (jc, L, D, F, rk, R, ad, ac, am)) := by
  refine zMi_of RX0 (by decide) rfl (Nat.le_of_ble_eq_true rfl) ?_
  intro p e s m below meth c A hx hb hr hml hown hts hlocks hA hK hP hD hS ls hl
  have hl : lv_has ls 3 [(0, .ref g.1), (1, .int p0), (2, .int p1)] := hl
  refine lv_iload_n hx hb dX0_isJob_0 rfl (lv_at hl 1 rfl) ?_
  refine lv_iconst (v := nI 1) hx hb dX0_isJob_1 (by decide) ?_
  refine lv_icmp_lt (tgt := 26) hx hb dX0_isJob_2 (by decide) (fun c2 => ?_) (fun c2 => ?_)
  · refine lv_iconst (v := nI 0) hx hb dX0_isJob_26 (by decide) ?_
    exact z_zret (wf := wX g) (u := (jc, L, D, F, rk, R, ad, ac, am)) hx hb hr rfl hlocks hK hP hD hS dX0_isJob_27 (⟨(lj_f (fun h => h.1 c2)).symm, rfl⟩)
  · refine lv_iload_n hx hb dX0_isJob_5 rfl (lv_at hl 1 rfl) ?_
    refine lv_bipush (v := nI 50) hx hb dX0_isJob_6 (by decide) ?_
    refine lv_icmp_gt (tgt := 26) hx hb dX0_isJob_8 (by decide) (fun c8 => ?_) (fun c8 => ?_)
    · refine lv_iconst (v := nI 0) hx hb dX0_isJob_26 (by decide) ?_
      exact z_zret (wf := wX g) (u := (jc, L, D, F, rk, R, ad, ac, am)) hx hb hr rfl hlocks hK hP hD hS dX0_isJob_27 (⟨(lj_f (fun h => h.2.1 c8)).symm, rfl⟩)
    · refine lv_iload_n hx hb dX0_isJob_11 rfl (lv_at hl 2 rfl) ?_
      refine lv_if_lt (tgt := 26) hx hb dX0_isJob_12 (by decide) (fun c12 => ?_) (fun c12 => ?_)
      · refine lv_iconst (v := nI 0) hx hb dX0_isJob_26 (by decide) ?_
        exact z_zret (wf := wX g) (u := (jc, L, D, F, rk, R, ad, ac, am)) hx hb hr rfl hlocks hK hP hD hS dX0_isJob_27 (⟨(lj_f (fun h => h.2.2.1 c12)).symm, rfl⟩)
      · refine lv_iload_n hx hb dX0_isJob_15 rfl (lv_at hl 2 rfl) ?_
        refine lv_sipush (v := nI 200) hx hb dX0_isJob_16 (by decide) ?_
        refine lv_icmp_gt (tgt := 26) hx hb dX0_isJob_19 (by decide) (fun c19 => ?_) (fun c19 => ?_)
        · refine lv_iconst (v := nI 0) hx hb dX0_isJob_26 (by decide) ?_
          exact z_zret (wf := wX g) (u := (jc, L, D, F, rk, R, ad, ac, am)) hx hb hr rfl hlocks hK hP hD hS dX0_isJob_27 (⟨(lj_f (fun h => h.2.2.2 c19)).symm, rfl⟩)
        · refine lv_iconst (v := nI 1) hx hb dX0_isJob_22 (by decide) ?_
          refine lv_goto (tgt := 27) hx hb dX0_isJob_23 (by decide) ?_
          exact z_zret (wf := wX g) (u := (jc, L, D, F, rk, R, ad, ac, am)) hx hb hr rfl hlocks hK hP hD hS dX0_isJob_27 (⟨(lj_t ⟨c2, c8, c12, c19⟩).symm, rfl⟩)

set_option maxHeartbeats 4000000 in
set_option maxRecDepth 100000 in
theorem metX_isPlace (l : Launch) (dd : va_G) (g : XG) (jc : Int32) (L D F : Nat → Int32) (rk : Int32) (R : Nat → Int32) (ad ac am : Int32) (len : Nat → Nat) (hL : ∀ i, i < 10 → L i = nI (len i)) (hl50 : ∀ i, len i ≤ 50) (p0 : Int32) : zMi l dd (tyX g) (wX g) g.1 yX0_isPlace cX0_isPlace 2 (some .boolean) 0 0 [.int p0] (jc, L, D, F, rk, R, ad, ac, am) (fun r v => r = lj_pI (lj_place len p0) ∧ v = (jc, L, D, F, rk, R, ad, ac, am)) := by
  refine zMi_of RX0 (by decide) rfl (Nat.le_of_ble_eq_true rfl) ?_
  intro p e s m below meth c A hx hb hr hml hown hts hlocks hA hK hP hD hS ls hl
  have hl : lv_has ls 2 [(0, .ref g.1), (1, .int p0)] := hl
  refine lv_iload_n hx hb dX0_isPlace_0 rfl (lv_at hl 1 rfl) ?_
  refine lv_if_lt (tgt := 23) hx hb dX0_isPlace_1 (by decide) (fun c1 => ?_) (fun c1 => ?_)
  · refine lv_iconst (v := nI 0) hx hb dX0_isPlace_23 (by decide) ?_
    exact z_zret (wf := wX g) (u := (jc, L, D, F, rk, R, ad, ac, am)) hx hb hr rfl hlocks hK hP hD hS dX0_isPlace_24 (⟨(lj_f (fun h => by obtain ⟨j2, hj2, e2, h2⟩ := h; exact absurd c1 (by rw [e2]; exact nI_pos (by omega)))).symm, rfl⟩)
  · refine lv_iload_n hx hb dX0_isPlace_4 rfl (lv_at hl 1 rfl) ?_
    refine lv_bipush (v := nI 9) hx hb dX0_isPlace_5 (by decide) ?_
    refine lv_icmp_gt (tgt := 23) hx hb dX0_isPlace_7 (by decide) (fun c7 => ?_) (fun c7 => ?_)
    · refine lv_iconst (v := nI 0) hx hb dX0_isPlace_23 (by decide) ?_
      exact z_zret (wf := wX g) (u := (jc, L, D, F, rk, R, ad, ac, am)) hx hb hr rfl hlocks hK hP hD hS dX0_isPlace_24 (⟨(lj_f (fun h => by obtain ⟨j2, hj2, e2, h2⟩ := h; exact absurd c7 (by rw [e2]; exact nI_nlt (by omega) (by decide)))).symm, rfl⟩)
    · obtain ⟨j, hj, rfl⟩ := lj_ix9 c1 c7
      refine lv_aload_n hx hb dX0_isPlace_10 rfl (lv_at hl 0 rfl) ?_
      refine x_get (v := .ref g.2.1) hx hb hts hown hK hP 1 (by decide) rfl q29 rfl dX0_isPlace_11 ?_
      refine lv_iload_n hx hb dX0_isPlace_14 rfl (lv_at hl 1 rfl) ?_
      refine ya_bald (v := nI (len j)) hx hb hK hP 1 0 rfl rfl (by omega) (by decide) (hL j hj) dX0_isPlace_15 ?_
      refine lv_if_eq (tgt := 23) hx hb dX0_isPlace_16 (by decide) (fun c16 => ?_) (fun c16 => ?_)
      · refine lv_iconst (v := nI 0) hx hb dX0_isPlace_23 (by decide) ?_
        exact z_zret (wf := wX g) (u := (jc, L, D, F, rk, R, ad, ac, am)) hx hb hr rfl hlocks hK hP hD hS dX0_isPlace_24 (⟨(lj_f (fun h => by obtain ⟨j2, hj2, e2, h2⟩ := h; exact by rw [nI_eq (by omega) (by omega)] at e2; rw [← nI_0, nI_eq (by have := hl50 j; omega) (by decide)] at c16; subst e2; omega)).symm, rfl⟩)
      · refine lv_iconst (v := nI 1) hx hb dX0_isPlace_19 (by decide) ?_
        refine lv_goto (tgt := 24) hx hb dX0_isPlace_20 (by decide) ?_
        exact z_zret (wf := wX g) (u := (jc, L, D, F, rk, R, ad, ac, am)) hx hb hr rfl hlocks hK hP hD hS dX0_isPlace_24 (⟨(lj_t ⟨j, hj, rfl, Nat.pos_of_ne_zero (fun h => c16 (by rw [h]; rfl))⟩).symm, rfl⟩)

set_option maxHeartbeats 4000000 in
set_option maxRecDepth 100000 in
theorem metX_jobs (l : Launch) (dd : va_G) (g : XG) (jc : Int32) (L D F : Nat → Int32) (rk : Int32) (R : Nat → Int32) (ad ac am : Int32) : zMi l dd (tyX g) (wX g) g.1 yX0_jobs cX0_jobs 1 (some .int) 0 0 [] (jc, L, D, F, rk, R, ad, ac, am) (fun r v => r = jc ∧ v = (jc, L, D, F, rk, R, ad, ac, am)) := by
  refine zMi_of RX0 (by decide) rfl (Nat.le_of_ble_eq_true rfl) ?_
  intro p e s m below meth c A hx hb hr hml hown hts hlocks hA hK hP hD hS ls hl
  have hl : lv_has ls 1 [(0, .ref g.1)] := hl
  refine lv_aload_n hx hb dX0_jobs_0 rfl (lv_at hl 0 rfl) ?_
  refine x_get (v := .int jc) hx hb hts hown hK hP 0 (by decide) rfl q28 rfl dX0_jobs_1 ?_
  exact z_iret (wf := wX g) (u := (jc, L, D, F, rk, R, ad, ac, am)) hx hb hr hlocks hK hP hD hS dX0_jobs_4 (⟨rfl, rfl⟩)
end
section
/-! X: insert, withdraw -/
set_option maxHeartbeats 4000000 in
set_option maxRecDepth 100000 in
theorem lpX_insert {p : Program} {l : Launch} {e : Env} {Rm : Room} {s : State} {m : MethodId} {args : Array Value} {below : List Frame} {meth : Method} {c : Code} {Q : State → Prop} {dd : va_G} {A : Nat → Prop} {jc : Int32} {L D F : Nat → Int32} {rk : Int32} {ad ac am : Int32} {g : XG} (hx : p.tables.exec = Jvm.exec) (hb : c.code = cX0_insert) (hts : ∀ w ∈ lw_all, w.before args s = true) (hown : s.vm.findClass RX0 = some m.cls) (hK : va_K dd vwCl (tyX g) s) (x k : Nat) (hx11 : x < 11) (hk11 : k < 11) (r key : Nat → Nat) (hr11 : ∀ j, j < k → r j < 11) (hDr : ∀ j, j < k → D (r j) = nI (key (r j))) (hDx : D x = nI (key x)) (h200 : ∀ j, j < k → key (r j) ≤ 200) (hx200 : key x ≤ 200)
    (kx : ∀ (a : Nat) (R : Nat → Int32) (H : Heap) (locs : List Loc) (ls : Array Slot), a ≤ k → (∀ j, j < a → R j = nI (r j)) → (∀ j, a < j → j ≤ k → R j = nI (r (j - 1))) → (∀ j, a ≤ j → j < k → key x < key (r j)) → (a = 0 ∨ key (r (a - 1)) ≤ key x) → va_P dd vwCl (wX g (jc, L, D, F, rk, R, ad, ac, am)) H → va_D A (wX g (jc, L, D, F, rk, R, ad, ac, am)) → va_S A s.heap H locs → lv_has ls 3 [(0, .ref g.1), (1, .int (nI x)), (2, .int (nI a))] → W p l e Rm s m args below meth c H locs 0 0 Q (F0 m 51 ls [])) :
    ∀ (n : Nat) (a : Nat) (R : Nat → Int32) (H : Heap) (locs : List Loc) (ls : Array Slot), a < n → a ≤ k → (∀ j, j < a → R j = nI (r j)) → (∀ j, a < j → j ≤ k → R j = nI (r (j - 1))) → (∀ j, a ≤ j → j < k → key x < key (r j)) → va_P dd vwCl (wX g (jc, L, D, F, rk, R, ad, ac, am)) H → va_D A (wX g (jc, L, D, F, rk, R, ad, ac, am)) → va_S A s.heap H locs →  lv_has ls 3 [(0, .ref g.1), (1, .int (nI x)), (2, .int (nI a))] → W p l e Rm s m args below meth c H locs 0 0 Q (F0 m 5 ls []) := by
  intro n
  induction n with
  | zero =>
    intro a R H locs ls hn
    exact absurd hn (Nat.not_lt_zero _)
  | succ n ih =>
    intro a R H locs ls hn ha h1 h2 h3 hP hD hS hl
    refine lv_iload_n hx hb dX0_insert_5 rfl (lv_at hl 2 rfl) ?_
    refine lv_if_le (tgt := 51) hx hb dX0_insert_6 (by decide) (fun c6 => ?_) (fun c6 => ?_)
    · have ha0 : a = 0 := by
        rcases Nat.eq_zero_or_pos a with q | q
        · exact q
        · exact absurd c6 (nI_nle q (by omega))
      exact kx a R H locs ls ha h1 h2 h3 (Or.inl ha0) hP hD hS (lv_sub hl [0, 1, 2] rfl)
    · have ha0 : 0 < a := by
        rcases Nat.eq_zero_or_pos a with q | q
        · exact absurd (by rw [q]; exact (by decide : nI 0 ≤ 0)) c6
        · exact q
      have hra := hr11 (a - 1) (by omega)
      refine lv_aload_n hx hb dX0_insert_9 rfl (lv_at hl 0 rfl) ?_
      refine x_get (v := .ref g.2.2.1) hx hb hts hown hK hP 2 (by decide) rfl q30 rfl dX0_insert_10 ?_
      refine lv_aload_n hx hb dX0_insert_13 rfl (lv_at hl 0 rfl) ?_
      refine x_get (v := .ref g.2.2.2.2.1) hx hb hts hown hK hP 5 (by decide) rfl q33 rfl dX0_insert_14 ?_
      refine lv_iload_n hx hb dX0_insert_17 rfl (lv_at hl 2 rfl) ?_
      refine lv_iconst (v := nI 1) hx hb dX0_insert_18 (by decide) ?_
      refine lv_isub hx hb dX0_insert_19 ?_
      refine lj_top (y := nI (a - 1)) (lj_sub (by omega)) ?_
      refine ya_bald (v := nI (r (a - 1))) hx hb hK hP 4 3 rfl rfl (by omega) (by decide) (h1 (a - 1) (by omega)) dX0_insert_20 ?_
      refine ya_sald (v := nI (key (r (a - 1)))) hx hb hK hP 2 1 rfl rfl (by omega) (by decide) (hDr (a - 1) (by omega)) dX0_insert_21 ?_
      refine lv_aload_n hx hb dX0_insert_22 rfl (lv_at hl 0 rfl) ?_
      refine x_get (v := .ref g.2.2.1) hx hb hts hown hK hP 2 (by decide) rfl q30 rfl dX0_insert_23 ?_
      refine lv_iload_n hx hb dX0_insert_26 rfl (lv_at hl 1 rfl) ?_
      refine ya_sald (v := nI (key x)) hx hb hK hP 2 1 rfl rfl (by omega) (by decide) hDx dX0_insert_27 ?_
      refine lv_icmp_le (tgt := 51) hx hb dX0_insert_28 (by decide) (fun c28 => ?_) (fun c28 => ?_)
      · rw [nI_leI (by have := h200 (a - 1) (by omega); omega) (by omega)] at c28
        exact kx a R H locs ls ha h1 h2 h3 (Or.inr c28) hP hD hS (lv_sub hl [0, 1, 2] rfl)
      · rw [nI_leI (by have := h200 (a - 1) (by omega); omega) (by omega)] at c28
        refine lv_aload_n hx hb dX0_insert_31 rfl (lv_at hl 0 rfl) ?_
        refine x_get (v := .ref g.2.2.2.2.1) hx hb hts hown hK hP 5 (by decide) rfl q33 rfl dX0_insert_32 ?_
        refine lv_iload_n hx hb dX0_insert_35 rfl (lv_at hl 2 rfl) ?_
        refine lv_aload_n hx hb dX0_insert_36 rfl (lv_at hl 0 rfl) ?_
        refine x_get (v := .ref g.2.2.2.2.1) hx hb hts hown hK hP 5 (by decide) rfl q33 rfl dX0_insert_37 ?_
        refine lv_iload_n hx hb dX0_insert_40 rfl (lv_at hl 2 rfl) ?_
        refine lv_iconst (v := nI 1) hx hb dX0_insert_41 (by decide) ?_
        refine lv_isub hx hb dX0_insert_42 ?_
        refine lj_top (y := nI (a - 1)) (lj_sub (by omega)) ?_
        refine ya_bald (v := nI (r (a - 1))) hx hb hK hP 4 3 rfl rfl (by omega) (by decide) (h1 (a - 1) (by omega)) dX0_insert_43 ?_
        refine ya_bast (ws' := wX g (jc, L, D, F, rk, upd R a (nI (r (a - 1))), ad, ac, am)) hx hb hK hP hD hS 4 3 rfl rfl (by omega) (by decide) (lj_vb (by omega)) rfl dX0_insert_44 (fun H locs hP hD hS => ?_)
        refine lv_iinc (v := nI (a - 1)) (lv' := [(2, .int (nI (a - 1))), (0, .ref g.1), (1, .int (nI x))]) hx hb dX0_insert_45 hl (k := 2) rfl (lj_dec (by omega)) (by decide) rfl (fun ls hl => ?_)
        refine lv_goto (tgt := 5) hx hb dX0_insert_48 (by decide) ?_
        have e1 : ∀ j, j ≠ a → upd R a (nI (r (a - 1))) j = R j := fun j q => lj_upd_n q
        have e2 : upd R a (nI (r (a - 1))) a = nI (r (a - 1)) := lj_upd_s
        exact ih (a - 1) _ _ _ _ (by omega) (by omega) (fun j hj => by rw [e1 j (by omega)]; exact h1 j (by omega)) (fun j hj hj2 => by
          by_cases q : j = a
          · rw [q]; exact e2
          · rw [e1 j q]; exact h2 j (by omega) hj2) (fun j hj hj2 => by
          by_cases q : j = a - 1
          · rw [q]; omega
          · exact h3 j (by omega) hj2) hP hD hS (lv_sub hl [1, 2, 0] rfl)

set_option maxHeartbeats 4000000 in
set_option maxRecDepth 100000 in
theorem metX_insert (l : Launch) (dd : va_G) (g : XG) (jc : Int32) (L D F R : Nat → Int32) (ad ac am : Int32) (x k : Nat) (hx11 : x < 11) (hk11 : k < 11) (r key : Nat → Nat) (hr11 : ∀ j, j < k → r j < 11) (hDr : ∀ j, j < k → D (r j) = nI (key (r j))) (hDx : D x = nI (key x)) (h200 : ∀ j, j < k → key (r j) ≤ 200) (hx200 : key x ≤ 200) (hR : ∀ j, j < k → R j = nI (r j)) : zMv l dd (tyX g) (wX g) g.1 yX0_insert cX0_insert 3 none 0 0 [.int (nI x)] (jc, L, D, F, nI k, R, ad, ac, am) (fun v => ∃ (q : Nat) (R2 : Nat → Int32), q ≤ k ∧ (q = 0 ∨ key (r (q - 1)) ≤ key x) ∧ (∀ j, q ≤ j → j < k → key x < key (r j)) ∧ (∀ j, j < k + 1 → R2 j = nI (lj_insr r q x j)) ∧ v = (jc, L, D, F, nI (k + 1), R2, ad, ac, am)) := by
  refine zMv_of RX0 (by decide) rfl (Nat.le_of_ble_eq_true rfl) ?_
  intro p e s m below meth c A hx hb hr hml hown hts hlocks hA hK hP hD hS ls hl
  have hl : lv_has ls 3 [(0, .ref g.1), (1, .int (nI x))] := hl
  refine lv_aload_n hx hb dX0_insert_0 rfl (lv_at hl 0 rfl) ?_
  refine x_get (v := .int (nI k)) hx hb hts hown hK hP 4 (by decide) rfl q32 rfl dX0_insert_1 ?_
  refine lv_istore_n (lv' := [(2, .int (nI k)), (0, .ref g.1), (1, .int (nI x))]) hx hb dX0_insert_4 rfl hl (by decide) rfl (fun ls hl => ?_)
  refine lpX_insert (jc := jc) (L := L) (F := F) (rk := nI k) (ad := ad) (ac := ac) (am := am) hx hb hts hown hK x k hx11 hk11 r key hr11 hDr hDx h200 hx200 (fun a R H locs ls ha h1 h2 h3 h4 hP hD hS hl => ?_) (k + 1) k R s.heap [] ls (by omega) (Nat.le_refl _) hR (fun j hj hj2 => absurd hj2 (by omega)) (fun j hj hj2 => absurd hj2 (by omega)) hP hD hS (lv_sub hl [1, 2, 0] rfl)
  refine lv_aload_n hx hb dX0_insert_51 rfl (lv_at hl 0 rfl) ?_
  refine x_get (v := .ref g.2.2.2.2.1) hx hb hts hown hK hP 5 (by decide) rfl q33 rfl dX0_insert_52 ?_
  refine lv_iload_n hx hb dX0_insert_55 rfl (lv_at hl 2 rfl) ?_
  refine lv_iload_n hx hb dX0_insert_56 rfl (lv_at hl 1 rfl) ?_
  refine lv_i2b (v := nI x) hx hb dX0_insert_57 (lj_b8 _ (by omega)) ?_
  refine ya_bast (ws' := wX g (jc, L, D, F, nI k, upd R a (nI x), ad, ac, am)) hx hb hK hP hD hS 4 3 rfl rfl (by omega) (by decide) (lj_vb (by omega)) rfl dX0_insert_58 (fun H locs hP hD hS => ?_)
  refine lv_aload_n hx hb dX0_insert_59 rfl (lv_at hl 0 rfl) ?_
  refine lv_dup hx hb dX0_insert_60 rfl ?_
  refine x_get (v := .int (nI k)) hx hb hts hown hK hP 4 (by decide) rfl q32 rfl dX0_insert_61 ?_
  refine lv_iconst (v := nI 1) hx hb dX0_insert_64 (by decide) ?_
  refine lv_iadd hx hb dX0_insert_65 ?_
  refine lj_top (y := nI (k + 1)) (nI_add _ _) ?_
  refine x_put (ws' := wX g (jc, L, D, F, nI (k + 1), upd R a (nI x), ad, ac, am)) hx hb hts hown hK hP hD hS 4 (by decide) rfl q32 rfl (by decide +kernel) rfl dX0_insert_66 (fun H locs hP hD hS => ?_)
  exact z_vret (wf := wX g) (u := (jc, L, D, F, nI (k + 1), upd R a (nI x), ad, ac, am)) hx hb hr hlocks hK hP hD hS dX0_insert_69 (⟨a, _, ha, h4, h3, fun j hj => by
    unfold lj_insr
    by_cases q1 : j < a
    · rw [if_pos q1, lj_upd_n (by omega)]; exact h1 j q1
    · rw [if_neg q1]
      by_cases q2 : j = a
      · rw [if_pos q2, q2]; exact lj_upd_s
      · rw [if_neg q2, lj_upd_n q2]; exact h2 j (by omega) (by omega), rfl⟩)

set_option maxHeartbeats 4000000 in
set_option maxRecDepth 100000 in
theorem lpX_withdraw1 {p : Program} {l : Launch} {e : Env} {Rm : Room} {s : State} {m : MethodId} {args : Array Value} {below : List Frame} {meth : Method} {c : Code} {Q : State → Prop} {dd : va_G} {jc : Int32} {L D F R : Nat → Int32} {ad ac am : Int32} {g : XG} (hx : p.tables.exec = Jvm.exec) (hb : c.code = cX0_withdraw) (hts : ∀ w ∈ lw_all, w.before args s = true) (hown : s.vm.findClass RX0 = some m.cls) (hK : va_K dd vwCl (tyX g) s) {H : Heap} {locs : List Loc} (x k q : Nat) (hq : q < k) (hk11 : k ≤ 11) (r : Nat → Nat) (hR : ∀ j, j < k → R j = nI (r j)) (hr11 : ∀ j, j < k → r j < 11) (hrq : r q = x) (hrn : ∀ j, j < q → r j ≠ x) (hP : va_P dd vwCl (wX g (jc, L, D, F, nI k, R, ad, ac, am)) H)
    (kx : ∀ (ls : Array Slot), lv_has ls 3 [(0, .ref g.1), (1, .int (nI x)), (2, .int (nI q))] → W p l e Rm s m args below meth c H locs 0 0 Q (F0 m 28 ls [])) :
    ∀ (n : Nat) (a : Nat) (ls : Array Slot), k - a < n → a ≤ q →  lv_has ls 3 [(0, .ref g.1), (1, .int (nI x)), (2, .int (nI a))] → W p l e Rm s m args below meth c H locs 0 0 Q (F0 m 2 ls []) := by
  intro n
  induction n with
  | zero =>
    intro a ls hn
    exact absurd hn (Nat.not_lt_zero _)
  | succ n ih =>
    intro a ls hn ha hl
    refine lv_iload_n hx hb dX0_withdraw_2 rfl (lv_at hl 2 rfl) ?_
    refine lv_aload_n hx hb dX0_withdraw_3 rfl (lv_at hl 0 rfl) ?_
    refine x_get (v := .int (nI k)) hx hb hts hown hK hP 4 (by decide) rfl q32 rfl dX0_withdraw_4 ?_
    refine lv_iconst (v := nI 1) hx hb dX0_withdraw_7 (by decide) ?_
    refine lv_isub hx hb dX0_withdraw_8 ?_
    refine lj_top (y := nI (k - 1)) (lj_sub (by omega)) ?_
    refine lv_icmp_ge (tgt := 28) hx hb dX0_withdraw_9 (by decide) (fun c9 => ?_) (fun c9 => ?_)
    · rw [nI_leI (by omega) (by omega)] at c9
      have e : q = a := by omega
      subst e
      exact kx ls (lv_sub hl [0, 1, 2] rfl)
    · rw [nI_leI (by omega) (by omega)] at c9
      refine lv_aload_n hx hb dX0_withdraw_12 rfl (lv_at hl 0 rfl) ?_
      refine x_get (v := .ref g.2.2.2.2.1) hx hb hts hown hK hP 5 (by decide) rfl q33 rfl dX0_withdraw_13 ?_
      refine lv_iload_n hx hb dX0_withdraw_16 rfl (lv_at hl 2 rfl) ?_
      refine ya_bald (v := nI (r a)) hx hb hK hP 4 3 rfl rfl (by omega) (by decide) (hR a (by omega)) dX0_withdraw_17 ?_
      refine lv_iload_n hx hb dX0_withdraw_18 rfl (lv_at hl 1 rfl) ?_
      refine lv_icmp_eq (tgt := 28) hx hb dX0_withdraw_19 (by decide) (fun c19 => ?_) (fun c19 => ?_)
      · rw [nI_eq (by have := hr11 a (by omega); omega) (by have := hr11 q hq; omega)] at c19
        have e : q = a := by
          rcases Nat.lt_or_eq_of_le ha with q1 | q1
          · exact absurd c19 (hrn a q1)
          · exact q1.symm
        subst e
        exact kx ls (lv_sub hl [0, 1, 2] rfl)
      · have ha2 : a < q := by
          rcases Nat.lt_or_eq_of_le ha with q1 | q1
          · exact q1
          · exact absurd (by rw [q1, hrq]) c19
        refine lv_iinc (v := nI (a + 1)) (lv' := [(2, .int (nI (a + 1))), (0, .ref g.1), (1, .int (nI x))]) hx hb dX0_withdraw_22 hl (k := 2) rfl (lj_inc1 _) (by decide) rfl (fun ls hl => ?_)
        refine lv_goto (tgt := 2) hx hb dX0_withdraw_25 (by decide) ?_
        exact ih (a + 1) ls (by omega) (by omega) (lv_sub hl [1, 2, 0] rfl)

set_option maxHeartbeats 4000000 in
set_option maxRecDepth 100000 in
theorem lpX_withdraw2 {p : Program} {l : Launch} {e : Env} {Rm : Room} {s : State} {m : MethodId} {args : Array Value} {below : List Frame} {meth : Method} {c : Code} {Q : State → Prop} {dd : va_G} {A : Nat → Prop} {jc : Int32} {L D F : Nat → Int32} {ad ac am : Int32} {g : XG} (hx : p.tables.exec = Jvm.exec) (hb : c.code = cX0_withdraw) (hts : ∀ w ∈ lw_all, w.before args s = true) (hown : s.vm.findClass RX0 = some m.cls) (hK : va_K dd vwCl (tyX g) s) (x k q : Nat) (hk11 : k ≤ 10) (r : Nat → Nat) (hr11 : ∀ j, j ≤ k → r j < 11)
    (kx : ∀ (R : Nat → Int32) (H : Heap) (locs : List Loc) (ls : Array Slot), (∀ j, j < q → R j = nI (r j)) → (∀ j, q ≤ j → j < k → R j = nI (r (j + 1))) → va_P dd vwCl (wX g (jc, L, D, F, nI k, R, ad, ac, am)) H → va_D A (wX g (jc, L, D, F, nI k, R, ad, ac, am)) → va_S A s.heap H locs → W p l e Rm s m args below meth c H locs 0 0 Q (F0 m 66 ls [])) :
    ∀ (n : Nat) (a : Nat) (R : Nat → Int32) (H : Heap) (locs : List Loc) (ls : Array Slot), k - a < n → q ≤ a → a ≤ k → (∀ j, j < q → R j = nI (r j)) → (∀ j, q ≤ j → j < a → R j = nI (r (j + 1))) → (∀ j, a ≤ j → j ≤ k → R j = nI (r j)) → va_P dd vwCl (wX g (jc, L, D, F, nI k, R, ad, ac, am)) H → va_D A (wX g (jc, L, D, F, nI k, R, ad, ac, am)) → va_S A s.heap H locs →  lv_has ls 3 [(0, .ref g.1), (1, .int (nI x)), (2, .int (nI a))] → W p l e Rm s m args below meth c H locs 0 0 Q (F0 m 38 ls []) := by
  intro n
  induction n with
  | zero =>
    intro a R H locs ls hn
    exact absurd hn (Nat.not_lt_zero _)
  | succ n ih =>
    intro a R H locs ls hn hqa ha h1 h2 h3 hP hD hS hl
    refine lv_iload_n hx hb dX0_withdraw_38 rfl (lv_at hl 2 rfl) ?_
    refine lv_aload_n hx hb dX0_withdraw_39 rfl (lv_at hl 0 rfl) ?_
    refine x_get (v := .int (nI k)) hx hb hts hown hK hP 4 (by decide) rfl q32 rfl dX0_withdraw_40 ?_
    refine lv_icmp_ge (tgt := 66) hx hb dX0_withdraw_43 (by decide) (fun c43 => ?_) (fun c43 => ?_)
    · rw [nI_leI (by omega) (by omega)] at c43
      exact kx R H locs ls h1 (fun j hj hj2 => h2 j hj (by omega)) hP hD hS
    · rw [nI_leI (by omega) (by omega)] at c43
      refine lv_aload_n hx hb dX0_withdraw_46 rfl (lv_at hl 0 rfl) ?_
      refine x_get (v := .ref g.2.2.2.2.1) hx hb hts hown hK hP 5 (by decide) rfl q33 rfl dX0_withdraw_47 ?_
      refine lv_iload_n hx hb dX0_withdraw_50 rfl (lv_at hl 2 rfl) ?_
      refine lv_aload_n hx hb dX0_withdraw_51 rfl (lv_at hl 0 rfl) ?_
      refine x_get (v := .ref g.2.2.2.2.1) hx hb hts hown hK hP 5 (by decide) rfl q33 rfl dX0_withdraw_52 ?_
      refine lv_iload_n hx hb dX0_withdraw_55 rfl (lv_at hl 2 rfl) ?_
      refine lv_iconst (v := nI 1) hx hb dX0_withdraw_56 (by decide) ?_
      refine lv_iadd hx hb dX0_withdraw_57 ?_
      refine lj_top (y := nI (a + 1)) (nI_add _ _) ?_
      refine ya_bald (v := nI (r (a + 1))) hx hb hK hP 4 3 rfl rfl (by omega) (by decide) (h3 (a + 1) (by omega) (by omega)) dX0_withdraw_58 ?_
      refine ya_bast (ws' := wX g (jc, L, D, F, nI k, upd R a (nI (r (a + 1))), ad, ac, am)) hx hb hK hP hD hS 4 3 rfl rfl (by omega) (by decide) (lj_vb (by have := hr11 (a + 1) (by omega); omega)) rfl dX0_withdraw_59 (fun H locs hP hD hS => ?_)
      refine lv_iinc (v := nI (a + 1)) (lv' := [(2, .int (nI (a + 1))), (0, .ref g.1), (1, .int (nI x))]) hx hb dX0_withdraw_60 hl (k := 2) rfl (lj_inc1 _) (by decide) rfl (fun ls hl => ?_)
      refine lv_goto (tgt := 38) hx hb dX0_withdraw_63 (by decide) ?_
      have e1 : ∀ j, j ≠ a → upd R a (nI (r (a + 1))) j = R j := fun j q => lj_upd_n q
      have e2 : upd R a (nI (r (a + 1))) a = nI (r (a + 1)) := lj_upd_s
      exact ih (a + 1) _ _ _ _ (by omega) (by omega) (by omega) (fun j hj => by rw [e1 j (by omega)]; exact h1 j hj) (fun j hj hj2 => by
        by_cases z : j = a
        · rw [z]; exact e2
        · rw [e1 j z]; exact h2 j hj (by omega)) (fun j hj hj2 => by rw [e1 j (by omega)]; exact h3 j (by omega) hj2) hP hD hS (lv_sub hl [1, 2, 0] rfl)

set_option maxHeartbeats 4000000 in
set_option maxRecDepth 100000 in
theorem metX_withdraw (l : Launch) (dd : va_G) (g : XG) (jc : Int32) (L D F R : Nat → Int32) (ad ac am : Int32) (x k q : Nat) (hq : q < k) (hk11 : k ≤ 11) (r : Nat → Nat) (hR : ∀ j, j < k → R j = nI (r j)) (hr11 : ∀ j, j < k → r j < 11) (hrq : r q = x) (hrn : ∀ j, j < q → r j ≠ x) : zMv l dd (tyX g) (wX g) g.1 yX0_withdraw cX0_withdraw 3 none 0 0 [.int (nI x)] (jc, L, D, F, nI k, R, ad, ac, am) (fun v => ∃ R2 : Nat → Int32, (∀ j, j < k - 1 → R2 j = nI (lj_outr r q j)) ∧ v = (jc, L, D, F, nI (k - 1), R2, ad, ac, am)) := by
  refine zMv_of RX0 (by decide) rfl (Nat.le_of_ble_eq_true rfl) ?_
  intro p e s m below meth c A hx hb hr hml hown hts hlocks hA hK hP hD hS ls hl
  have hl : lv_has ls 3 [(0, .ref g.1), (1, .int (nI x))] := hl
  refine lv_iconst (v := nI 0) hx hb dX0_withdraw_0 (by decide) ?_
  refine lv_istore_n (lv' := [(2, .int (nI 0)), (0, .ref g.1), (1, .int (nI x))]) hx hb dX0_withdraw_1 rfl hl (by decide) rfl (fun ls hl => ?_)
  refine lpX_withdraw1 hx hb hts hown hK x k q hq hk11 r hR hr11 hrq hrn hP (fun ls hl => ?_) (k + 1) 0 ls (by omega) (by omega) (lv_sub hl [1, 2, 0] rfl)
  refine lv_aload_n hx hb dX0_withdraw_28 rfl (lv_at hl 0 rfl) ?_
  refine lv_dup hx hb dX0_withdraw_29 rfl ?_
  refine x_get (v := .int (nI k)) hx hb hts hown hK hP 4 (by decide) rfl q32 rfl dX0_withdraw_30 ?_
  refine lv_iconst (v := nI 1) hx hb dX0_withdraw_33 (by decide) ?_
  refine lv_isub hx hb dX0_withdraw_34 ?_
  refine lj_top (y := nI (k - 1)) (lj_sub (by omega)) ?_
  refine x_put (ws' := wX g (jc, L, D, F, nI (k - 1), R, ad, ac, am)) hx hb hts hown hK hP hD hS 4 (by decide) rfl q32 rfl (by decide +kernel) rfl dX0_withdraw_35 (fun H locs hP hD hS => ?_)
  refine lpX_withdraw2 hx hb hts hown hK x (k - 1) q (by omega) r (fun j hj => hr11 j (by omega)) (fun R2 H locs ls h1 h2 hP hD hS => ?_) (k + 1) q R H locs ls (by omega) (Nat.le_refl _) (by omega) (fun j hj => hR j (by omega)) (fun j hj hj2 => absurd hj2 (by omega)) (fun j hj hj2 => hR j (by omega)) hP hD hS (lv_sub hl [0, 1, 2] rfl)
  exact z_vret (wf := wX g) (u := (jc, L, D, F, nI (k - 1), R2, ad, ac, am)) hx hb hr hlocks hK hP hD hS dX0_withdraw_66 (⟨R2, fun j hj => by
    unfold lj_outr
    by_cases z : j < q
    · rw [if_pos z]; exact h1 j z
    · rw [if_neg z]; exact h2 j (by omega) hj, rfl⟩)
end
section
/-! X: drop, makeFirm, put -/
/-- what X's state is -/
def lj_XV (len dl : Nat → Nat) (fm : Nat → Bool) (r : Nat → Nat) (k : Nat) (v : XS) : Prop := ∃ (L D F R : Nat → Int32) (ad ac am : Int32), v = (nI k, L, D, F, nI k, R, ad, ac, am) ∧ lj_XR len dl fm r k L D F R

set_option maxHeartbeats 4000000 in
set_option maxRecDepth 100000 in
theorem metX_drop (l : Launch) (dd : va_G) (g : XG) (L D F R : Nat → Int32) (ad ac am : Int32) (len key r : Nat → Nat) (k : Nat) (hL : ∀ i, i < 10 → L i = nI (len i)) (h50 : ∀ i, len i ≤ 50) (hk10 : k ≤ 10) (hR : ∀ j, j < k → R j = nI (r j)) (hrk : lj_rk len key r k) (p0 : Int32) : zMi l dd (tyX g) (wX g) g.1 yX0_drop cX0_drop 2 (some .int) 1 22 [.int p0] (nI k, L, D, F, nI k, R, ad, ac, am) (fun rr v => (∃ (j q : Nat) (R2 : Nat → Int32), j < 10 ∧ p0 = nI j ∧ 0 < len j ∧ q < k ∧ r q = j ∧ (∀ i, i < k - 1 → R2 i = nI (lj_outr r q i)) ∧ rr = nI (k - 1) ∧ v = (nI (k - 1), upd L j (nI 0), D, F, nI (k - 1), R2, ad, ac, am)) ∨ (¬ lj_place len p0 ∧ rr = (-1) ∧ v = (nI k, L, D, F, nI k, R, ad, ac, am))) := by
  refine zMi_of RX0 (by decide) rfl (Nat.le_of_ble_eq_true rfl) ?_
  intro p e s m below meth c A hx hb hr hml hown hts hlocks hA hK hP hD hS ls hl
  have hl : lv_has ls 2 [(0, .ref g.1), (1, .int p0)] := hl
  refine lv_aload_n hx hb dX0_drop_0 rfl (lv_at hl 0 rfl) ?_
  refine lv_iload_n hx hb dX0_drop_1 rfl (lv_at hl 1 rfl) ?_
  refine z_calli (wf := wX g) (n := 1) (As := [.int p0]) (rest := []) ⟨hx, hb, hml, hown, hts⟩ hK hP hD hS hA (metX_isPlace l dd g (nI k) L D F (nI k) R ad ac am len hL h50 p0) (lw_V q75 q77 qs2 q18 q78) (by decide +kernel) ⟨Nat.le_of_ble_eq_true rfl, Nat.le_of_ble_eq_true rfl⟩ (ci := 0) rfl rfl rfl rfl hl.1 rfl (Nat.le_of_ble_eq_true rfl) dX0_drop_2 ⟨Nat.zero_le _, Nat.zero_le _⟩ (fun r2 u2 H locs hpo hP hD hS => ?_)
  obtain ⟨hpl, rfl⟩ := hpo
  refine lv_if_ne (tgt := 10) hx hb dX0_drop_5 (by decide) (fun c5 => ?_) (fun c5 => ?_)
  · rw [hpl, lj_pIn] at c5
    obtain ⟨j, hj, rfl, h0⟩ := c5
    obtain ⟨q, hq, hrq, hrn⟩ := lj_rk_at hrk (by omega) h0
    refine lv_aload_n hx hb dX0_drop_10 rfl (lv_at hl 0 rfl) ?_
    refine x_get (v := .ref g.2.1) hx hb hts hown hK hP 1 (by decide) rfl q29 rfl dX0_drop_11 ?_
    refine lv_iload_n hx hb dX0_drop_14 rfl (lv_at hl 1 rfl) ?_
    refine lv_iconst (v := nI 0) hx hb dX0_drop_15 (by decide) ?_
    refine ya_bast (ws' := wX g (nI k, upd L j (nI 0), D, F, nI k, R, ad, ac, am)) hx hb hK hP hD hS 1 0 rfl rfl (by omega) (by decide) (lj_vb (by omega)) rfl dX0_drop_16 (fun H locs hP hD hS => ?_)
    refine lv_aload_n hx hb dX0_drop_17 rfl (lv_at hl 0 rfl) ?_
    refine lv_dup hx hb dX0_drop_18 rfl ?_
    refine x_get (v := .int (nI k)) hx hb hts hown hK hP 0 (by decide) rfl q28 rfl dX0_drop_19 ?_
    refine lv_iconst (v := nI 1) hx hb dX0_drop_22 (by decide) ?_
    refine lv_isub hx hb dX0_drop_23 ?_
    refine lj_top (y := nI (k - 1)) (lj_sub (by omega)) ?_
    refine x_put (ws' := wX g (nI (k - 1), upd L j (nI 0), D, F, nI k, R, ad, ac, am)) hx hb hts hown hK hP hD hS 0 (by decide) rfl q28 rfl (by decide +kernel) rfl dX0_drop_24 (fun H locs hP hD hS => ?_)
    refine lv_aload_n hx hb dX0_drop_27 rfl (lv_at hl 0 rfl) ?_
    refine lv_iload_n hx hb dX0_drop_28 rfl (lv_at hl 1 rfl) ?_
    refine z_callv (wf := wX g) (n := 1) (As := [.int (nI j)]) (rest := []) ⟨hx, hb, hml, hown, hts⟩ hK hP hD hS hA (metX_withdraw l dd g (nI (k - 1)) (upd L j (nI 0)) D F R ad ac am j k q hq (by omega) r hR (fun i hi => (hrk.1 i hi).1) hrq hrn) (lw_V q79 q81 qs3 q18 q82) (by decide +kernel) ⟨Nat.le_of_ble_eq_true rfl, Nat.le_of_ble_eq_true rfl⟩ (ci := 0) rfl rfl rfl rfl hl.1 rfl (Nat.le_of_ble_eq_true rfl) dX0_drop_29 ⟨Nat.zero_le _, Nat.zero_le _⟩ (fun u29 H locs hpo hP hD hS => ?_)
    obtain ⟨R2, hR2, rfl⟩ := hpo
    refine lv_aload_n hx hb dX0_drop_32 rfl (lv_at hl 0 rfl) ?_
    refine x_get (v := .int (nI (k - 1))) hx hb hts hown hK hP 0 (by decide) rfl q28 rfl dX0_drop_33 ?_
    exact z_iret (wf := wX g) (u := (nI (k - 1), upd L j (nI 0), D, F, nI (k - 1), R2, ad, ac, am)) hx hb hr hlocks hK hP hD hS dX0_drop_36 (Or.inl ⟨j, q, R2, hj, rfl, h0, hq, hrq, hR2, rfl, rfl⟩)
  · rw [hpl, lj_pI0] at c5
    refine lv_iconst (v := (-1)) hx hb dX0_drop_8 (by decide) ?_
    exact z_iret (wf := wX g) (u := (nI k, L, D, F, nI k, R, ad, ac, am)) hx hb hr hlocks hK hP hD hS dX0_drop_9 (Or.inr ⟨c5, rfl, rfl⟩)

set_option maxHeartbeats 4000000 in
set_option maxRecDepth 100000 in
theorem metX_makeFirm (l : Launch) (dd : va_G) (g : XG) (L D F R : Nat → Int32) (ad ac am : Int32) (len dl : Nat → Nat) (fm : Nat → Bool) (r : Nat → Nat) (k : Nat) (hX : lj_XR len dl fm r k L D F R) (p0 : Int32) (b : Bool) : zMi l dd (tyX g) (wX g) g.1 yX0_makeFirm cX0_makeFirm 3 (some .boolean) 1 21 [.int p0, .int (lj_pI (b = true))] (nI k, L, D, F, nI k, R, ad, ac, am) (fun rr v => ∃ fm2 : Nat → Bool, lj_pfirm len fm p0 b rr fm2 ∧ lj_XV len dl fm2 r k v) := by
  refine zMi_of RX0 (by decide) rfl (Nat.le_of_ble_eq_true rfl) ?_
  intro p e s m below meth c A hx hb hr hml hown hts hlocks hA hK hP hD hS ls hl
  have hl : lv_has ls 3 [(0, .ref g.1), (1, .int p0), (2, .int (lj_pI (b = true)))] := hl
  obtain ⟨hL, hD0, hF, hR, h50, h10, h200, hk, hrk⟩ := id hX
  refine lv_aload_n hx hb dX0_makeFirm_0 rfl (lv_at hl 0 rfl) ?_
  refine lv_iload_n hx hb dX0_makeFirm_1 rfl (lv_at hl 1 rfl) ?_
  refine z_calli (wf := wX g) (n := 1) (As := [.int p0]) (rest := []) ⟨hx, hb, hml, hown, hts⟩ hK hP hD hS hA (metX_isPlace l dd g (nI k) L D F (nI k) R ad ac am len hL h50 p0) (lw_V q75 q77 qs2 q18 q78) (by decide +kernel) ⟨Nat.le_of_ble_eq_true rfl, Nat.le_of_ble_eq_true rfl⟩ (ci := 0) rfl rfl rfl rfl hl.1 rfl (Nat.le_of_ble_eq_true rfl) dX0_makeFirm_2 ⟨Nat.zero_le _, Nat.zero_le _⟩ (fun r2 u2 H locs hpo hP hD hS => ?_)
  obtain ⟨hpl, rfl⟩ := hpo
  refine lv_if_ne (tgt := 10) hx hb dX0_makeFirm_5 (by decide) (fun c5 => ?_) (fun c5 => ?_)
  · rw [hpl, lj_pIn] at c5
    obtain ⟨j, hj, rfl, h0⟩ := c5
    refine lv_aload_n hx hb dX0_makeFirm_10 rfl (lv_at hl 0 rfl) ?_
    refine x_get (v := .ref g.2.2.2.1) hx hb hts hown hK hP 3 (by decide) rfl q31 rfl dX0_makeFirm_11 ?_
    refine lv_iload_n hx hb dX0_makeFirm_14 rfl (lv_at hl 1 rfl) ?_
    refine lv_iload_n hx hb dX0_makeFirm_15 rfl (lv_at hl 2 rfl) ?_
    refine ya_zast (ws' := wX g (nI k, L, D, upd F j (lj_pI (b = true)), nI k, R, ad, ac, am)) hx hb hK hP hD hS 3 2 rfl rfl (by omega) (by decide) (lj_vz _) rfl dX0_makeFirm_16 (fun H locs hP hD hS => ?_)
    refine lv_iconst (v := nI 1) hx hb dX0_makeFirm_17 (by decide) ?_
    exact z_zret (wf := wX g) (u := (nI k, L, D, upd F j (lj_pI (b = true)), nI k, R, ad, ac, am)) hx hb hr rfl hlocks hK hP hD hS dX0_makeFirm_18 (⟨va_up fm j b, Or.inl ⟨j, hj, rfl, h0, rfl, rfl⟩, L, D, _, R, ad, ac, am, rfl, hL, hD0, fun i hi => by
      by_cases e : i = j
      · rw [e, lj_upd_s, va_up_self]
      · rw [lj_upd_n e, va_up_ne _ _ e]; exact hF i hi, hR, h50, h10, h200, hk, hrk⟩)
  · rw [hpl, lj_pI0] at c5
    refine lv_iconst (v := nI 0) hx hb dX0_makeFirm_8 (by decide) ?_
    exact z_zret (wf := wX g) (u := (nI k, L, D, F, nI k, R, ad, ac, am)) hx hb hr rfl hlocks hK hP hD hS dX0_makeFirm_9 (⟨fm, Or.inr ⟨c5, rfl, rfl⟩, L, D, F, R, ad, ac, am, rfl, hX⟩)

set_option maxHeartbeats 4000000 in
set_option maxRecDepth 100000 in
theorem lpX_put {p : Program} {l : Launch} {e : Env} {Rm : Room} {s : State} {m : MethodId} {args : Array Value} {below : List Frame} {meth : Method} {c : Code} {Q : State → Prop} {dd : va_G} {L D F R : Nat → Int32} {jc rk ad ac am p0 p1 p2 : Int32} {g : XG} {H : Heap} {locs : List Loc} (hx : p.tables.exec = Jvm.exec) (hb : c.code = cX0_put) (hts : ∀ w ∈ lw_all, w.before args s = true) (hown : s.vm.findClass RX0 = some m.cls) (hK : va_K dd vwCl (tyX g) s) (hP : va_P dd vwCl (wX g (jc, L, D, F, rk, R, ad, ac, am)) H) (len : Nat → Nat) (hL : ∀ i, i < 10 → L i = nI (len i)) (h50 : ∀ i, len i ≤ 50)
    (kx : ∀ (i : Nat) (ls : Array Slot), i ≤ 9 → (∀ j, j < i → 0 < len j) → (i = 9 ∨ len i = 0) → lv_has ls 5 [(0, .ref g.1), (1, .int p0), (2, .int p1), (3, .int p2), (4, .int (nI i))] → W p l e Rm s m args below meth c H locs 0 0 Q (F0 m 49 ls [])) :
    ∀ (n : Nat) (i : Nat) (ls : Array Slot), 9 - i < n → i ≤ 9 → (∀ j, j < i → 0 < len j) →  lv_has ls 5 [(0, .ref g.1), (1, .int p0), (2, .int p1), (3, .int p2), (4, .int (nI i))] → W p l e Rm s m args below meth c H locs 0 0 Q (F0 m 26 ls []) := by
  intro n
  induction n with
  | zero =>
    intro i ls hn
    exact absurd hn (Nat.not_lt_zero _)
  | succ n ih =>
    intro i ls hn hi h1 hl
    refine lv_iload hx hb dX0_put_26 (lv_at hl 4 rfl) ?_
    refine lv_bipush (v := nI 9) hx hb dX0_put_28 (by decide) ?_
    refine lv_icmp_ge (tgt := 49) hx hb dX0_put_30 (by decide) (fun c30 => ?_) (fun c30 => ?_)
    · rw [nI_leI (by omega) (by omega)] at c30
      exact kx i ls hi h1 (Or.inl (by omega)) (lv_sub hl [0, 1, 2, 3, 4] rfl)
    · rw [nI_leI (by omega) (by omega)] at c30
      refine lv_aload_n hx hb dX0_put_33 rfl (lv_at hl 0 rfl) ?_
      refine x_get (v := .ref g.2.1) hx hb hts hown hK hP 1 (by decide) rfl q29 rfl dX0_put_34 ?_
      refine lv_iload hx hb dX0_put_37 (lv_at hl 4 rfl) ?_
      refine ya_bald (v := nI (len i)) hx hb hK hP 1 0 rfl rfl (by omega) (by decide) (hL i (by omega)) dX0_put_39 ?_
      refine lv_if_eq (tgt := 49) hx hb dX0_put_40 (by decide) (fun c40 => ?_) (fun c40 => ?_)
      · rw [← nI_0, nI_eq (by have := h50 i; omega) (by decide)] at c40
        exact kx i ls hi h1 (Or.inr c40) (lv_sub hl [0, 1, 2, 3, 4] rfl)
      · rw [← nI_0, nI_eq (by have := h50 i; omega) (by decide)] at c40
        refine lv_iinc (v := nI (i + 1)) (lv' := [(4, .int (nI (i + 1))), (0, .ref g.1), (1, .int p0), (2, .int p1), (3, .int p2)]) hx hb dX0_put_43 hl (k := 4) rfl (lj_inc1 _) (by decide) rfl (fun ls hl => ?_)
        refine lv_goto (tgt := 26) hx hb dX0_put_46 (by decide) ?_
        exact ih (i + 1) ls (by omega) (by omega) (fun j hj => by
          by_cases e : j = i
          · rw [e]; omega
          · exact h1 j (by omega)) (lv_sub hl [1, 2, 3, 4, 0] rfl)

set_option maxHeartbeats 4000000 in
set_option maxRecDepth 100000 in
theorem metX_put (l : Launch) (dd : va_G) (g : XG) (L D F R : Nat → Int32) (ad ac am : Int32) (len dl : Nat → Nat) (fm : Nat → Bool) (r : Nat → Nat) (k : Nat) (hX : lj_XR len dl fm r k L D F R) (p0 p1 : Int32) (b : Bool) : zMi l dd (tyX g) (wX g) g.1 yX0_put cX0_put 5 (some .int) 1 22 [.int p0, .int p1, .int (lj_pI (b = true))] (nI k, L, D, F, nI k, R, ad, ac, am) (fun rr v => ∃ (len2 dl2 : Nat → Nat) (fm2 : Nat → Bool) (r2 : Nat → Nat) (k2 : Nat), lj_pput len dl fm p0 p1 b rr len2 dl2 fm2 ∧ lj_XV len2 dl2 fm2 r2 k2 v) := by
  refine zMi_of RX0 (by decide) rfl (Nat.le_of_ble_eq_true rfl) ?_
  intro p e s m below meth c A hx hb hr hml hown hts hlocks hA hK hP hD hS ls hl
  have hl : lv_has ls 5 [(0, .ref g.1), (1, .int p0), (2, .int p1), (3, .int (lj_pI (b = true)))] := hl
  obtain ⟨hL, hD0, hF, hR, h50, h10, h200, hk, hrk⟩ := id hX
  have hkl := lj_ct_le len
  refine lv_aload_n hx hb dX0_put_0 rfl (lv_at hl 0 rfl) ?_
  refine x_get (v := .int (nI k)) hx hb hts hown hK hP 0 (by decide) rfl q28 rfl dX0_put_1 ?_
  refine lv_bipush (v := nI 10) hx hb dX0_put_4 (by decide) ?_
  refine lv_icmp_lt (tgt := 12) hx hb dX0_put_6 (by decide) (fun c6 => ?_) (fun c6 => ?_)
  · rw [nI_ltI (by omega) (by decide)] at c6
    refine lv_aload_n hx hb dX0_put_12 rfl (lv_at hl 0 rfl) ?_
    refine lv_iload_n hx hb dX0_put_13 rfl (lv_at hl 1 rfl) ?_
    refine lv_iload_n hx hb dX0_put_14 rfl (lv_at hl 2 rfl) ?_
    refine z_calli (wf := wX g) (n := 2) (As := [.int p0, .int p1]) (rest := []) ⟨hx, hb, hml, hown, hts⟩ hK hP hD hS hA (metX_isJob l dd g (nI k) L D F (nI k) R ad ac am p0 p1) (lw_V q63 q65 qs0 q18 q66) (by decide +kernel) ⟨Nat.le_of_ble_eq_true rfl, Nat.le_of_ble_eq_true rfl⟩ (ci := 0) rfl rfl rfl rfl hl.1 rfl (Nat.le_of_ble_eq_true rfl) dX0_put_15 ⟨Nat.zero_le _, Nat.zero_le _⟩ (fun r15 u15 H locs hpo hP hD hS => ?_)
    obtain ⟨hjb, rfl⟩ := hpo
    refine lv_if_ne (tgt := 23) hx hb dX0_put_18 (by decide) (fun c18 => ?_) (fun c18 => ?_)
    · rw [hjb, lj_pIn] at c18
      obtain ⟨x, y, hx1, hx2, hy, rfl, rfl⟩ := lj_job_of c18
      refine lv_iconst (v := nI 0) hx hb dX0_put_23 (by decide) ?_
      refine lv_istore (lv' := [(4, .int (nI 0)), (0, .ref g.1), (1, .int (nI x)), (2, .int (nI y)), (3, .int (lj_pI (b = true)))]) hx hb dX0_put_24 hl (by decide) rfl (fun ls hl => ?_)
      refine lpX_put hx hb hts hown hK hP len hL h50 (fun i ls hi h1 h2 hl => ?_) 10 0 ls (by omega) (by omega) (fun j hj => absurd hj (by omega)) (lv_sub hl [1, 2, 3, 4, 0] rfl)
      have hi0 := lj_first9 (by omega) hi h1 h2
      have hri : ∀ j, j < k → r j ≠ i := fun j hj e => by
        have := (hrk.1 j hj).2
        rw [e, hi0] at this
        omega
      have hr10 : ∀ j, j < k → r j < 10 := fun j hj => by
        rcases Nat.lt_or_ge (r j) 10 with z | z
        · exact z
        · have := (hrk.1 j hj).2
          rw [h10 _ z] at this
          omega
      refine lv_aload_n hx hb dX0_put_49 rfl (lv_at hl 0 rfl) ?_
      refine x_get (v := .ref g.2.1) hx hb hts hown hK hP 1 (by decide) rfl q29 rfl dX0_put_50 ?_
      refine lv_iload hx hb dX0_put_53 (lv_at hl 4 rfl) ?_
      refine lv_iload_n hx hb dX0_put_55 rfl (lv_at hl 1 rfl) ?_
      refine lv_i2b (v := nI x) hx hb dX0_put_56 (lj_b8 _ (by omega)) ?_
      refine ya_bast (ws' := wX g (nI k, upd L i (nI x), D, F, nI k, R, ad, ac, am)) hx hb hK hP hD hS 1 0 rfl rfl (by omega) (by decide) (lj_vb (by omega)) rfl dX0_put_57 (fun H locs hP hD hS => ?_)
      refine lv_aload_n hx hb dX0_put_58 rfl (lv_at hl 0 rfl) ?_
      refine x_get (v := .ref g.2.2.1) hx hb hts hown hK hP 2 (by decide) rfl q30 rfl dX0_put_59 ?_
      refine lv_iload hx hb dX0_put_62 (lv_at hl 4 rfl) ?_
      refine lv_iload_n hx hb dX0_put_64 rfl (lv_at hl 2 rfl) ?_
      refine lv_i2s (v := nI y) hx hb dX0_put_65 (lj_b16 _ (by omega)) ?_
      refine ya_sast (ws' := wX g (nI k, upd L i (nI x), upd D i (nI y), F, nI k, R, ad, ac, am)) hx hb hK hP hD hS 2 1 rfl rfl (by omega) (by decide) (lj_vs (by omega)) rfl dX0_put_66 (fun H locs hP hD hS => ?_)
      refine lv_aload_n hx hb dX0_put_67 rfl (lv_at hl 0 rfl) ?_
      refine x_get (v := .ref g.2.2.2.1) hx hb hts hown hK hP 3 (by decide) rfl q31 rfl dX0_put_68 ?_
      refine lv_iload hx hb dX0_put_71 (lv_at hl 4 rfl) ?_
      refine lv_iload_n hx hb dX0_put_73 rfl (lv_at hl 3 rfl) ?_
      refine ya_zast (ws' := wX g (nI k, upd L i (nI x), upd D i (nI y), upd F i (lj_pI (b = true)), nI k, R, ad, ac, am)) hx hb hK hP hD hS 3 2 rfl rfl (by omega) (by decide) (lj_vz _) rfl dX0_put_74 (fun H locs hP hD hS => ?_)
      refine lv_aload_n hx hb dX0_put_75 rfl (lv_at hl 0 rfl) ?_
      refine lv_dup hx hb dX0_put_76 rfl ?_
      refine x_get (v := .int (nI k)) hx hb hts hown hK hP 0 (by decide) rfl q28 rfl dX0_put_77 ?_
      refine lv_iconst (v := nI 1) hx hb dX0_put_80 (by decide) ?_
      refine lv_iadd hx hb dX0_put_81 ?_
      refine lj_top (y := nI (k + 1)) (nI_add _ _) ?_
      refine x_put (ws' := wX g (nI (k + 1), upd L i (nI x), upd D i (nI y), upd F i (lj_pI (b = true)), nI k, R, ad, ac, am)) hx hb hts hown hK hP hD hS 0 (by decide) rfl q28 rfl (by decide +kernel) rfl dX0_put_82 (fun H locs hP hD hS => ?_)
      refine lv_aload_n hx hb dX0_put_85 rfl (lv_at hl 0 rfl) ?_
      refine lv_iload hx hb dX0_put_86 (lv_at hl 4 rfl) ?_
      refine z_callv (wf := wX g) (n := 1) (As := [.int (nI i)]) (rest := []) ⟨hx, hb, hml, hown, hts⟩ hK hP hD hS hA (metX_insert l dd g (nI (k + 1)) (upd L i (nI x)) (upd D i (nI y)) (upd F i (lj_pI (b = true))) R ad ac am i k (by omega) (by omega) r (va_up dl i y) (fun j hj => (hrk.1 j hj).1) (fun j hj => by rw [lj_upd_n (hri j hj), va_up_ne _ _ (hri j hj)]; exact hD0 _ (hr10 j hj) (hrk.1 j hj).2) (by rw [lj_upd_s, va_up_self]) (fun j hj => by rw [va_up_ne _ _ (hri j hj)]; exact h200 _ (hrk.1 j hj).2) (by rw [va_up_self]; exact hy) hR) (lw_V q67 q69 qs1 q18 q70) (by decide +kernel) ⟨Nat.le_of_ble_eq_true rfl, Nat.le_of_ble_eq_true rfl⟩ (ci := 0) rfl rfl rfl rfl hl.1 rfl (Nat.le_of_ble_eq_true rfl) dX0_put_88 ⟨Nat.zero_le _, Nat.zero_le _⟩ (fun u88 H locs hpo hP hD hS => ?_)
      obtain ⟨q, R2, hq, hlo, hhi, hR2, rfl⟩ := hpo
      refine lv_iload hx hb dX0_put_91 (lv_at hl 4 rfl) ?_
      exact z_iret (wf := wX g) (u := (nI (k + 1), upd L i (nI x), upd D i (nI y), upd F i (lj_pI (b = true)), nI (k + 1), R2, ad, ac, am)) hx hb hr hlocks hK hP hD hS dX0_put_93 (⟨_, _, _, _, _, Or.inr (Or.inr ⟨by omega, c18, x, y, i, hx1, hx2, hy, rfl, rfl, by omega, hi0, h1, rfl, rfl, rfl, rfl⟩), _, _, _, R2, ad, ac, am, rfl, lj_XR_put hX hx1 hx2 hy (by omega) hi0 hq hlo hhi hR2⟩)
    · rw [hjb, lj_pI0] at c18
      refine lv_iconst (v := (-1)) hx hb dX0_put_21 (by decide) ?_
      exact z_iret (wf := wX g) (u := (nI k, L, D, F, nI k, R, ad, ac, am)) hx hb hr hlocks hK hP hD hS dX0_put_22 (⟨len, dl, fm, r, k, Or.inr (Or.inl ⟨by omega, c18, rfl, rfl, rfl, rfl⟩), L, D, F, R, ad, ac, am, rfl, hX⟩)
  · rw [nI_ltI (by omega) (by decide)] at c6
    refine lv_bipush (v := (-2)) hx hb dX0_put_9 (by decide) ?_
    exact z_iret (wf := wX g) (u := (nI k, L, D, F, nI k, R, ad, ac, am)) hx hb hr hlocks hK hP hD hS dX0_put_11 (⟨len, dl, fm, r, k, Or.inl ⟨by omega, rfl, rfl, rfl, rfl⟩, L, D, F, R, ad, ac, am, rfl, hX⟩)
end
section
/-! X: inTime, feasible -/
set_option maxHeartbeats 4000000 in
set_option maxRecDepth 100000 in
theorem lpX_inTime {p : Program} {l : Launch} {e : Env} {Rm : Room} {s : State} {m : MethodId} {args : Array Value} {below : List Frame} {meth : Method} {c : Code} {Q : State → Prop} {dd : va_G} {L D F R : Nat → Int32} {jc ad ac am : Int32} {g : XG} {H : Heap} {locs : List Loc} (hx : p.tables.exec = Jvm.exec) (hb : c.code = cX0_inTime) (hts : ∀ w ∈ lw_all, w.before args s = true) (hown : s.vm.findClass RX0 = some m.cls) (hK : va_K dd vwCl (tyX g) s) (len dl : Nat → Nat) (fm : Nat → Bool) (r : Nat → Nat) (k mm : Nat) (hP : va_P dd vwCl (wX g (jc, L, D, F, nI k, R, ad, ac, am)) H) (hX : lj_XA len dl fm r k L D F R) (hmm : mm < 2048)
    (kx : ∀ (ls : Array Slot), (∀ b, b < k → mm.testBit (r b) = true → lj_sm (fun j => mm.testBit (r j)) (fun j => len (r j)) (b + 1) ≤ dl (r b)) → W p l e Rm s m args below meth c H locs 0 0 Q (F0 m 61 ls [])) (kf : ∀ (a : Nat) (ls : Array Slot), a < k → mm.testBit (r a) = true → dl (r a) < lj_sm (fun j => mm.testBit (r j)) (fun j => len (r j)) (a + 1) → W p l e Rm s m args below meth c H locs 0 0 Q (F0 m 53 ls [])) :
    ∀ (n : Nat) (a : Nat) (ls : Array Slot), k - a < n → a ≤ k → (∀ b, b < a → mm.testBit (r b) = true → lj_sm (fun j => mm.testBit (r j)) (fun j => len (r j)) (b + 1) ≤ dl (r b)) →  lv_has ls 5 [(0, .ref g.1), (1, .int (nI mm)), (2, .int (nI (lj_sm (fun j => mm.testBit (r j)) (fun j => len (r j)) a))), (3, .int (nI a))] → W p l e Rm s m args below meth c H locs 0 0 Q (F0 m 4 ls []) := by
  intro n
  induction n with
  | zero =>
    intro a ls hn
    exact absurd hn (Nat.not_lt_zero _)
  | succ n ih =>
    intro a ls hn ha h1 hl
    obtain ⟨hLF, hR, hk11, h50, h200, hrk⟩ := id hX
    refine lv_iload_n hx hb dX0_inTime_4 rfl (lv_at hl 3 rfl) ?_
    refine lv_aload_n hx hb dX0_inTime_5 rfl (lv_at hl 0 rfl) ?_
    refine x_get (v := .int (nI k)) hx hb hts hown hK hP 4 (by decide) rfl q32 rfl dX0_inTime_6 ?_
    refine lv_icmp_ge (tgt := 61) hx hb dX0_inTime_9 (by decide) (fun c9 => ?_) (fun c9 => ?_)
    · rw [nI_leI (by omega) (by omega)] at c9
      exact kx ls (fun b hb => h1 b (by omega))
    · rw [nI_leI (by omega) (by omega)] at c9
      have hra := hrk.1 a (by omega)
      have hla := hLF (r a) hra.1 hra.2
      have hda := h200 (r a) hra.1 hra.2
      have h5a := h50 (r a)
      have hTa : lj_sm (fun j => mm.testBit (r j)) (fun j => len (r j)) a ≤ 50 * a := lj_sm_leB (fun i hi => h50 (r i))
      refine lv_aload_n hx hb dX0_inTime_12 rfl (lv_at hl 0 rfl) ?_
      refine x_get (v := .ref g.2.2.2.2.1) hx hb hts hown hK hP 5 (by decide) rfl q33 rfl dX0_inTime_13 ?_
      refine lv_iload_n hx hb dX0_inTime_16 rfl (lv_at hl 3 rfl) ?_
      refine ya_bald (v := nI (r a)) hx hb hK hP 4 3 rfl rfl (by omega) (by decide) (hR a (by omega)) dX0_inTime_17 ?_
      refine lv_istore (lv' := [(4, .int (nI (r a))), (0, .ref g.1), (1, .int (nI mm)), (2, .int (nI (lj_sm (fun j => mm.testBit (r j)) (fun j => len (r j)) a))), (3, .int (nI a))]) hx hb dX0_inTime_18 hl (by decide) rfl (fun ls hl => ?_)
      refine lv_iload_n hx hb dX0_inTime_20 rfl (lv_at hl 2 rfl) ?_
      refine lv_iload hx hb dX0_inTime_21 (lv_at hl 0 rfl) ?_
      refine lv_ishr hx hb dX0_inTime_23 ?_
      refine lv_iconst (v := nI 1) hx hb dX0_inTime_24 (by decide) ?_
      refine lv_iand hx hb dX0_inTime_25 ?_
      refine lj_top (y := lj_pI (mm.testBit (r a) = true)) (lj_bit (by omega) (by omega)) ?_
      refine lv_if_ne (tgt := 32) hx hb dX0_inTime_26 (by decide) (fun c26 => ?_) (fun c26 => ?_)
      · have hbit := lj_pIn.mp c26
        have eT : lj_sm (fun j => mm.testBit (r j)) (fun j => len (r j)) (a + 1) = lj_sm (fun j => mm.testBit (r j)) (fun j => len (r j)) a + len (r a) := by
          rw [lj_sm_succ _ _ a, if_pos hbit]
        refine lv_iload_n hx hb dX0_inTime_32 rfl (lv_at hl 3 rfl) ?_
        refine lv_aload_n hx hb dX0_inTime_33 rfl (lv_at hl 1 rfl) ?_
        refine x_get (v := .ref g.2.1) hx hb hts hown hK hP 1 (by decide) rfl q29 rfl dX0_inTime_34 ?_
        refine lv_iload hx hb dX0_inTime_37 (lv_at hl 0 rfl) ?_
        refine ya_bald (v := nI (len (r a))) hx hb hK hP 1 0 rfl rfl (by omega) (by decide) hla.1 dX0_inTime_39 ?_
        refine lv_iadd hx hb dX0_inTime_40 ?_
        refine lj_top (y := nI ((lj_sm (fun j => mm.testBit (r j)) (fun j => len (r j)) a) + (len (r a)))) (nI_add _ _) ?_
        refine lv_istore_n (lv' := [(2, .int (nI ((lj_sm (fun j => mm.testBit (r j)) (fun j => len (r j)) a) + (len (r a))))), (4, .int (nI (r a))), (0, .ref g.1), (1, .int (nI mm)), (3, .int (nI a))]) hx hb dX0_inTime_41 rfl hl (by decide) rfl (fun ls hl => ?_)
        refine lv_iload_n hx hb dX0_inTime_42 rfl (lv_at hl 0 rfl) ?_
        refine lv_aload_n hx hb dX0_inTime_43 rfl (lv_at hl 2 rfl) ?_
        refine x_get (v := .ref g.2.2.1) hx hb hts hown hK hP 2 (by decide) rfl q30 rfl dX0_inTime_44 ?_
        refine lv_iload hx hb dX0_inTime_47 (lv_at hl 1 rfl) ?_
        refine ya_sald (v := nI (dl (r a))) hx hb hK hP 2 1 rfl rfl (by omega) (by decide) hla.2.1 dX0_inTime_49 ?_
        refine lv_icmp_le (tgt := 55) hx hb dX0_inTime_50 (by decide) (fun c50 => ?_) (fun c50 => ?_)
        · rw [nI_leI (by omega) (by omega)] at c50
          refine lv_iinc (v := nI (a + 1)) (lv' := [(3, .int (nI (a + 1))), (2, .int (nI ((lj_sm (fun j => mm.testBit (r j)) (fun j => len (r j)) a) + (len (r a))))), (4, .int (nI (r a))), (0, .ref g.1), (1, .int (nI mm))]) hx hb dX0_inTime_55 hl (k := 4) rfl (lj_inc1 _) (by decide) rfl (fun ls hl => ?_)
          refine lv_goto (tgt := 4) hx hb dX0_inTime_58 (by decide) ?_
          exact ih (a + 1) ls (by omega) (by omega) (fun b hb hb2 => by
            by_cases e : b = a
            · subst e; exact by rw [eT]; omega
            · exact h1 b (by omega) hb2) (by rw [eT]; exact lv_sub hl [3, 4, 1, 0] rfl)
        · rw [nI_leI (by omega) (by omega)] at c50
          exact kf a ls (by omega) hbit (by rw [eT]; omega)
      · have hbit := lj_pI0.mp c26
        have eT : lj_sm (fun j => mm.testBit (r j)) (fun j => len (r j)) (a + 1) = lj_sm (fun j => mm.testBit (r j)) (fun j => len (r j)) a := by
          rw [lj_sm_succ _ _ a, if_neg hbit]; rfl
        refine lv_goto (tgt := 55) hx hb dX0_inTime_29 (by decide) ?_
        refine lv_iinc (v := nI (a + 1)) (lv' := [(3, .int (nI (a + 1))), (4, .int (nI (r a))), (0, .ref g.1), (1, .int (nI mm)), (2, .int (nI (lj_sm (fun j => mm.testBit (r j)) (fun j => len (r j)) a)))]) hx hb dX0_inTime_55 hl (k := 4) rfl (lj_inc1 _) (by decide) rfl (fun ls hl => ?_)
        refine lv_goto (tgt := 4) hx hb dX0_inTime_58 (by decide) ?_
        exact ih (a + 1) ls (by omega) (by omega) (fun b hb hb2 => by
          by_cases e : b = a
          · subst e; exact absurd hb2 hbit
          · exact h1 b (by omega) hb2) (by rw [eT]; exact lv_sub hl [2, 3, 4, 0] rfl)

set_option maxHeartbeats 4000000 in
set_option maxRecDepth 100000 in
theorem metX_inTime (l : Launch) (dd : va_G) (g : XG) (jc : Int32) (L D F R : Nat → Int32) (ad ac am : Int32) (len dl : Nat → Nat) (fm : Nat → Bool) (r : Nat → Nat) (k : Nat) (mm : Nat) (hX : lj_XA len dl fm r k L D F R) (hmm : mm < 2048) (hlv : ∀ i, i < 11 → mm.testBit i = true → 0 < len i) : zMi l dd (tyX g) (wX g) g.1 yX0_inTime cX0_inTime 5 (some .boolean) 0 0 [.int (nI mm)] (jc, L, D, F, nI k, R, ad, ac, am) (fun rr v => rr = lj_pI (lj_fe len dl mm.testBit) ∧ v = (jc, L, D, F, nI k, R, ad, ac, am)) := by
  refine zMi_of RX0 (by decide) rfl (Nat.le_of_ble_eq_true rfl) ?_
  intro p e s m below meth c A hx hb hr hml hown hts hlocks hA hK hP hD hS ls hl
  have hl : lv_has ls 5 [(0, .ref g.1), (1, .int (nI mm))] := hl
  obtain ⟨hLF, hR, hk11, h50, h200, hrk⟩ := id hX
  refine lv_iconst (v := nI 0) hx hb dX0_inTime_0 (by decide) ?_
  refine lv_istore_n (lv' := [(2, .int (nI 0)), (0, .ref g.1), (1, .int (nI mm))]) hx hb dX0_inTime_1 rfl hl (by decide) rfl (fun ls hl => ?_)
  refine lv_iconst (v := nI 0) hx hb dX0_inTime_2 (by decide) ?_
  refine lv_istore_n (lv' := [(3, .int (nI 0)), (2, .int (nI 0)), (0, .ref g.1), (1, .int (nI mm))]) hx hb dX0_inTime_3 rfl hl (by decide) rfl (fun ls hl => ?_)
  refine lpX_inTime hx hb hts hown hK len dl fm r k mm hP hX hmm (fun ls h1 => ?_) (fun a ls ha hbit hlate => ?_) (k + 1) 0 ls (by omega) (by omega) (fun b hb => absurd hb (by omega)) (lv_sub hl [2, 3, 1, 0] rfl)
  · refine lv_iconst (v := nI 1) hx hb dX0_inTime_61 (by decide) ?_
    exact z_zret (wf := wX g) (u := (jc, L, D, F, nI k, R, ad, ac, am)) hx hb hr rfl hlocks hK hP hD hS dX0_inTime_62 (⟨(lj_t ((lj_edf hrk hlv).mpr h1)).symm, rfl⟩)
  · refine lv_iconst (v := nI 0) hx hb dX0_inTime_53 (by decide) ?_
    exact z_zret (wf := wX g) (u := (jc, L, D, F, nI k, R, ad, ac, am)) hx hb hr rfl hlocks hK hP hD hS dX0_inTime_54 (⟨(lj_f (fun h => absurd ((lj_edf hrk hlv).mp h a ha hbit) (by omega))).symm, rfl⟩)

set_option maxHeartbeats 4000000 in
set_option maxRecDepth 100000 in
theorem lpX_feasible {p : Program} {l : Launch} {e : Env} {Rm : Room} {s : State} {m : MethodId} {args : Array Value} {below : List Frame} {meth : Method} {c : Code} {Q : State → Prop} {dd : va_G} {L D F R : Nat → Int32} {jc rk ad ac am : Int32} {g : XG} {H : Heap} {locs : List Loc} (hx : p.tables.exec = Jvm.exec) (hb : c.code = cX0_feasible) (hts : ∀ w ∈ lw_all, w.before args s = true) (hown : s.vm.findClass RX0 = some m.cls) (hK : va_K dd vwCl (tyX g) s) (hP : va_P dd vwCl (wX g (jc, L, D, F, rk, R, ad, ac, am)) H) (len : Nat → Nat) (mm : Nat) (hmm : mm < 2048) (hL : ∀ i, i < 10 → L i = nI (len i)) (h50 : ∀ i, len i ≤ 50)
    (kx : ∀ (ls : Array Slot), (∀ j, j < 10 → mm.testBit j = true → 0 < len j) → lv_has ls 3 [(0, .ref g.1), (1, .int (nI mm))] → W p l e Rm s m args below meth c H locs 0 0 Q (F0 m 46 ls [])) (kf : ∀ (i : Nat) (ls : Array Slot), i < 10 → mm.testBit i = true → len i = 0 → W p l e Rm s m args below meth c H locs 0 0 Q (F0 m 38 ls [])) :
    ∀ (n : Nat) (i : Nat) (ls : Array Slot), 10 - i < n → i ≤ 10 → (∀ j, j < i → mm.testBit j = true → 0 < len j) →  lv_has ls 3 [(0, .ref g.1), (1, .int (nI mm)), (2, .int (nI i))] → W p l e Rm s m args below meth c H locs 0 0 Q (F0 m 15 ls []) := by
  intro n
  induction n with
  | zero =>
    intro i ls hn
    exact absurd hn (Nat.not_lt_zero _)
  | succ n ih =>
    intro i ls hn hi h1 hl
    refine lv_iload_n hx hb dX0_feasible_15 rfl (lv_at hl 2 rfl) ?_
    refine lv_bipush (v := nI 10) hx hb dX0_feasible_16 (by decide) ?_
    refine lv_icmp_ge (tgt := 46) hx hb dX0_feasible_18 (by decide) (fun c18 => ?_) (fun c18 => ?_)
    · rw [nI_leI (by omega) (by omega)] at c18
      exact kx ls (fun j hj => h1 j (by omega)) (lv_sub hl [0, 1] rfl)
    · rw [nI_leI (by omega) (by omega)] at c18
      refine lv_iload_n hx hb dX0_feasible_21 rfl (lv_at hl 1 rfl) ?_
      refine lv_iload_n hx hb dX0_feasible_22 rfl (lv_at hl 2 rfl) ?_
      refine lv_ishr hx hb dX0_feasible_23 ?_
      refine lv_iconst (v := nI 1) hx hb dX0_feasible_24 (by decide) ?_
      refine lv_iand hx hb dX0_feasible_25 ?_
      refine lj_top (y := lj_pI (mm.testBit i = true)) (lj_bit (by omega) (by omega)) ?_
      refine lv_if_eq (tgt := 40) hx hb dX0_feasible_26 (by decide) (fun c26 => ?_) (fun c26 => ?_)
      · have hbit := lj_pI0.mp c26
        refine lv_iinc (v := nI (i + 1)) (lv' := [(2, .int (nI (i + 1))), (0, .ref g.1), (1, .int (nI mm))]) hx hb dX0_feasible_40 hl (k := 2) rfl (lj_inc1 _) (by decide) rfl (fun ls hl => ?_)
        refine lv_goto (tgt := 15) hx hb dX0_feasible_43 (by decide) ?_
        exact ih (i + 1) ls (by omega) (by omega) (fun j hj hj2 => by
          by_cases e : j = i
          · subst e; exact absurd hj2 hbit
          · exact h1 j (by omega) hj2) (lv_sub hl [1, 2, 0] rfl)
      · have hbit := lj_pIn.mp c26
        refine lv_aload_n hx hb dX0_feasible_29 rfl (lv_at hl 0 rfl) ?_
        refine x_get (v := .ref g.2.1) hx hb hts hown hK hP 1 (by decide) rfl q29 rfl dX0_feasible_30 ?_
        refine lv_iload_n hx hb dX0_feasible_33 rfl (lv_at hl 2 rfl) ?_
        refine ya_bald (v := nI (len i)) hx hb hK hP 1 0 rfl rfl (by omega) (by decide) (hL i (by omega)) dX0_feasible_34 ?_
        refine lv_if_ne (tgt := 40) hx hb dX0_feasible_35 (by decide) (fun c35 => ?_) (fun c35 => ?_)
        · rw [← nI_0, nI_eq (by have := h50 i; omega) (by decide)] at c35
          refine lv_iinc (v := nI (i + 1)) (lv' := [(2, .int (nI (i + 1))), (0, .ref g.1), (1, .int (nI mm))]) hx hb dX0_feasible_40 hl (k := 2) rfl (lj_inc1 _) (by decide) rfl (fun ls hl => ?_)
          refine lv_goto (tgt := 15) hx hb dX0_feasible_43 (by decide) ?_
          exact ih (i + 1) ls (by omega) (by omega) (fun j hj hj2 => by
            by_cases e : j = i
            · subst e; exact by omega
            · exact h1 j (by omega) hj2) (lv_sub hl [1, 2, 0] rfl)
        · rw [← nI_0, nI_eq (by have := h50 i; omega) (by decide)] at c35
          exact kf i ls (by omega) hbit c35

set_option maxHeartbeats 4000000 in
set_option maxRecDepth 100000 in
theorem metX_feasible (l : Launch) (dd : va_G) (g : XG) (L D F R : Nat → Int32) (ad ac am : Int32) (len dl : Nat → Nat) (fm : Nat → Bool) (r : Nat → Nat) (k : Nat) (hX : lj_XR len dl fm r k L D F R) (p0 : Int32) : zMi l dd (tyX g) (wX g) g.1 yX0_feasible cX0_feasible 3 (some .boolean) 1 24 [.int p0] (nI k, L, D, F, nI k, R, ad, ac, am) (fun rr v => rr = lj_pI (lj_pfeas len dl p0) ∧ v = (nI k, L, D, F, nI k, R, ad, ac, am)) := by
  refine zMi_of RX0 (by decide) rfl (Nat.le_of_ble_eq_true rfl) ?_
  intro p e s m below meth c A hx hb hr hml hown hts hlocks hA hK hP hD hS ls hl
  have hl : lv_has ls 3 [(0, .ref g.1), (1, .int p0)] := hl
  obtain ⟨hL, hD0, hF, hR, h50, h10, h200, hk, hrk⟩ := id hX
  refine lv_iload_n hx hb dX0_feasible_0 rfl (lv_at hl 1 rfl) ?_
  refine lv_if_lt (tgt := 11) hx hb dX0_feasible_1 (by decide) (fun c1 => ?_) (fun c1 => ?_)
  · refine lv_iconst (v := nI 0) hx hb dX0_feasible_11 (by decide) ?_
    exact z_zret (wf := wX g) (u := (nI k, L, D, F, nI k, R, ad, ac, am)) hx hb hr rfl hlocks hK hP hD hS dX0_feasible_12 (⟨(lj_f (fun h => by obtain ⟨m2, h2, e2, -⟩ := h; exact absurd c1 (by rw [e2]; exact nI_pos (by omega)))).symm, rfl⟩)
  · refine lv_iload_n hx hb dX0_feasible_4 rfl (lv_at hl 1 rfl) ?_
    refine lv_sipush (v := nI 1023) hx hb dX0_feasible_5 (by decide) ?_
    refine lv_icmp_le (tgt := 13) hx hb dX0_feasible_8 (by decide) (fun c8 => ?_) (fun c8 => ?_)
    · obtain ⟨mm, hmm0, rfl⟩ := nI_of c1
      rw [nI_leI hmm0 (by decide)] at c8
      refine lv_iconst (v := nI 0) hx hb dX0_feasible_13 (by decide) ?_
      refine lv_istore_n (lv' := [(2, .int (nI 0)), (0, .ref g.1), (1, .int (nI mm))]) hx hb dX0_feasible_14 rfl hl (by decide) rfl (fun ls hl => ?_)
      refine lpX_feasible hx hb hts hown hK hP len mm (by omega) hL h50 (fun ls h1 hl => ?_) (fun i ls hi hbit h0 => ?_) 11 0 ls (by omega) (by omega) (fun j hj => absurd hj (by omega)) (lv_sub hl [1, 2, 0] rfl)
      · have hlv : ∀ i, i < 11 → mm.testBit i = true → 0 < len i := fun i hi q => by
          by_cases e : i = 10
          · rw [e, lj_bhi (n := 10) (by omega) (by omega)] at q; cases q
          · exact h1 i (by omega) q
        refine lv_aload_n hx hb dX0_feasible_46 rfl (lv_at hl 0 rfl) ?_
        refine lv_iload_n hx hb dX0_feasible_47 rfl (lv_at hl 1 rfl) ?_
        refine z_calli (wf := wX g) (n := 1) (As := [.int (nI mm)]) (rest := []) ⟨hx, hb, hml, hown, hts⟩ hK hP hD hS hA (metX_inTime l dd g (nI k) L D F R ad ac am len dl fm r k mm (lj_XR_A hX) (by omega) hlv) (lw_V q95 q97 qs4 q18 q98) (by decide +kernel) ⟨Nat.le_of_ble_eq_true rfl, Nat.le_of_ble_eq_true rfl⟩ (ci := 0) rfl rfl rfl rfl hl.1 rfl (Nat.le_of_ble_eq_true rfl) dX0_feasible_48 ⟨Nat.zero_le _, Nat.zero_le _⟩ (fun r48 u48 H locs hpo hP hD hS => ?_)
        obtain ⟨hrr, rfl⟩ := hpo
        subst hrr
        exact z_zret (wf := wX g) (u := (nI k, L, D, F, nI k, R, ad, ac, am)) hx hb hr (lj_narz _) hlocks hK hP hD hS dX0_feasible_51 (⟨lj_congr ⟨fun h => ⟨mm, by omega, rfl, h⟩, fun h => by obtain ⟨m2, h2, e2, h3⟩ := h; rw [nI_eq (by omega) (by omega)] at e2; rw [e2]; exact h3⟩, rfl⟩)
      · refine lv_iconst (v := nI 0) hx hb dX0_feasible_38 (by decide) ?_
        exact z_zret (wf := wX g) (u := (nI k, L, D, F, nI k, R, ad, ac, am)) hx hb hr rfl hlocks hK hP hD hS dX0_feasible_39 (⟨(lj_f (fun h => by obtain ⟨m2, h2, e2, h3⟩ := h; rw [nI_eq (by omega) (by omega)] at e2; subst e2; have := (h3 i (by omega) hbit).1; omega)).symm, rfl⟩)
    · refine lv_iconst (v := nI 0) hx hb dX0_feasible_11 (by decide) ?_
      exact z_zret (wf := wX g) (u := (nI k, L, D, F, nI k, R, ad, ac, am)) hx hb hr rfl hlocks hK hP hD hS dX0_feasible_12 (⟨(lj_f (fun h => by obtain ⟨m2, h2, e2, -⟩ := h; exact absurd (by rw [e2]; exact nI_le (by omega) (by decide)) c8)).symm, rfl⟩)
end
section
/-! X: giveUpLongest, the admission -/
set_option maxHeartbeats 4000000 in
set_option maxRecDepth 100000 in
theorem lpX_giveUp {p : Program} {l : Launch} {e : Env} {Rm : Room} {s : State} {m : MethodId} {args : Array Value} {below : List Frame} {meth : Method} {c : Code} {Q : State → Prop} {dd : va_G} {L D F R : Nat → Int32} {jc rk ad ac am : Int32} {g : XG} {H : Heap} {locs : List Loc} (hx : p.tables.exec = Jvm.exec) (hb : c.code = cX0_giveUpLongest) (hts : ∀ w ∈ lw_all, w.before args s = true) (hown : s.vm.findClass RX0 = some m.cls) (hK : va_K dd vwCl (tyX g) s) (len : Nat → Nat) (fm : Nat → Bool) (a : Nat) (had : ad = nI a) (ha : a < 2048) (h50 : ∀ i, len i ≤ 50) (hLF : ∀ i, i < 11 → a.testBit i = true → L i = nI (len i) ∧ F i = lj_pI (fm i = true)) (hP : va_P dd vwCl (wX g (jc, L, D, F, rk, R, ad, ac, am)) H)
    (kx : ∀ (lo : Int32) (ls : Array Slot), lj_lg a.testBit fm len 11 lo → lv_has ls 3 [(0, .ref g.1), (1, .int lo)] → W p l e Rm s m args below meth c H locs 0 0 Q (F0 m 60 ls [])) :
    ∀ (n : Nat) (i : Nat) (lo : Int32) (ls : Array Slot), 11 - i < n → i ≤ 11 → lj_lg a.testBit fm len i lo →  lv_has ls 3 [(0, .ref g.1), (1, .int lo), (2, .int (nI i))] → W p l e Rm s m args below meth c H locs 0 0 Q (F0 m 4 ls []) := by
  intro n
  induction n with
  | zero =>
    intro i lo ls hn
    exact absurd hn (Nat.not_lt_zero _)
  | succ n ih =>
    intro i lo ls hn hi hlg hl
    refine lv_iload_n hx hb dX0_giveUpLongest_4 rfl (lv_at hl 2 rfl) ?_
    refine lv_bipush (v := nI 11) hx hb dX0_giveUpLongest_5 (by decide) ?_
    refine lv_icmp_ge (tgt := 60) hx hb dX0_giveUpLongest_7 (by decide) (fun c7 => ?_) (fun c7 => ?_)
    · rw [nI_leI (by omega) (by omega)] at c7
      exact kx lo ls (by rw [show 11 = i by omega]; exact hlg) (lv_sub hl [0, 1] rfl)
    · rw [nI_leI (by omega) (by omega)] at c7
      refine lv_aload_n hx hb dX0_giveUpLongest_10 rfl (lv_at hl 0 rfl) ?_
      refine x_get (v := .int ad) hx hb hts hown hK hP 6 (by decide) rfl q34 rfl dX0_giveUpLongest_11 ?_
      refine lj_top (y := nI a) had ?_
      refine lv_iload_n hx hb dX0_giveUpLongest_14 rfl (lv_at hl 2 rfl) ?_
      refine lv_ishr hx hb dX0_giveUpLongest_15 ?_
      refine lv_iconst (v := nI 1) hx hb dX0_giveUpLongest_16 (by decide) ?_
      refine lv_iand hx hb dX0_giveUpLongest_17 ?_
      refine lj_top (y := lj_pI (a.testBit i = true)) (lj_bit (by omega) (by omega)) ?_
      refine lv_if_eq (tgt := 54) hx hb dX0_giveUpLongest_18 (by decide) (fun c18 => ?_) (fun c18 => ?_)
      · have hbit := lj_pI0.mp c18
        refine lv_iinc (v := nI (i + 1)) (lv' := [(2, .int (nI (i + 1))), (0, .ref g.1), (1, .int lo)]) hx hb dX0_giveUpLongest_54 hl (k := 2) rfl (lj_inc1 _) (by decide) rfl (fun ls hl => ?_)
        refine lv_goto (tgt := 4) hx hb dX0_giveUpLongest_57 (by decide) ?_
        exact ih (i + 1) _ ls (by omega) (by omega) (lj_lg_skip hlg (fun q => absurd q hbit)) (lv_sub hl [1, 2, 0] rfl)
      · have hbit := lj_pIn.mp c18
        have hli := hLF i (by omega) hbit
        have h5i := h50 i
        refine lv_aload_n hx hb dX0_giveUpLongest_21 rfl (lv_at hl 0 rfl) ?_
        refine x_get (v := .ref g.2.2.2.1) hx hb hts hown hK hP 3 (by decide) rfl q31 rfl dX0_giveUpLongest_22 ?_
        refine lv_iload_n hx hb dX0_giveUpLongest_25 rfl (lv_at hl 2 rfl) ?_
        refine ya_zald (v := lj_pI (fm i = true)) hx hb hK hP 3 2 rfl rfl (by omega) (by decide) hli.2 dX0_giveUpLongest_26 ?_
        refine lv_if_eq (tgt := 33) hx hb dX0_giveUpLongest_27 (by decide) (fun c27 => ?_) (fun c27 => ?_)
        · have hnf := lj_pI0.mp c27
          refine lv_iload_n hx hb dX0_giveUpLongest_33 rfl (lv_at hl 1 rfl) ?_
          refine lv_if_lt (tgt := 52) hx hb dX0_giveUpLongest_34 (by decide) (fun c34 => ?_) (fun c34 => ?_)
          · have hall := lj_lg_neg (by omega) hlg c34
            refine lv_iload_n hx hb dX0_giveUpLongest_52 rfl (lv_at hl 2 rfl) ?_
            refine lv_istore_n (lv' := [(1, .int (nI i)), (0, .ref g.1), (2, .int (nI i))]) hx hb dX0_giveUpLongest_53 rfl hl (by decide) rfl (fun ls hl => ?_)
            refine lv_iinc (v := nI (i + 1)) (lv' := [(2, .int (nI (i + 1))), (1, .int (nI i)), (0, .ref g.1)]) hx hb dX0_giveUpLongest_54 hl (k := 2) rfl (lj_inc1 _) (by decide) rfl (fun ls hl => ?_)
            refine lv_goto (tgt := 4) hx hb dX0_giveUpLongest_57 (by decide) ?_
            exact ih (i + 1) _ ls (by omega) (by omega) (lj_lg_new hbit hnf (fun x hx h1 h2 => by rw [hall x hx h1] at h2; cases h2)) (lv_sub hl [2, 1, 0] rfl)
          · obtain ⟨z, hz, rfl, hzs, hzf, hzm⟩ := lj_lg_pos hlg c34
            have hlz := hLF z (by omega) hzs
            have h5z := h50 z
            refine lv_aload_n hx hb dX0_giveUpLongest_37 rfl (lv_at hl 0 rfl) ?_
            refine x_get (v := .ref g.2.1) hx hb hts hown hK hP 1 (by decide) rfl q29 rfl dX0_giveUpLongest_38 ?_
            refine lv_iload_n hx hb dX0_giveUpLongest_41 rfl (lv_at hl 2 rfl) ?_
            refine ya_bald (v := nI (len i)) hx hb hK hP 1 0 rfl rfl (by omega) (by decide) hli.1 dX0_giveUpLongest_42 ?_
            refine lv_aload_n hx hb dX0_giveUpLongest_43 rfl (lv_at hl 0 rfl) ?_
            refine x_get (v := .ref g.2.1) hx hb hts hown hK hP 1 (by decide) rfl q29 rfl dX0_giveUpLongest_44 ?_
            refine lv_iload_n hx hb dX0_giveUpLongest_47 rfl (lv_at hl 1 rfl) ?_
            refine ya_bald (v := nI (len z)) hx hb hK hP 1 0 rfl rfl (by omega) (by decide) hlz.1 dX0_giveUpLongest_48 ?_
            refine lv_icmp_le (tgt := 54) hx hb dX0_giveUpLongest_49 (by decide) (fun c49 => ?_) (fun c49 => ?_)
            · rw [nI_leI (by omega) (by omega)] at c49
              refine lv_iinc (v := nI (i + 1)) (lv' := [(2, .int (nI (i + 1))), (0, .ref g.1), (1, .int (nI z))]) hx hb dX0_giveUpLongest_54 hl (k := 2) rfl (lj_inc1 _) (by decide) rfl (fun ls hl => ?_)
              refine lv_goto (tgt := 4) hx hb dX0_giveUpLongest_57 (by decide) ?_
              exact ih (i + 1) _ ls (by omega) (by omega) (lj_lg_keep hz hzs hzf hzm c49) (lv_sub hl [1, 2, 0] rfl)
            · rw [nI_leI (by omega) (by omega)] at c49
              refine lv_iload_n hx hb dX0_giveUpLongest_52 rfl (lv_at hl 2 rfl) ?_
              refine lv_istore_n (lv' := [(1, .int (nI i)), (0, .ref g.1), (2, .int (nI i))]) hx hb dX0_giveUpLongest_53 rfl hl (by decide) rfl (fun ls hl => ?_)
              refine lv_iinc (v := nI (i + 1)) (lv' := [(2, .int (nI (i + 1))), (1, .int (nI i)), (0, .ref g.1)]) hx hb dX0_giveUpLongest_54 hl (k := 2) rfl (lj_inc1 _) (by decide) rfl (fun ls hl => ?_)
              refine lv_goto (tgt := 4) hx hb dX0_giveUpLongest_57 (by decide) ?_
              exact ih (i + 1) _ ls (by omega) (by omega) (lj_lg_new hbit hnf (fun x hx h1 h2 => by have := hzm x hx h1 h2; omega)) (lv_sub hl [2, 1, 0] rfl)
        · have hf := lj_pIn.mp c27
          refine lv_goto (tgt := 54) hx hb dX0_giveUpLongest_30 (by decide) ?_
          refine lv_iinc (v := nI (i + 1)) (lv' := [(2, .int (nI (i + 1))), (0, .ref g.1), (1, .int lo)]) hx hb dX0_giveUpLongest_54 hl (k := 2) rfl (lj_inc1 _) (by decide) rfl (fun ls hl => ?_)
          refine lv_goto (tgt := 4) hx hb dX0_giveUpLongest_57 (by decide) ?_
          exact ih (i + 1) _ ls (by omega) (by omega) (lj_lg_skip hlg (fun _ => hf)) (lv_sub hl [1, 2, 0] rfl)

set_option maxHeartbeats 4000000 in
set_option maxRecDepth 100000 in
theorem metX_giveUpLongest (l : Launch) (dd : va_G) (g : XG) (jc : Int32) (L D F : Nat → Int32) (rk : Int32) (R : Nat → Int32) (ad ac am : Int32) (len : Nat → Nat) (fm : Nat → Bool) (a : Nat) (hE : ad = nI a ∧ ac = nI (lj_sm a.testBit (fun _ => 1) 11) ∧ am = nI (lj_sm a.testBit len 11)) (ha : a < 2048) (h50 : ∀ i, len i ≤ 50) (hLF : ∀ i, i < 11 → a.testBit i = true → L i = nI (len i) ∧ F i = lj_pI (fm i = true)) : zMi l dd (tyX g) (wX g) g.1 yX0_giveUpLongest cX0_giveUpLongest 3 (some .boolean) 0 0 [] (jc, L, D, F, rk, R, ad, ac, am) (fun rr v => (∃ z, z < 11 ∧ a.testBit z = true ∧ fm z = false ∧ (∀ x, x < 11 → a.testBit x = true → fm x = false → len x ≤ len z) ∧ rr = nI 1 ∧ lj_sm (a &&& lj_cp (2 ^ z)).testBit (fun _ => 1) 11 + 1 = lj_sm a.testBit (fun _ => 1) 11 ∧ ∃ ad2 ac2 am2 : Int32, (ad2 = nI (a &&& lj_cp (2 ^ z)) ∧ ac2 = nI (lj_sm (a &&& lj_cp (2 ^ z)).testBit (fun _ => 1) 11) ∧ am2 = nI (lj_sm (a &&& lj_cp (2 ^ z)).testBit len 11)) ∧ v = (jc, L, D, F, rk, R, ad2, ac2, am2)) ∨ ((∀ x, x < 11 → a.testBit x = true → fm x = true) ∧ rr = nI 0 ∧ v = (jc, L, D, F, rk, R, ad, ac, am))) := by
  refine zMi_of RX0 (by decide) rfl (Nat.le_of_ble_eq_true rfl) ?_
  intro p e s m below meth c A hx hb hr hml hown hts hlocks hA hK hP hD hS ls hl
  have hl : lv_has ls 3 [(0, .ref g.1)] := hl
  obtain ⟨had, hac, ham⟩ := hE
  refine lv_iconst (v := (-1)) hx hb dX0_giveUpLongest_0 (by decide) ?_
  refine lv_istore_n (lv' := [(1, .int (-1)), (0, .ref g.1)]) hx hb dX0_giveUpLongest_1 rfl hl (by decide) rfl (fun ls hl => ?_)
  refine lv_iconst (v := nI 0) hx hb dX0_giveUpLongest_2 (by decide) ?_
  refine lv_istore_n (lv' := [(2, .int (nI 0)), (1, .int (-1)), (0, .ref g.1)]) hx hb dX0_giveUpLongest_3 rfl hl (by decide) rfl (fun ls hl => ?_)
  refine lpX_giveUp hx hb hts hown hK len fm a had ha h50 hLF hP (fun lo ls hlg hl => ?_) 12 0 (-1) ls (by omega) (by omega) lj_lg_0 (lv_sub hl [2, 1, 0] rfl)
  refine lv_iload_n hx hb dX0_giveUpLongest_60 rfl (lv_at hl 1 rfl) ?_
  refine lv_if_ge (tgt := 66) hx hb dX0_giveUpLongest_61 (by decide) (fun c61 => ?_) (fun c61 => ?_)
  · obtain ⟨z, hz, rfl, hzs, hzf, hzm⟩ := lj_lg_pos hlg (fun q => by rw [Int32.lt_iff_toInt_lt] at q; rw [Int32.le_iff_toInt_le] at c61; omega)
    have hlz := hLF z hz hzs
    have h5z := h50 z
    have hs1 : lj_sm (a &&& lj_cp (2 ^ z)).testBit (fun _ => 1) 11 + 1 = lj_sm a.testBit (fun _ => 1) 11 := lj_clr_sz ha hz hzs (fun _ => 1)
    have hs2 : lj_sm (a &&& lj_cp (2 ^ z)).testBit len 11 + len z = lj_sm a.testBit len 11 := lj_clr_sz ha hz hzs len
    refine lv_aload_n hx hb dX0_giveUpLongest_66 rfl (lv_at hl 0 rfl) ?_
    refine lv_dup hx hb dX0_giveUpLongest_67 rfl ?_
    refine x_get (v := .int ad) hx hb hts hown hK hP 6 (by decide) rfl q34 rfl dX0_giveUpLongest_68 ?_
    refine lj_top (y := nI a) had ?_
    refine lv_iconst (v := nI 1) hx hb dX0_giveUpLongest_71 (by decide) ?_
    refine lv_iload_n hx hb dX0_giveUpLongest_72 rfl (lv_at hl 1 rfl) ?_
    refine lv_ishl hx hb dX0_giveUpLongest_73 ?_
    refine lj_top (y := nI (2 ^ z)) (lj_shl (by omega)) ?_
    refine lv_iconst (v := (-1)) hx hb dX0_giveUpLongest_74 (by decide) ?_
    refine lv_ixor hx hb dX0_giveUpLongest_75 ?_
    refine lj_top (y := nI (lj_cp (2 ^ z))) (lj_not _) ?_
    refine lv_iand hx hb dX0_giveUpLongest_76 ?_
    refine lj_top (y := nI (a &&& (lj_cp (2 ^ z)))) (lj_and _ _) ?_
    refine lv_topi (fun ad2 ead => ?_)
    refine x_put (ws' := wX g (jc, L, D, F, rk, R, ad2, ac, am)) hx hb hts hown hK hP hD hS 6 (by decide) rfl q34 rfl (by decide +kernel) rfl dX0_giveUpLongest_77 (fun H locs hP hD hS => ?_)
    refine lv_aload_n hx hb dX0_giveUpLongest_80 rfl (lv_at hl 0 rfl) ?_
    refine lv_dup hx hb dX0_giveUpLongest_81 rfl ?_
    refine x_get (v := .int ac) hx hb hts hown hK hP 7 (by decide) rfl q35 rfl dX0_giveUpLongest_82 ?_
    refine lj_top (y := nI (lj_sm a.testBit (fun _ => 1) 11)) hac ?_
    refine lv_iconst (v := nI 1) hx hb dX0_giveUpLongest_85 (by decide) ?_
    refine lv_isub hx hb dX0_giveUpLongest_86 ?_
    refine lj_top (y := nI (lj_sm (a &&& lj_cp (2 ^ z)).testBit (fun _ => 1) 11)) (lj_subE hs1) ?_
    refine lv_topi (fun ac2 eac => ?_)
    refine x_put (ws' := wX g (jc, L, D, F, rk, R, ad2, ac2, am)) hx hb hts hown hK hP hD hS 7 (by decide) rfl q35 rfl (by decide +kernel) rfl dX0_giveUpLongest_87 (fun H locs hP hD hS => ?_)
    refine lv_aload_n hx hb dX0_giveUpLongest_90 rfl (lv_at hl 0 rfl) ?_
    refine lv_dup hx hb dX0_giveUpLongest_91 rfl ?_
    refine x_get (v := .int am) hx hb hts hown hK hP 8 (by decide) rfl q36 rfl dX0_giveUpLongest_92 ?_
    refine lj_top (y := nI (lj_sm a.testBit len 11)) ham ?_
    refine lv_aload_n hx hb dX0_giveUpLongest_95 rfl (lv_at hl 0 rfl) ?_
    refine x_get (v := .ref g.2.1) hx hb hts hown hK hP 1 (by decide) rfl q29 rfl dX0_giveUpLongest_96 ?_
    refine lv_iload_n hx hb dX0_giveUpLongest_99 rfl (lv_at hl 1 rfl) ?_
    refine ya_bald (v := nI (len z)) hx hb hK hP 1 0 rfl rfl (by omega) (by decide) hlz.1 dX0_giveUpLongest_100 ?_
    refine lv_isub hx hb dX0_giveUpLongest_101 ?_
    refine lj_top (y := nI (lj_sm (a &&& lj_cp (2 ^ z)).testBit len 11)) (lj_subE hs2) ?_
    refine lv_topi (fun am2 eam => ?_)
    refine x_put (ws' := wX g (jc, L, D, F, rk, R, ad2, ac2, am2)) hx hb hts hown hK hP hD hS 8 (by decide) rfl q36 rfl (by decide +kernel) rfl dX0_giveUpLongest_102 (fun H locs hP hD hS => ?_)
    refine lv_iconst (v := nI 1) hx hb dX0_giveUpLongest_105 (by decide) ?_
    exact z_zret (wf := wX g) (u := (jc, L, D, F, rk, R, ad2, ac2, am2)) hx hb hr rfl hlocks hK hP hD hS dX0_giveUpLongest_106 (Or.inl ⟨z, hz, hzs, hzf, hzm, rfl, hs1, ad2, ac2, am2, ⟨ead, eac, eam⟩, rfl⟩)
  · have hall := lj_lg_neg (by omega) hlg (by rw [Int32.lt_iff_toInt_lt]; rw [Int32.le_iff_toInt_le] at c61; omega)
    refine lv_iconst (v := nI 0) hx hb dX0_giveUpLongest_64 (by decide) ?_
    exact z_zret (wf := wX g) (u := (jc, L, D, F, rk, R, ad, ac, am)) hx hb hr rfl hlocks hK hP hD hS dX0_giveUpLongest_65 (Or.inr ⟨hall, rfl, rfl⟩)

set_option maxHeartbeats 4000000 in
set_option maxRecDepth 100000 in
theorem lpX_admit2 {p : Program} {l : Launch} {e : Env} {Rm : Room} {s : State} {m : MethodId} {args : Array Value} {below : List Frame} {meth : Method} {c : Code} {Q : State → Prop} {dd : va_G} {A : Nat → Prop} {L D F R : Nat → Int32} {jc : Int32} {g : XG} (hx : p.tables.exec = Jvm.exec) (hb : c.code = cX0_admit) (hts : ∀ w ∈ lw_all, w.before args s = true) (hown : s.vm.findClass RX0 = some m.cls) (hml : c.maxLocals = 4) (hRf : 1 ≤ Rm.frames) (hRl : 22 ≤ Rm.locals) (hA : ∀ q : Nat, s.heap.size ≤ q → A q) (hK : va_K dd vwCl (tyX g) s) (len dl : Nat → Nat) (fm : Nat → Bool) (r : Nat → Nat) (k : Nat) (hX : lj_XA len dl fm r k L D F R) (d : Nat) (hd : d < k)
    (kx : ∀ (a : Nat) (ad ac am : Int32) (H : Heap) (locs : List Loc) (ls : Array Slot), (ad = nI a ∧ ac = nI (lj_sm a.testBit (fun _ => 1) 11) ∧ am = nI (lj_sm a.testBit len 11)) → a < 2048 → lj_dom len dl (lj_fs len fm) r (d + 1) a.testBit → lj_fe len dl a.testBit → va_P dd vwCl (wX g (jc, L, D, F, nI k, R, ad, ac, am)) H → va_D A (wX g (jc, L, D, F, nI k, R, ad, ac, am)) → va_S A s.heap H locs → lv_has ls 4 [(0, .ref g.1), (1, .int (nI d))] → W p l e Rm s m args below meth c H locs 0 0 Q (F0 m 105 ls []))
    (kf : ∀ (ad ac am : Int32) (H : Heap) (locs : List Loc) (ls : Array Slot), lj_none len dl (lj_fs len fm) → va_P dd vwCl (wX g (jc, L, D, F, nI k, R, ad, ac, am)) H → va_D A (wX g (jc, L, D, F, nI k, R, ad, ac, am)) → va_S A s.heap H locs → W p l e Rm s m args below meth c H locs 0 0 Q (F0 m 97 ls [])) :
    ∀ (n : Nat) (kk a : Nat) (ad ac am : Int32) (H : Heap) (locs : List Loc) (ls : Array Slot), 11 - kk < n → (ad = nI a ∧ ac = nI (lj_sm a.testBit (fun _ => 1) 11) ∧ am = nI (lj_sm a.testBit len 11)) → a < 2048 → lj_dom len dl (lj_fs len fm) r (d + 1) a.testBit → (∃ A0 : Nat → Bool, lj_fe len dl A0 ∧ ∀ x, x < 11 → a.testBit x = true → A0 x = true ∨ x = r d) → lj_sm a.testBit (fun _ => 1) 11 + kk ≤ 11 → va_P dd vwCl (wX g (jc, L, D, F, nI k, R, ad, ac, am)) H → va_D A (wX g (jc, L, D, F, nI k, R, ad, ac, am)) → va_S A s.heap H locs →  lv_has ls 4 [(0, .ref g.1), (1, .int (nI d)), (2, .int (nI (r d))), (3, .int (nI kk))] → W p l e Rm s m args below meth c H locs 0 0 Q (F0 m 71 ls []) := by
  intro n
  induction n with
  | zero =>
    intro kk a ad ac am H locs ls hn
    exact absurd hn (Nat.not_lt_zero _)
  | succ n ih =>
    intro kk a ad ac am H locs ls hn hE ha hdom hA2 hkk hP hD hS hl
    obtain ⟨had, hac, ham⟩ := id hE
    obtain ⟨hLF, hR, hk11, h50, h200, hrk⟩ := id hX
    obtain ⟨A0, hA0, hA1⟩ := hA2
    have hrd := hrk.1 d hd
    have hld := hLF (r d) hrd.1 hrd.2
    have h2d := h200 (r d) hrd.1 hrd.2
    have hTM : lj_sm a.testBit len 11 ≤ 50 * 11 := lj_sm_leB (fun i _ => h50 i)
    refine lv_iload_n hx hb dX0_admit_71 rfl (lv_at hl 3 rfl) ?_
    refine lv_bipush (v := nI 11) hx hb dX0_admit_72 (by decide) ?_
    refine lv_icmp_ge (tgt := 105) hx hb dX0_admit_74 (by decide) (fun c74 => ?_) (fun c74 => ?_)
    · rw [nI_leI (by omega) (by omega)] at c74
      have hz := lj_sm_zero (show lj_sm a.testBit (fun _ => 1) 11 = 0 by omega)
      exact kx a ad ac am H locs ls hE ha hdom (lj_fe_0 hz) hP hD hS (lv_sub hl [0, 1] rfl)
    · rw [nI_leI (by omega) (by omega)] at c74
      refine lv_aload_n hx hb dX0_admit_77 rfl (lv_at hl 0 rfl) ?_
      refine x_get (v := .int am) hx hb hts hown hK hP 8 (by decide) rfl q36 rfl dX0_admit_78 ?_
      refine lj_top (y := nI (lj_sm a.testBit len 11)) ham ?_
      refine lv_aload_n hx hb dX0_admit_81 rfl (lv_at hl 0 rfl) ?_
      refine x_get (v := .ref g.2.2.1) hx hb hts hown hK hP 2 (by decide) rfl q30 rfl dX0_admit_82 ?_
      refine lv_iload_n hx hb dX0_admit_85 rfl (lv_at hl 2 rfl) ?_
      refine ya_sald (v := nI (dl (r d))) hx hb hK hP 2 1 rfl rfl (by omega) (by decide) hld.2.1 dX0_admit_86 ?_
      refine lv_icmp_le (tgt := 105) hx hb dX0_admit_87 (by decide) (fun c87 => ?_) (fun c87 => ?_)
      · rw [nI_leI (by omega) (by omega)] at c87
        exact kx a ad ac am H locs ls hE ha hdom (lj_fe_last hA0 hrd.2 hA1 (fun _ => c87)) hP hD hS (lv_sub hl [0, 1] rfl)
      · rw [nI_leI (by omega) (by omega)] at c87
        have hlv := lj_adm_live hrk (by omega) hdom
        refine lv_aload_n hx hb dX0_admit_90 rfl (lv_at hl 0 rfl) ?_
        refine z_calli (wf := wX g) (n := 0) (As := []) (rest := []) ⟨hx, hb, hml, hown, hts⟩ hK hP hD hS hA (metX_giveUpLongest l dd g jc L D F (nI k) R ad ac am len fm a hE ha h50 (fun i hi hb => ⟨(hLF i hi (hlv i hi hb)).1, (hLF i hi (hlv i hi hb)).2.2⟩)) (lw_V q107 q109 qs6 q18 q110) (by decide +kernel) ⟨hRf, hRl⟩ (ci := 0) rfl rfl rfl rfl hl.1 rfl (Nat.le_of_ble_eq_true rfl) dX0_admit_91 ⟨Nat.zero_le _, Nat.zero_le _⟩ (fun r91 u91 H locs hpo hP hD hS => ?_)
        rcases hpo with ⟨z, hz, hzs, hzf, hzm, hrr, hs1, ad2, ac2, am2, hE2, rfl⟩ | ⟨hall, hrr, rfl⟩
        · rw [hrr]
          refine lv_if_ne (tgt := 99) hx hb dX0_admit_94 (by decide) (fun c94 => ?_) (fun c94 => ?_)
          · refine lv_iinc (v := nI (kk + 1)) (lv' := [(3, .int (nI (kk + 1))), (0, .ref g.1), (1, .int (nI d)), (2, .int (nI (r d)))]) hx hb dX0_admit_99 hl (k := 3) rfl (lj_inc1 _) (by decide) rfl (fun ls hl => ?_)
            refine lv_goto (tgt := 71) hx hb dX0_admit_102 (by decide) ?_
            exact ih (kk + 1) _ ad2 ac2 am2 _ _ ls (by omega) hE2 (Nat.lt_of_le_of_lt lj_andle ha) (lj_adm_del hrk hd ha hdom (by omega) hz hzs hzf hzm) ⟨A0, hA0, lj_adm_sub ha hA1⟩ (by omega) hP hD hS (lv_sub hl [1, 2, 3, 0] rfl)
          · exact absurd c94 (by decide)
        · rw [hrr]
          refine lv_if_ne (tgt := 99) hx hb dX0_admit_94 (by decide) (fun c94 => ?_) (fun c94 => ?_)
          · exact absurd rfl c94
          · exact kf ad ac am H locs ls (lj_adm_fail hrk hd hdom (by omega) hall) hP hD hS

set_option maxHeartbeats 4000000 in
set_option maxRecDepth 100000 in
theorem lpX_admit1 {p : Program} {l : Launch} {e : Env} {Rm : Room} {s : State} {m : MethodId} {args : Array Value} {below : List Frame} {meth : Method} {c : Code} {Q : State → Prop} {dd : va_G} {A : Nat → Prop} {L D F R : Nat → Int32} {jc : Int32} {g : XG} (hx : p.tables.exec = Jvm.exec) (hb : c.code = cX0_admit) (hts : ∀ w ∈ lw_all, w.before args s = true) (hown : s.vm.findClass RX0 = some m.cls) (hml : c.maxLocals = 4) (hRf : 1 ≤ Rm.frames) (hRl : 22 ≤ Rm.locals) (hA : ∀ q : Nat, s.heap.size ≤ q → A q) (hK : va_K dd vwCl (tyX g) s) (len dl : Nat → Nat) (fm : Nat → Bool) (r : Nat → Nat) (k : Nat) (hX : lj_XA len dl fm r k L D F R)
    (kx : ∀ (a : Nat) (ad ac am : Int32) (H : Heap) (locs : List Loc) (ls : Array Slot), (ad = nI a ∧ ac = nI (lj_sm a.testBit (fun _ => 1) 11) ∧ am = nI (lj_sm a.testBit len 11)) → a < 2048 → lj_dom len dl (lj_fs len fm) r k a.testBit → lj_fe len dl a.testBit → va_P dd vwCl (wX g (jc, L, D, F, nI k, R, ad, ac, am)) H → va_D A (wX g (jc, L, D, F, nI k, R, ad, ac, am)) → va_S A s.heap H locs → W p l e Rm s m args below meth c H locs 0 0 Q (F0 m 111 ls []))
    (kf : ∀ (ad ac am : Int32) (H : Heap) (locs : List Loc) (ls : Array Slot), lj_none len dl (lj_fs len fm) → va_P dd vwCl (wX g (jc, L, D, F, nI k, R, ad, ac, am)) H → va_D A (wX g (jc, L, D, F, nI k, R, ad, ac, am)) → va_S A s.heap H locs → W p l e Rm s m args below meth c H locs 0 0 Q (F0 m 97 ls [])) :
    ∀ (n : Nat) (d a : Nat) (ad ac am : Int32) (H : Heap) (locs : List Loc) (ls : Array Slot), k - d < n → d ≤ k → (ad = nI a ∧ ac = nI (lj_sm a.testBit (fun _ => 1) 11) ∧ am = nI (lj_sm a.testBit len 11)) → a < 2048 → lj_dom len dl (lj_fs len fm) r d a.testBit → lj_fe len dl a.testBit → va_P dd vwCl (wX g (jc, L, D, F, nI k, R, ad, ac, am)) H → va_D A (wX g (jc, L, D, F, nI k, R, ad, ac, am)) → va_S A s.heap H locs →  lv_has ls 4 [(0, .ref g.1), (1, .int (nI d))] → W p l e Rm s m args below meth c H locs 0 0 Q (F0 m 17 ls []) := by
  intro n
  induction n with
  | zero =>
    intro d a ad ac am H locs ls hn
    exact absurd hn (Nat.not_lt_zero _)
  | succ n ih =>
    intro d a ad ac am H locs ls hn hd hE ha hdom hfe hP hD hS hl
    obtain ⟨had, hac, ham⟩ := id hE
    obtain ⟨hLF, hR, hk11, h50, h200, hrk⟩ := id hX
    refine lv_iload_n hx hb dX0_admit_17 rfl (lv_at hl 1 rfl) ?_
    refine lv_aload_n hx hb dX0_admit_18 rfl (lv_at hl 0 rfl) ?_
    refine x_get (v := .int (nI k)) hx hb hts hown hK hP 4 (by decide) rfl q32 rfl dX0_admit_19 ?_
    refine lv_icmp_ge (tgt := 111) hx hb dX0_admit_22 (by decide) (fun c22 => ?_) (fun c22 => ?_)
    · rw [nI_leI (by omega) (by omega)] at c22
      exact kx a ad ac am H locs ls hE ha (by rw [show k = d by omega]; exact hdom) hfe hP hD hS
    · rw [nI_leI (by omega) (by omega)] at c22
      have hrd := hrk.1 d (by omega)
      have hld := hLF (r d) hrd.1 hrd.2
      obtain ⟨ha2, hdom2, hA2, hs1, hs2⟩ := lj_adm_add hrk (by omega) ha hdom hfe
      have hle : lj_sm (a ||| 2 ^ r d).testBit (fun _ => 1) 11 ≤ 11 := lj_sm_le
      refine lv_aload_n hx hb dX0_admit_25 rfl (lv_at hl 0 rfl) ?_
      refine x_get (v := .ref g.2.2.2.2.1) hx hb hts hown hK hP 5 (by decide) rfl q33 rfl dX0_admit_26 ?_
      refine lv_iload_n hx hb dX0_admit_29 rfl (lv_at hl 1 rfl) ?_
      refine ya_bald (v := nI (r d)) hx hb hK hP 4 3 rfl rfl (by omega) (by decide) (hR d (by omega)) dX0_admit_30 ?_
      refine lv_istore_n (lv' := [(2, .int (nI (r d))), (0, .ref g.1), (1, .int (nI d))]) hx hb dX0_admit_31 rfl hl (by decide) rfl (fun ls hl => ?_)
      refine lv_aload_n hx hb dX0_admit_32 rfl (lv_at hl 1 rfl) ?_
      refine lv_dup hx hb dX0_admit_33 rfl ?_
      refine x_get (v := .int ad) hx hb hts hown hK hP 6 (by decide) rfl q34 rfl dX0_admit_34 ?_
      refine lj_top (y := nI a) had ?_
      refine lv_iconst (v := nI 1) hx hb dX0_admit_37 (by decide) ?_
      refine lv_iload_n hx hb dX0_admit_38 rfl (lv_at hl 0 rfl) ?_
      refine lv_ishl hx hb dX0_admit_39 ?_
      refine lj_top (y := nI (2 ^ (r d))) (lj_shl (by omega)) ?_
      refine lv_ior hx hb dX0_admit_40 ?_
      refine lj_top (y := nI (a ||| (2 ^ (r d)))) (lj_or _ _) ?_
      refine lv_topi (fun ad2 ead => ?_)
      refine x_put (ws' := wX g (jc, L, D, F, nI k, R, ad2, ac, am)) hx hb hts hown hK hP hD hS 6 (by decide) rfl q34 rfl (by decide +kernel) rfl dX0_admit_41 (fun H locs hP hD hS => ?_)
      refine lv_aload_n hx hb dX0_admit_44 rfl (lv_at hl 1 rfl) ?_
      refine lv_dup hx hb dX0_admit_45 rfl ?_
      refine x_get (v := .int ac) hx hb hts hown hK hP 7 (by decide) rfl q35 rfl dX0_admit_46 ?_
      refine lj_top (y := nI (lj_sm a.testBit (fun _ => 1) 11)) hac ?_
      refine lv_iconst (v := nI 1) hx hb dX0_admit_49 (by decide) ?_
      refine lv_iadd hx hb dX0_admit_50 ?_
      refine lj_top (y := nI (lj_sm (a ||| 2 ^ r d).testBit (fun _ => 1) 11)) (by rw [nI_add, ← hs1]) ?_
      refine lv_topi (fun ac2 eac => ?_)
      refine x_put (ws' := wX g (jc, L, D, F, nI k, R, ad2, ac2, am)) hx hb hts hown hK hP hD hS 7 (by decide) rfl q35 rfl (by decide +kernel) rfl dX0_admit_51 (fun H locs hP hD hS => ?_)
      refine lv_aload_n hx hb dX0_admit_54 rfl (lv_at hl 1 rfl) ?_
      refine lv_dup hx hb dX0_admit_55 rfl ?_
      refine x_get (v := .int am) hx hb hts hown hK hP 8 (by decide) rfl q36 rfl dX0_admit_56 ?_
      refine lj_top (y := nI (lj_sm a.testBit len 11)) ham ?_
      refine lv_aload_n hx hb dX0_admit_59 rfl (lv_at hl 1 rfl) ?_
      refine x_get (v := .ref g.2.1) hx hb hts hown hK hP 1 (by decide) rfl q29 rfl dX0_admit_60 ?_
      refine lv_iload_n hx hb dX0_admit_63 rfl (lv_at hl 0 rfl) ?_
      refine ya_bald (v := nI (len (r d))) hx hb hK hP 1 0 rfl rfl (by omega) (by decide) hld.1 dX0_admit_64 ?_
      refine lv_iadd hx hb dX0_admit_65 ?_
      refine lj_top (y := nI (lj_sm (a ||| 2 ^ r d).testBit len 11)) (by rw [nI_add, ← hs2]) ?_
      refine lv_topi (fun am2 eam => ?_)
      refine x_put (ws' := wX g (jc, L, D, F, nI k, R, ad2, ac2, am2)) hx hb hts hown hK hP hD hS 8 (by decide) rfl q36 rfl (by decide +kernel) rfl dX0_admit_66 (fun H locs hP hD hS => ?_)
      refine lv_iconst (v := nI 0) hx hb dX0_admit_69 (by decide) ?_
      refine lv_istore_n (lv' := [(3, .int (nI 0)), (2, .int (nI (r d))), (0, .ref g.1), (1, .int (nI d))]) hx hb dX0_admit_70 rfl hl (by decide) rfl (fun ls hl => ?_)
      refine lpX_admit2 hx hb hts hown hml hRf hRl hA hK len dl fm r k hX d (by omega) (fun a ad ac am H locs ls hE ha hdom hfe hP hD hS hl => ?_) kf 12 0 (a ||| 2 ^ r d) ad2 ac2 am2 _ _ ls (by omega) ⟨ead, eac, eam⟩ ha2 hdom2 hA2 (by omega) hP hD hS (lv_sub hl [2, 3, 1, 0] rfl)
      refine lv_iinc (v := nI (d + 1)) (lv' := [(1, .int (nI (d + 1))), (0, .ref g.1)]) hx hb dX0_admit_105 hl (k := 1) rfl (lj_inc1 _) (by decide) rfl (fun ls hl => ?_)
      refine lv_goto (tgt := 17) hx hb dX0_admit_108 (by decide) ?_
      exact ih (d + 1) a ad ac am H locs ls (by omega) (by omega) hE ha hdom hfe hP hD hS (lv_sub hl [1, 0] rfl)

set_option maxHeartbeats 4000000 in
set_option maxRecDepth 100000 in
theorem metX_admit (l : Launch) (dd : va_G) (g : XG) (jc : Int32) (L D F R : Nat → Int32) (ad ac am : Int32) (len dl : Nat → Nat) (fm : Nat → Bool) (r : Nat → Nat) (k : Nat) (hX : lj_XA len dl fm r k L D F R) : zMi l dd (tyX g) (wX g) g.1 yX0_admit cX0_admit 4 (some .boolean) 1 22 [] (jc, L, D, F, nI k, R, ad, ac, am) (fun rr v => ∃ ad2 ac2 am2 : Int32, v = (jc, L, D, F, nI k, R, ad2, ac2, am2) ∧ ((rr = nI 1 ∧ ∃ c t : Nat, ac2 = nI c ∧ am2 = nI t ∧ lj_best len dl (lj_fs len fm) c t) ∨ (rr = nI 0 ∧ lj_none len dl (lj_fs len fm)))) := by
  refine zMi_of RX0 (by decide) rfl (Nat.le_of_ble_eq_true rfl) ?_
  intro p e s m below meth c A hx hb hr hml hown hts hlocks hA hK hP hD hS ls hl
  have hl : lv_has ls 4 [(0, .ref g.1)] := hl
  obtain ⟨hLF, hR, hk11, h50, h200, hrk⟩ := id hX
  refine lv_aload_n hx hb dX0_admit_0 rfl (lv_at hl 0 rfl) ?_
  refine lv_iconst (v := nI 0) hx hb dX0_admit_1 (by decide) ?_
  refine x_put (ws' := wX g (jc, L, D, F, nI k, R, nI 0, ac, am)) hx hb hts hown hK hP hD hS 6 (by decide) rfl q34 rfl (by decide +kernel) rfl dX0_admit_2 (fun H locs hP hD hS => ?_)
  refine lv_aload_n hx hb dX0_admit_5 rfl (lv_at hl 0 rfl) ?_
  refine lv_iconst (v := nI 0) hx hb dX0_admit_6 (by decide) ?_
  refine x_put (ws' := wX g (jc, L, D, F, nI k, R, nI 0, nI 0, am)) hx hb hts hown hK hP hD hS 7 (by decide) rfl q35 rfl (by decide +kernel) rfl dX0_admit_7 (fun H locs hP hD hS => ?_)
  refine lv_aload_n hx hb dX0_admit_10 rfl (lv_at hl 0 rfl) ?_
  refine lv_iconst (v := nI 0) hx hb dX0_admit_11 (by decide) ?_
  refine x_put (ws' := wX g (jc, L, D, F, nI k, R, nI 0, nI 0, nI 0)) hx hb hts hown hK hP hD hS 8 (by decide) rfl q36 rfl (by decide +kernel) rfl dX0_admit_12 (fun H locs hP hD hS => ?_)
  refine lv_iconst (v := nI 0) hx hb dX0_admit_15 (by decide) ?_
  refine lv_istore_n (lv' := [(1, .int (nI 0)), (0, .ref g.1)]) hx hb dX0_admit_16 rfl hl (by decide) rfl (fun ls hl => ?_)
  have e1 : lj_sm (0 : Nat).testBit (fun _ => 1) 11 = 0 := lj_sm_none (fun i _ => Nat.zero_testBit i)
  have e2 : lj_sm (0 : Nat).testBit len 11 = 0 := lj_sm_none (fun i _ => Nat.zero_testBit i)
  refine lpX_admit1 hx hb hts hown hml (Nat.le_of_ble_eq_true rfl) (Nat.le_of_ble_eq_true rfl) hA hK len dl fm r k hX (fun a ad ac am H locs ls hE ha hdom hfe hP hD hS => ?_) (fun ad ac am H locs ls hno hP hD hS => ?_) (k + 1) 0 0 (nI 0) (nI 0) (nI 0) H locs ls (by omega) (by omega) ⟨rfl, by rw [e1], by rw [e2]⟩ (by omega) (lj_dom_0 (fun i _ => Nat.zero_testBit i)) (lj_fe_0 (fun i _ => Nat.zero_testBit i)) hP hD hS (lv_sub hl [1, 0] rfl)
  · refine lv_iconst (v := nI 1) hx hb dX0_admit_111 (by decide) ?_
    exact z_zret (wf := wX g) (u := (jc, L, D, F, nI k, R, ad, ac, am)) hx hb hr rfl hlocks hK hP hD hS dX0_admit_112 (⟨_, _, _, rfl, Or.inl ⟨rfl, _, _, hE.2.1, hE.2.2, lj_dom_best hrk (fun i _ h => by unfold lj_fs at h; rw [Bool.and_eq_true] at h; exact of_decide_eq_true h.2) hfe hdom⟩⟩)
  · refine lv_iconst (v := nI 0) hx hb dX0_admit_97 (by decide) ?_
    exact z_zret (wf := wX g) (u := (jc, L, D, F, nI k, R, ad, ac, am)) hx hb hr rfl hlocks hK hP hD hS dX0_admit_98 (⟨_, _, _, rfl, Or.inr ⟨rfl, hno⟩⟩)
end
section
/-! X: mostInTime, leastTime, affordable, welcome, elapse -/
set_option maxHeartbeats 4000000 in
set_option maxRecDepth 100000 in
theorem metX_mostInTime (l : Launch) (dd : va_G) (g : XG) (L D F R : Nat → Int32) (ad ac am : Int32) (len dl : Nat → Nat) (fm : Nat → Bool) (r : Nat → Nat) (k : Nat) (hX : lj_XR len dl fm r k L D F R) : zMi l dd (tyX g) (wX g) g.1 yX0_mostInTime cX0_mostInTime 1 (some .int) 2 45 [] (nI k, L, D, F, nI k, R, ad, ac, am) (fun rr v => lj_pmost len dl (lj_fs len fm) rr ∧ ∃ ad2 ac2 am2 : Int32, v = (nI k, L, D, F, nI k, R, ad2, ac2, am2)) := by
  refine zMi_of RX0 (by decide) rfl (Nat.le_of_ble_eq_true rfl) ?_
  intro p e s m below meth c A hx hb hr hml hown hts hlocks hA hK hP hD hS ls hl
  have hl : lv_has ls 1 [(0, .ref g.1)] := hl
  refine lv_aload_n hx hb dX0_mostInTime_0 rfl (lv_at hl 0 rfl) ?_
  refine z_calli (wf := wX g) (n := 0) (As := []) (rest := []) ⟨hx, hb, hml, hown, hts⟩ hK hP hD hS hA (metX_admit l dd g (nI k) L D F R ad ac am len dl fm r k (lj_XR_A hX)) (lw_V q103 q105 qs5 q18 q106) (by decide +kernel) ⟨Nat.le_of_ble_eq_true rfl, Nat.le_of_ble_eq_true rfl⟩ (ci := 0) rfl rfl rfl rfl hl.1 rfl (Nat.le_of_ble_eq_true rfl) dX0_mostInTime_1 ⟨Nat.zero_le _, Nat.zero_le _⟩ (fun r1 u1 H locs hpo hP hD hS => ?_)
  obtain ⟨ad1, ac1, am1, rfl, hadm1⟩ := hpo
  refine lv_if_eq (tgt := 14) hx hb dX0_mostInTime_4 (by decide) (fun c4 => ?_) (fun c4 => ?_)
  · have hno := lj_adm_t hadm1 c4
    refine lv_bipush (v := (-3)) hx hb dX0_mostInTime_14 (by decide) ?_
    exact z_iret (wf := wX g) (u := (nI k, L, D, F, nI k, R, ad1, ac1, am1)) hx hb hr hlocks hK hP hD hS dX0_mostInTime_16 (⟨Or.inr ⟨hno, rfl⟩, ad1, ac1, am1, rfl⟩)
  · obtain ⟨cc, tt, e1, e2, hbst⟩ := lj_adm_f hadm1 c4
    refine lv_aload_n hx hb dX0_mostInTime_7 rfl (lv_at hl 0 rfl) ?_
    refine x_get (v := .int ac1) hx hb hts hown hK hP 7 (by decide) rfl q35 rfl dX0_mostInTime_8 ?_
    refine lv_goto (tgt := 16) hx hb dX0_mostInTime_11 (by decide) ?_
    exact z_iret (wf := wX g) (u := (nI k, L, D, F, nI k, R, ad1, ac1, am1)) hx hb hr hlocks hK hP hD hS dX0_mostInTime_16 (⟨Or.inl ⟨cc, tt, hbst, e1⟩, ad1, ac1, am1, rfl⟩)

set_option maxHeartbeats 4000000 in
set_option maxRecDepth 100000 in
theorem metX_leastTime (l : Launch) (dd : va_G) (g : XG) (L D F R : Nat → Int32) (ad ac am : Int32) (len dl : Nat → Nat) (fm : Nat → Bool) (r : Nat → Nat) (k : Nat) (hX : lj_XR len dl fm r k L D F R) : zMi l dd (tyX g) (wX g) g.1 yX0_leastTime cX0_leastTime 1 (some .int) 2 45 [] (nI k, L, D, F, nI k, R, ad, ac, am) (fun rr v => lj_pleast len dl (lj_fs len fm) rr ∧ ∃ ad2 ac2 am2 : Int32, v = (nI k, L, D, F, nI k, R, ad2, ac2, am2)) := by
  refine zMi_of RX0 (by decide) rfl (Nat.le_of_ble_eq_true rfl) ?_
  intro p e s m below meth c A hx hb hr hml hown hts hlocks hA hK hP hD hS ls hl
  have hl : lv_has ls 1 [(0, .ref g.1)] := hl
  refine lv_aload_n hx hb dX0_leastTime_0 rfl (lv_at hl 0 rfl) ?_
  refine z_calli (wf := wX g) (n := 0) (As := []) (rest := []) ⟨hx, hb, hml, hown, hts⟩ hK hP hD hS hA (metX_admit l dd g (nI k) L D F R ad ac am len dl fm r k (lj_XR_A hX)) (lw_V q103 q105 qs5 q18 q106) (by decide +kernel) ⟨Nat.le_of_ble_eq_true rfl, Nat.le_of_ble_eq_true rfl⟩ (ci := 0) rfl rfl rfl rfl hl.1 rfl (Nat.le_of_ble_eq_true rfl) dX0_leastTime_1 ⟨Nat.zero_le _, Nat.zero_le _⟩ (fun r1 u1 H locs hpo hP hD hS => ?_)
  obtain ⟨ad1, ac1, am1, rfl, hadm1⟩ := hpo
  refine lv_if_eq (tgt := 14) hx hb dX0_leastTime_4 (by decide) (fun c4 => ?_) (fun c4 => ?_)
  · have hno := lj_adm_t hadm1 c4
    refine lv_bipush (v := (-3)) hx hb dX0_leastTime_14 (by decide) ?_
    exact z_iret (wf := wX g) (u := (nI k, L, D, F, nI k, R, ad1, ac1, am1)) hx hb hr hlocks hK hP hD hS dX0_leastTime_16 (⟨Or.inr ⟨hno, rfl⟩, ad1, ac1, am1, rfl⟩)
  · obtain ⟨cc, tt, e1, e2, hbst⟩ := lj_adm_f hadm1 c4
    refine lv_aload_n hx hb dX0_leastTime_7 rfl (lv_at hl 0 rfl) ?_
    refine x_get (v := .int am1) hx hb hts hown hK hP 8 (by decide) rfl q36 rfl dX0_leastTime_8 ?_
    refine lv_goto (tgt := 16) hx hb dX0_leastTime_11 (by decide) ?_
    exact z_iret (wf := wX g) (u := (nI k, L, D, F, nI k, R, ad1, ac1, am1)) hx hb hr hlocks hK hP hD hS dX0_leastTime_16 (⟨Or.inl ⟨cc, tt, hbst, e2⟩, ad1, ac1, am1, rfl⟩)

set_option maxHeartbeats 4000000 in
set_option maxRecDepth 100000 in
theorem metX_affordable (l : Launch) (dd : va_G) (g : XG) (L D F R : Nat → Int32) (ad ac am : Int32) (len dl : Nat → Nat) (fm : Nat → Bool) (r : Nat → Nat) (k : Nat) (hX : lj_XR len dl fm r k L D F R) (p0 : Int32) : zMi l dd (tyX g) (wX g) g.1 yX0_affordable cX0_affordable 5 (some .boolean) 2 45 [.int p0] (nI k, L, D, F, nI k, R, ad, ac, am) (fun rr v => rr = lj_pI (lj_paff len dl (lj_fs len fm) p0) ∧ ∃ ad2 ac2 am2 : Int32, v = (nI k, L, D, F, nI k, R, ad2, ac2, am2)) := by
  refine zMi_of RX0 (by decide) rfl (Nat.le_of_ble_eq_true rfl) ?_
  intro p e s m below meth c A hx hb hr hml hown hts hlocks hA hK hP hD hS ls hl
  have hl : lv_has ls 5 [(0, .ref g.1), (1, .int p0)] := hl
  obtain ⟨hL, hD0, hF, hR, h50, h10, h200, hk, hrk⟩ := id hX
  have hkl := lj_ct_le len
  refine lv_aload_n hx hb dX0_affordable_0 rfl (lv_at hl 0 rfl) ?_
  refine lv_iload_n hx hb dX0_affordable_1 rfl (lv_at hl 1 rfl) ?_
  refine z_calli (wf := wX g) (n := 1) (As := [.int p0]) (rest := []) ⟨hx, hb, hml, hown, hts⟩ hK hP hD hS hA (metX_isPlace l dd g (nI k) L D F (nI k) R ad ac am len hL h50 p0) (lw_V q75 q77 qs2 q18 q78) (by decide +kernel) ⟨Nat.le_of_ble_eq_true rfl, Nat.le_of_ble_eq_true rfl⟩ (ci := 0) rfl rfl rfl rfl hl.1 rfl (Nat.le_of_ble_eq_true rfl) dX0_affordable_2 ⟨Nat.zero_le _, Nat.zero_le _⟩ (fun r2 u2 H locs hpo hP hD hS => ?_)
  obtain ⟨hpl, rfl⟩ := hpo
  refine lv_if_eq (tgt := 15) hx hb dX0_affordable_5 (by decide) (fun c5 => ?_) (fun c5 => ?_)
  · rw [hpl, lj_pI0] at c5
    refine lv_iconst (v := nI 0) hx hb dX0_affordable_15 (by decide) ?_
    exact z_zret (wf := wX g) (u := (nI k, L, D, F, nI k, R, ad, ac, am)) hx hb hr rfl hlocks hK hP hD hS dX0_affordable_16 (⟨(lj_f (fun h => by obtain ⟨j2, h1, h2, h3, -⟩ := h; exact c5 ⟨j2, h1, h2, h3⟩)).symm, ad, ac, am, rfl⟩)
  · rw [hpl, lj_pIn] at c5
    obtain ⟨j, hj, rfl, h0⟩ := c5
    refine lv_aload_n hx hb dX0_affordable_8 rfl (lv_at hl 0 rfl) ?_
    refine z_calli (wf := wX g) (n := 0) (As := []) (rest := []) ⟨hx, hb, hml, hown, hts⟩ hK hP hD hS hA (metX_admit l dd g (nI k) L D F R ad ac am len dl fm r k (lj_XR_A hX)) (lw_V q103 q105 qs5 q18 q106) (by decide +kernel) ⟨Nat.le_of_ble_eq_true rfl, Nat.le_of_ble_eq_true rfl⟩ (ci := 0) rfl rfl rfl rfl hl.1 rfl (Nat.le_of_ble_eq_true rfl) dX0_affordable_9 ⟨Nat.zero_le _, Nat.zero_le _⟩ (fun r9 u9 H locs hpo hP hD hS => ?_)
    obtain ⟨ad1, ac1, am1, rfl, hadm1⟩ := hpo
    refine lv_if_ne (tgt := 17) hx hb dX0_affordable_12 (by decide) (fun c12 => ?_) (fun c12 => ?_)
    · obtain ⟨cc, tt, e1, e2, hbst⟩ := lj_adm_f hadm1 c12
      have hcc := lj_best_le hbst
      refine lv_aload_n hx hb dX0_affordable_17 rfl (lv_at hl 0 rfl) ?_
      refine x_get (v := .int ac1) hx hb hts hown hK hP 7 (by decide) rfl q35 rfl dX0_affordable_18 ?_
      refine lv_istore_n (lv' := [(2, .int ac1), (0, .ref g.1), (1, .int (nI j))]) hx hb dX0_affordable_21 rfl hl (by decide) rfl (fun ls hl => ?_)
      refine lv_aload_n hx hb dX0_affordable_22 rfl (lv_at hl 1 rfl) ?_
      refine x_get (v := .ref g.2.2.2.1) hx hb hts hown hK hP 3 (by decide) rfl q31 rfl dX0_affordable_23 ?_
      refine lv_iload_n hx hb dX0_affordable_26 rfl (lv_at hl 2 rfl) ?_
      refine ya_zald (v := lj_pI (fm j = true)) hx hb hK hP 3 2 rfl rfl (by omega) (by decide) (hF j hj) dX0_affordable_27 ?_
      refine lv_istore_n (lv' := [(3, .int (lj_pI (fm j = true))), (2, .int ac1), (0, .ref g.1), (1, .int (nI j))]) hx hb dX0_affordable_28 rfl hl (by decide) rfl (fun ls hl => ?_)
      refine lv_aload_n hx hb dX0_affordable_29 rfl (lv_at hl 2 rfl) ?_
      refine x_get (v := .ref g.2.2.2.1) hx hb hts hown hK hP 3 (by decide) rfl q31 rfl dX0_affordable_30 ?_
      refine lv_iload_n hx hb dX0_affordable_33 rfl (lv_at hl 3 rfl) ?_
      refine lv_iconst (v := nI 1) hx hb dX0_affordable_34 (by decide) ?_
      refine ya_zast (ws' := wX g (nI k, L, D, upd F j (nI 1), nI k, R, ad1, ac1, am1)) hx hb hK hP hD hS 3 2 rfl rfl (by omega) (by decide) rfl rfl dX0_affordable_35 (fun H locs hP hD hS => ?_)
      refine lv_aload_n hx hb dX0_affordable_36 rfl (lv_at hl 2 rfl) ?_
      refine z_calli (wf := wX g) (n := 0) (As := []) (rest := []) ⟨hx, hb, hml, hown, hts⟩ hK hP hD hS hA (metX_admit l dd g (nI k) L D (upd F j (nI 1)) R ad1 ac1 am1 len dl (va_up fm j true) r k (lj_XA_firm (lj_XR_A hX))) (lw_V q103 q105 qs5 q18 q106) (by decide +kernel) ⟨Nat.le_of_ble_eq_true rfl, Nat.le_of_ble_eq_true rfl⟩ (ci := 0) rfl rfl rfl rfl hl.1 rfl (Nat.le_of_ble_eq_true rfl) dX0_affordable_37 ⟨Nat.zero_le _, Nat.zero_le _⟩ (fun r37 u37 H locs hpo hP hD hS => ?_)
      obtain ⟨ad2, ac2, am2, rfl, hadm2⟩ := hpo
      refine lv_if_eq (tgt := 55) hx hb dX0_affordable_40 (by decide) (fun c40 => ?_) (fun c40 => ?_)
      · have hno := lj_adm_t hadm2 c40
        refine lv_iconst (v := nI 0) hx hb dX0_affordable_55 (by decide) ?_
        refine lv_istore (lv' := [(4, .int (nI 0)), (3, .int (lj_pI (fm j = true))), (2, .int ac1), (0, .ref g.1), (1, .int (nI j))]) hx hb dX0_affordable_56 hl (by decide) rfl (fun ls hl => ?_)
        refine lv_aload_n hx hb dX0_affordable_58 rfl (lv_at hl 3 rfl) ?_
        refine x_get (v := .ref g.2.2.2.1) hx hb hts hown hK hP 3 (by decide) rfl q31 rfl dX0_affordable_59 ?_
        refine lv_iload_n hx hb dX0_affordable_62 rfl (lv_at hl 4 rfl) ?_
        refine lv_iload_n hx hb dX0_affordable_63 rfl (lv_at hl 1 rfl) ?_
        refine ya_zast (ws' := wX g (nI k, L, D, upd (upd F j (nI 1)) j (lj_pI (fm j = true)), nI k, R, ad2, ac2, am2)) hx hb hK hP hD hS 3 2 rfl rfl (by omega) (by decide) (lj_vz _) rfl dX0_affordable_64 (fun H locs hP hD hS => ?_)
        have hFb : upd (upd F j (nI 1)) j (lj_pI (fm j = true)) = F := by
          rw [← hF j hj]; exact lj_upd_back
        refine lv_iload hx hb dX0_affordable_65 (lv_at hl 0 rfl) ?_
        exact z_zret (wf := wX g) (u := (nI k, L, D, upd (upd F j (nI 1)) j (lj_pI (fm j = true)), nI k, R, ad2, ac2, am2)) hx hb hr rfl hlocks hK hP hD hS dX0_affordable_67 (⟨(lj_f (fun h => by obtain ⟨j2, h1, h2, h3, c3, t3, t4, h4, h5⟩ := h; rw [nI_eq (by omega) (by omega)] at h2; subst h2; rw [← lj_fs_up h0] at h5; exact lj_best_none h5 hno)).symm, ad2, ac2, am2, by rw [hFb]⟩)
      · obtain ⟨cc2, tt2, e3, e4, hbst2⟩ := lj_adm_f hadm2 c40
        have hcc2 := lj_best_le hbst2
        refine lv_aload_n hx hb dX0_affordable_43 rfl (lv_at hl 2 rfl) ?_
        refine x_get (v := .int ac2) hx hb hts hown hK hP 7 (by decide) rfl q35 rfl dX0_affordable_44 ?_
        refine lv_iload_n hx hb dX0_affordable_47 rfl (lv_at hl 1 rfl) ?_
        refine lv_icmp_ne (tgt := 55) hx hb dX0_affordable_48 (by decide) (fun c48 => ?_) (fun c48 => ?_)
        · rw [e1, e3, nI_eq (by omega) (by omega)] at c48
          refine lv_iconst (v := nI 0) hx hb dX0_affordable_55 (by decide) ?_
          refine lv_istore (lv' := [(4, .int (nI 0)), (3, .int (lj_pI (fm j = true))), (2, .int ac1), (0, .ref g.1), (1, .int (nI j))]) hx hb dX0_affordable_56 hl (by decide) rfl (fun ls hl => ?_)
          refine lv_aload_n hx hb dX0_affordable_58 rfl (lv_at hl 3 rfl) ?_
          refine x_get (v := .ref g.2.2.2.1) hx hb hts hown hK hP 3 (by decide) rfl q31 rfl dX0_affordable_59 ?_
          refine lv_iload_n hx hb dX0_affordable_62 rfl (lv_at hl 4 rfl) ?_
          refine lv_iload_n hx hb dX0_affordable_63 rfl (lv_at hl 1 rfl) ?_
          refine ya_zast (ws' := wX g (nI k, L, D, upd (upd F j (nI 1)) j (lj_pI (fm j = true)), nI k, R, ad2, ac2, am2)) hx hb hK hP hD hS 3 2 rfl rfl (by omega) (by decide) (lj_vz _) rfl dX0_affordable_64 (fun H locs hP hD hS => ?_)
          have hFb : upd (upd F j (nI 1)) j (lj_pI (fm j = true)) = F := by
            rw [← hF j hj]; exact lj_upd_back
          refine lv_iload hx hb dX0_affordable_65 (lv_at hl 0 rfl) ?_
          exact z_zret (wf := wX g) (u := (nI k, L, D, upd (upd F j (nI 1)) j (lj_pI (fm j = true)), nI k, R, ad2, ac2, am2)) hx hb hr rfl hlocks hK hP hD hS dX0_affordable_67 (⟨(lj_f (fun h => by obtain ⟨j2, h1, h2, h3, c3, t3, t4, h4, h5⟩ := h; rw [nI_eq (by omega) (by omega)] at h2; subst h2; rw [← lj_fs_up h0] at h5; exact c48 (by rw [(lj_best_uniq hbst h4).1, (lj_best_uniq hbst2 h5).1]))).symm, ad2, ac2, am2, by rw [hFb]⟩)
        · rw [e1, e3, nI_eq (by omega) (by omega)] at c48
          refine lv_iconst (v := nI 1) hx hb dX0_affordable_51 (by decide) ?_
          refine lv_goto (tgt := 56) hx hb dX0_affordable_52 (by decide) ?_
          refine lv_istore (lv' := [(4, .int (nI 1)), (3, .int (lj_pI (fm j = true))), (2, .int ac1), (0, .ref g.1), (1, .int (nI j))]) hx hb dX0_affordable_56 hl (by decide) rfl (fun ls hl => ?_)
          refine lv_aload_n hx hb dX0_affordable_58 rfl (lv_at hl 3 rfl) ?_
          refine x_get (v := .ref g.2.2.2.1) hx hb hts hown hK hP 3 (by decide) rfl q31 rfl dX0_affordable_59 ?_
          refine lv_iload_n hx hb dX0_affordable_62 rfl (lv_at hl 4 rfl) ?_
          refine lv_iload_n hx hb dX0_affordable_63 rfl (lv_at hl 1 rfl) ?_
          refine ya_zast (ws' := wX g (nI k, L, D, upd (upd F j (nI 1)) j (lj_pI (fm j = true)), nI k, R, ad2, ac2, am2)) hx hb hK hP hD hS 3 2 rfl rfl (by omega) (by decide) (lj_vz _) rfl dX0_affordable_64 (fun H locs hP hD hS => ?_)
          have hFb : upd (upd F j (nI 1)) j (lj_pI (fm j = true)) = F := by
            rw [← hF j hj]; exact lj_upd_back
          refine lv_iload hx hb dX0_affordable_65 (lv_at hl 0 rfl) ?_
          exact z_zret (wf := wX g) (u := (nI k, L, D, upd (upd F j (nI 1)) j (lj_pI (fm j = true)), nI k, R, ad2, ac2, am2)) hx hb hr rfl hlocks hK hP hD hS dX0_affordable_67 (⟨(lj_t ⟨j, hj, rfl, h0, cc, tt, tt2, hbst, by rw [← lj_fs_up h0, ← c48]; exact hbst2⟩).symm, ad2, ac2, am2, by rw [hFb]⟩)
    · have hno := lj_adm_t hadm1 c12
      refine lv_iconst (v := nI 0) hx hb dX0_affordable_15 (by decide) ?_
      exact z_zret (wf := wX g) (u := (nI k, L, D, F, nI k, R, ad1, ac1, am1)) hx hb hr rfl hlocks hK hP hD hS dX0_affordable_16 (⟨(lj_f (fun h => by obtain ⟨j2, h1, h2, h3, c3, t3, t4, h4, -⟩ := h; exact lj_best_none h4 hno)).symm, ad1, ac1, am1, rfl⟩)

set_option maxHeartbeats 4000000 in
set_option maxRecDepth 100000 in
theorem metX_welcome (l : Launch) (dd : va_G) (g : XG) (L D F R : Nat → Int32) (ad ac am : Int32) (len dl : Nat → Nat) (fm : Nat → Bool) (r : Nat → Nat) (k : Nat) (hX : lj_XR len dl fm r k L D F R) (p0 p1 : Int32) : zMi l dd (tyX g) (wX g) g.1 yX0_welcome cX0_welcome 5 (some .boolean) 2 45 [.int p0, .int p1] (nI k, L, D, F, nI k, R, ad, ac, am) (fun rr v => rr = lj_pI (lj_pwel len dl (lj_fs len fm) p0 p1) ∧ lj_XV len dl fm r k v) := by
  refine zMi_of RX0 (by decide) rfl (Nat.le_of_ble_eq_true rfl) ?_
  intro p e s m below meth c A hx hb hr hml hown hts hlocks hA hK hP hD hS ls hl
  have hl : lv_has ls 5 [(0, .ref g.1), (1, .int p0), (2, .int p1)] := hl
  obtain ⟨hL, hD0, hF, hR, h50, h10, h200, hk, hrk⟩ := id hX
  have hkl := lj_ct_le len
  refine lv_aload_n hx hb dX0_welcome_0 rfl (lv_at hl 0 rfl) ?_
  refine lv_iload_n hx hb dX0_welcome_1 rfl (lv_at hl 1 rfl) ?_
  refine lv_iload_n hx hb dX0_welcome_2 rfl (lv_at hl 2 rfl) ?_
  refine z_calli (wf := wX g) (n := 2) (As := [.int p0, .int p1]) (rest := []) ⟨hx, hb, hml, hown, hts⟩ hK hP hD hS hA (metX_isJob l dd g (nI k) L D F (nI k) R ad ac am p0 p1) (lw_V q63 q65 qs0 q18 q66) (by decide +kernel) ⟨Nat.le_of_ble_eq_true rfl, Nat.le_of_ble_eq_true rfl⟩ (ci := 0) rfl rfl rfl rfl hl.1 rfl (Nat.le_of_ble_eq_true rfl) dX0_welcome_3 ⟨Nat.zero_le _, Nat.zero_le _⟩ (fun r3 u3 H locs hpo hP hD hS => ?_)
  obtain ⟨hjb, rfl⟩ := hpo
  refine lv_if_eq (tgt := 16) hx hb dX0_welcome_6 (by decide) (fun c6 => ?_) (fun c6 => ?_)
  · rw [hjb, lj_pI0] at c6
    refine lv_iconst (v := nI 0) hx hb dX0_welcome_16 (by decide) ?_
    exact z_zret (wf := wX g) (u := (nI k, L, D, F, nI k, R, ad, ac, am)) hx hb hr rfl hlocks hK hP hD hS dX0_welcome_17 (⟨(lj_f (lj_wel_j c6)).symm, ⟨L, D, F, R, ad, ac, am, rfl, hX⟩⟩)
  · rw [hjb, lj_pIn] at c6
    obtain ⟨x, y, hx1, hx2, hy, rfl, rfl⟩ := lj_job_of c6
    refine lv_aload_n hx hb dX0_welcome_9 rfl (lv_at hl 0 rfl) ?_
    refine z_calli (wf := wX g) (n := 0) (As := []) (rest := []) ⟨hx, hb, hml, hown, hts⟩ hK hP hD hS hA (metX_admit l dd g (nI k) L D F R ad ac am len dl fm r k (lj_XR_A hX)) (lw_V q103 q105 qs5 q18 q106) (by decide +kernel) ⟨Nat.le_of_ble_eq_true rfl, Nat.le_of_ble_eq_true rfl⟩ (ci := 0) rfl rfl rfl rfl hl.1 rfl (Nat.le_of_ble_eq_true rfl) dX0_welcome_10 ⟨Nat.zero_le _, Nat.zero_le _⟩ (fun r10 u10 H locs hpo hP hD hS => ?_)
    obtain ⟨ad1, ac1, am1, rfl, hadm1⟩ := hpo
    refine lv_if_ne (tgt := 18) hx hb dX0_welcome_13 (by decide) (fun c13 => ?_) (fun c13 => ?_)
    · obtain ⟨cc, tt, e1, e2, hbst⟩ := lj_adm_f hadm1 c13
      have hcc := lj_best_le hbst
      have h100 := h10 10 (by omega)
      have hri : ∀ j, j < k → r j ≠ 10 := fun j hj e => by
        have := (hrk.1 j hj).2
        rw [e, h100] at this
        omega
      have hr10 : ∀ j, j < k → r j < 10 := fun j hj => by
        have := (hrk.1 j hj).1
        have := hri j hj
        omega
      refine lv_aload_n hx hb dX0_welcome_18 rfl (lv_at hl 0 rfl) ?_
      refine x_get (v := .int ac1) hx hb hts hown hK hP 7 (by decide) rfl q35 rfl dX0_welcome_19 ?_
      refine lv_istore_n (lv' := [(3, .int ac1), (0, .ref g.1), (1, .int (nI x)), (2, .int (nI y))]) hx hb dX0_welcome_22 rfl hl (by decide) rfl (fun ls hl => ?_)
      refine lv_aload_n hx hb dX0_welcome_23 rfl (lv_at hl 1 rfl) ?_
      refine x_get (v := .ref g.2.1) hx hb hts hown hK hP 1 (by decide) rfl q29 rfl dX0_welcome_24 ?_
      refine lv_bipush (v := nI 10) hx hb dX0_welcome_27 (by decide) ?_
      refine lv_iload_n hx hb dX0_welcome_29 rfl (lv_at hl 2 rfl) ?_
      refine lv_i2b (v := nI x) hx hb dX0_welcome_30 (lj_b8 _ (by omega)) ?_
      refine ya_bast (ws' := wX g (nI k, upd L 10 (nI x), D, F, nI k, R, ad1, ac1, am1)) hx hb hK hP hD hS 1 0 rfl rfl (by omega) (by decide) (lj_vb (by omega)) rfl dX0_welcome_31 (fun H locs hP hD hS => ?_)
      refine lv_aload_n hx hb dX0_welcome_32 rfl (lv_at hl 1 rfl) ?_
      refine x_get (v := .ref g.2.2.1) hx hb hts hown hK hP 2 (by decide) rfl q30 rfl dX0_welcome_33 ?_
      refine lv_bipush (v := nI 10) hx hb dX0_welcome_36 (by decide) ?_
      refine lv_iload_n hx hb dX0_welcome_38 rfl (lv_at hl 3 rfl) ?_
      refine lv_i2s (v := nI y) hx hb dX0_welcome_39 (lj_b16 _ (by omega)) ?_
      refine ya_sast (ws' := wX g (nI k, upd L 10 (nI x), upd D 10 (nI y), F, nI k, R, ad1, ac1, am1)) hx hb hK hP hD hS 2 1 rfl rfl (by omega) (by decide) (lj_vs (by omega)) rfl dX0_welcome_40 (fun H locs hP hD hS => ?_)
      refine lv_aload_n hx hb dX0_welcome_41 rfl (lv_at hl 1 rfl) ?_
      refine x_get (v := .ref g.2.2.2.1) hx hb hts hown hK hP 3 (by decide) rfl q31 rfl dX0_welcome_42 ?_
      refine lv_bipush (v := nI 10) hx hb dX0_welcome_45 (by decide) ?_
      refine lv_iconst (v := nI 0) hx hb dX0_welcome_47 (by decide) ?_
      refine ya_zast (ws' := wX g (nI k, upd L 10 (nI x), upd D 10 (nI y), upd F 10 (nI 0), nI k, R, ad1, ac1, am1)) hx hb hK hP hD hS 3 2 rfl rfl (by omega) (by decide) rfl rfl dX0_welcome_48 (fun H locs hP hD hS => ?_)
      refine lv_aload_n hx hb dX0_welcome_49 rfl (lv_at hl 1 rfl) ?_
      refine lv_bipush (v := nI 10) hx hb dX0_welcome_50 (by decide) ?_
      refine z_callv (wf := wX g) (n := 1) (As := [.int (nI 10)]) (rest := []) ⟨hx, hb, hml, hown, hts⟩ hK hP hD hS hA (metX_insert l dd g (nI k) (upd L 10 (nI x)) (upd D 10 (nI y)) (upd F 10 (nI 0)) R ad1 ac1 am1 10 k (by omega) (by omega) r (va_up dl 10 y) (fun j hj => (hrk.1 j hj).1) (fun j hj => by rw [lj_upd_n (hri j hj), va_up_ne _ _ (hri j hj)]; exact hD0 _ (hr10 j hj) (hrk.1 j hj).2) (by rw [lj_upd_s, va_up_self]) (fun j hj => by rw [va_up_ne _ _ (hri j hj)]; exact h200 _ (hrk.1 j hj).2) (by rw [va_up_self]; exact hy) hR) (lw_V q67 q69 qs1 q18 q70) (by decide +kernel) ⟨Nat.le_of_ble_eq_true rfl, Nat.le_of_ble_eq_true rfl⟩ (ci := 0) rfl rfl rfl rfl hl.1 rfl (Nat.le_of_ble_eq_true rfl) dX0_welcome_52 ⟨Nat.zero_le _, Nat.zero_le _⟩ (fun u52 H locs hpo hP hD hS => ?_)
      obtain ⟨q, R2, hq, hlo, hhi, hR2, rfl⟩ := hpo
      refine lv_aload_n hx hb dX0_welcome_55 rfl (lv_at hl 1 rfl) ?_
      refine z_calli (wf := wX g) (n := 0) (As := []) (rest := []) ⟨hx, hb, hml, hown, hts⟩ hK hP hD hS hA (metX_admit l dd g (nI k) (upd L 10 (nI x)) (upd D 10 (nI y)) (upd F 10 (nI 0)) R2 ad1 ac1 am1 (va_up len 10 x) (va_up dl 10 y) (va_up fm 10 false) (lj_insr r q 10) (k + 1) (lj_XA_wel hX hx1 hx2 hy hq hlo hhi hR2)) (lw_V q103 q105 qs5 q18 q106) (by decide +kernel) ⟨Nat.le_of_ble_eq_true rfl, Nat.le_of_ble_eq_true rfl⟩ (ci := 0) rfl rfl rfl rfl hl.1 rfl (Nat.le_of_ble_eq_true rfl) dX0_welcome_56 ⟨Nat.zero_le _, Nat.zero_le _⟩ (fun r56 u56 H locs hpo hP hD hS => ?_)
      obtain ⟨ad2, ac2, am2, rfl, hadm2⟩ := hpo
      refine lv_if_eq (tgt := 74) hx hb dX0_welcome_59 (by decide) (fun c59 => ?_) (fun c59 => ?_)
      · have hno := lj_adm_t hadm2 c59
        rw [lj_fs_10 h100] at hno
        refine lv_iconst (v := nI 0) hx hb dX0_welcome_74 (by decide) ?_
        refine lv_istore (lv' := [(4, .int (nI 0)), (3, .int ac1), (0, .ref g.1), (1, .int (nI x)), (2, .int (nI y))]) hx hb dX0_welcome_75 hl (by decide) rfl (fun ls hl => ?_)
        refine lv_aload_n hx hb dX0_welcome_77 rfl (lv_at hl 2 rfl) ?_
        refine lv_bipush (v := nI 10) hx hb dX0_welcome_78 (by decide) ?_
        refine z_callv (wf := wX g) (n := 1) (As := [.int (nI 10)]) (rest := []) ⟨hx, hb, hml, hown, hts⟩ hK hP hD hS hA (metX_withdraw l dd g (nI k) (upd L 10 (nI x)) (upd D 10 (nI y)) (upd F 10 (nI 0)) R2 ad2 ac2 am2 10 (k + 1) q (by omega) (by omega) (lj_insr r q 10) hR2 (fun j hj => by have hXw := lj_XA_wel hX hx1 hx2 hy hq hlo hhi hR2; exact (hXw.2.2.2.2.2.1 j hj).1) lj_insr_eq (fun j hj => by rw [lj_insr_lt hj]; exact hri j (by omega))) (lw_V q79 q81 qs3 q18 q82) (by decide +kernel) ⟨Nat.le_of_ble_eq_true rfl, Nat.le_of_ble_eq_true rfl⟩ (ci := 0) rfl rfl rfl rfl hl.1 rfl (Nat.le_of_ble_eq_true rfl) dX0_welcome_80 ⟨Nat.zero_le _, Nat.zero_le _⟩ (fun u80 H locs hpo hP hD hS => ?_)
        obtain ⟨R3, hR3, rfl⟩ := hpo
        refine lv_iload hx hb dX0_welcome_83 (lv_at hl 0 rfl) ?_
        exact z_zret (wf := wX g) (u := (nI k, upd L 10 (nI x), upd D 10 (nI y), upd F 10 (nI 0), nI (k + 1 - 1), R3, ad2, ac2, am2)) hx hb hr rfl hlocks hK hP hD hS dX0_welcome_85 (⟨(lj_f (lj_wel_n hx2 hy hno)).symm, ⟨_, _, _, R3, ad2, ac2, am2, rfl, lj_XR_wel hX hR3⟩⟩)
      · obtain ⟨cc2, tt2, e3, e4, hbst2⟩ := lj_adm_f hadm2 c59
        have hcc2 := lj_best_le hbst2
        rw [lj_fs_10 h100] at hbst2
        refine lv_aload_n hx hb dX0_welcome_62 rfl (lv_at hl 1 rfl) ?_
        refine x_get (v := .int ac2) hx hb hts hown hK hP 7 (by decide) rfl q35 rfl dX0_welcome_63 ?_
        refine lv_iload_n hx hb dX0_welcome_66 rfl (lv_at hl 0 rfl) ?_
        refine lv_icmp_le (tgt := 74) hx hb dX0_welcome_67 (by decide) (fun c67 => ?_) (fun c67 => ?_)
        · rw [e1, e3, nI_leI (by omega) (by omega)] at c67
          refine lv_iconst (v := nI 0) hx hb dX0_welcome_74 (by decide) ?_
          refine lv_istore (lv' := [(4, .int (nI 0)), (3, .int ac1), (0, .ref g.1), (1, .int (nI x)), (2, .int (nI y))]) hx hb dX0_welcome_75 hl (by decide) rfl (fun ls hl => ?_)
          refine lv_aload_n hx hb dX0_welcome_77 rfl (lv_at hl 2 rfl) ?_
          refine lv_bipush (v := nI 10) hx hb dX0_welcome_78 (by decide) ?_
          refine z_callv (wf := wX g) (n := 1) (As := [.int (nI 10)]) (rest := []) ⟨hx, hb, hml, hown, hts⟩ hK hP hD hS hA (metX_withdraw l dd g (nI k) (upd L 10 (nI x)) (upd D 10 (nI y)) (upd F 10 (nI 0)) R2 ad2 ac2 am2 10 (k + 1) q (by omega) (by omega) (lj_insr r q 10) hR2 (fun j hj => by have hXw := lj_XA_wel hX hx1 hx2 hy hq hlo hhi hR2; exact (hXw.2.2.2.2.2.1 j hj).1) lj_insr_eq (fun j hj => by rw [lj_insr_lt hj]; exact hri j (by omega))) (lw_V q79 q81 qs3 q18 q82) (by decide +kernel) ⟨Nat.le_of_ble_eq_true rfl, Nat.le_of_ble_eq_true rfl⟩ (ci := 0) rfl rfl rfl rfl hl.1 rfl (Nat.le_of_ble_eq_true rfl) dX0_welcome_80 ⟨Nat.zero_le _, Nat.zero_le _⟩ (fun u80 H locs hpo hP hD hS => ?_)
          obtain ⟨R3, hR3, rfl⟩ := hpo
          refine lv_iload hx hb dX0_welcome_83 (lv_at hl 0 rfl) ?_
          exact z_zret (wf := wX g) (u := (nI k, upd L 10 (nI x), upd D 10 (nI y), upd F 10 (nI 0), nI (k + 1 - 1), R3, ad2, ac2, am2)) hx hb hr rfl hlocks hK hP hD hS dX0_welcome_85 (⟨(lj_f (lj_wel_f hx2 hy hbst hbst2 c67)).symm, ⟨_, _, _, R3, ad2, ac2, am2, rfl, lj_XR_wel hX hR3⟩⟩)
        · rw [e1, e3, nI_leI (by omega) (by omega)] at c67
          refine lv_iconst (v := nI 1) hx hb dX0_welcome_70 (by decide) ?_
          refine lv_goto (tgt := 75) hx hb dX0_welcome_71 (by decide) ?_
          refine lv_istore (lv' := [(4, .int (nI 1)), (3, .int ac1), (0, .ref g.1), (1, .int (nI x)), (2, .int (nI y))]) hx hb dX0_welcome_75 hl (by decide) rfl (fun ls hl => ?_)
          refine lv_aload_n hx hb dX0_welcome_77 rfl (lv_at hl 2 rfl) ?_
          refine lv_bipush (v := nI 10) hx hb dX0_welcome_78 (by decide) ?_
          refine z_callv (wf := wX g) (n := 1) (As := [.int (nI 10)]) (rest := []) ⟨hx, hb, hml, hown, hts⟩ hK hP hD hS hA (metX_withdraw l dd g (nI k) (upd L 10 (nI x)) (upd D 10 (nI y)) (upd F 10 (nI 0)) R2 ad2 ac2 am2 10 (k + 1) q (by omega) (by omega) (lj_insr r q 10) hR2 (fun j hj => by have hXw := lj_XA_wel hX hx1 hx2 hy hq hlo hhi hR2; exact (hXw.2.2.2.2.2.1 j hj).1) lj_insr_eq (fun j hj => by rw [lj_insr_lt hj]; exact hri j (by omega))) (lw_V q79 q81 qs3 q18 q82) (by decide +kernel) ⟨Nat.le_of_ble_eq_true rfl, Nat.le_of_ble_eq_true rfl⟩ (ci := 0) rfl rfl rfl rfl hl.1 rfl (Nat.le_of_ble_eq_true rfl) dX0_welcome_80 ⟨Nat.zero_le _, Nat.zero_le _⟩ (fun u80 H locs hpo hP hD hS => ?_)
          obtain ⟨R3, hR3, rfl⟩ := hpo
          refine lv_iload hx hb dX0_welcome_83 (lv_at hl 0 rfl) ?_
          exact z_zret (wf := wX g) (u := (nI k, upd L 10 (nI x), upd D 10 (nI y), upd F 10 (nI 0), nI (k + 1 - 1), R3, ad2, ac2, am2)) hx hb hr rfl hlocks hK hP hD hS dX0_welcome_85 (⟨(lj_t (lj_wel_t hx1 hx2 hy rfl rfl hbst hbst2 (by omega))).symm, ⟨_, _, _, R3, ad2, ac2, am2, rfl, lj_XR_wel hX hR3⟩⟩)
    · have hno := lj_adm_t hadm1 c13
      refine lv_iconst (v := nI 0) hx hb dX0_welcome_16 (by decide) ?_
      exact z_zret (wf := wX g) (u := (nI k, L, D, F, nI k, R, ad1, ac1, am1)) hx hb hr rfl hlocks hK hP hD hS dX0_welcome_17 (⟨(lj_f (lj_wel_0 hno)).symm, ⟨L, D, F, R, ad1, ac1, am1, rfl, hX⟩⟩)

set_option maxHeartbeats 4000000 in
set_option maxRecDepth 100000 in
theorem lpX_elapse {p : Program} {l : Launch} {e : Env} {Rm : Room} {s : State} {m : MethodId} {args : Array Value} {below : List Frame} {meth : Method} {c : Code} {Q : State → Prop} {dd : va_G} {A : Nat → Prop} {F : Nat → Int32} {ad ac am : Int32} {g : XG} (hx : p.tables.exec = Jvm.exec) (hb : c.code = cX0_elapse) (hts : ∀ w ∈ lw_all, w.before args s = true) (hown : s.vm.findClass RX0 = some m.cls) (hml : c.maxLocals = 3) (hRf : 2 ≤ Rm.frames) (hRl : 43 ≤ Rm.locals) (hA : ∀ q : Nat, s.heap.size ≤ q → A q) (hK : va_K dd vwCl (tyX g) s) (len dl : Nat → Nat) (t : Nat) (ht : t ≤ 200) (h50 : ∀ i, len i ≤ 50) (h200 : ∀ i, 0 < len i → dl i ≤ 200)
    (kx : ∀ (lc rc : Nat → Nat) (kc : Nat) (L D R : Nat → Int32) (H : Heap) (locs : List Loc) (ls : Array Slot), lj_XE len dl t 10 lc rc kc L D R → va_P dd vwCl (wX g (nI kc, L, D, F, nI kc, R, ad, ac, am)) H → va_D A (wX g (nI kc, L, D, F, nI kc, R, ad, ac, am)) → va_S A s.heap H locs → lv_has ls 3 [(0, .ref g.1)] → W p l e Rm s m args below meth c H locs 0 0 Q (F0 m 65 ls [])) :
    ∀ (n : Nat) (i : Nat) (lc rc : Nat → Nat) (kc : Nat) (L D R : Nat → Int32) (H : Heap) (locs : List Loc) (ls : Array Slot), 10 - i < n → i ≤ 10 → lj_XE len dl t i lc rc kc L D R → va_P dd vwCl (wX g (nI kc, L, D, F, nI kc, R, ad, ac, am)) H → va_D A (wX g (nI kc, L, D, F, nI kc, R, ad, ac, am)) → va_S A s.heap H locs →  lv_has ls 3 [(0, .ref g.1), (1, .int (nI t)), (2, .int (nI i))] → W p l e Rm s m args below meth c H locs 0 0 Q (F0 m 15 ls []) := by
  intro n
  induction n with
  | zero =>
    intro i lc rc kc L D R H locs ls hn
    exact absurd hn (Nat.not_lt_zero _)
  | succ n ih =>
    intro i lc rc kc L D R H locs ls hn hi hE hP hD hS hl
    refine lv_iload_n hx hb dX0_elapse_15 rfl (lv_at hl 2 rfl) ?_
    refine lv_bipush (v := nI 10) hx hb dX0_elapse_16 (by decide) ?_
    refine lv_icmp_ge (tgt := 65) hx hb dX0_elapse_18 (by decide) (fun c18 => ?_) (fun c18 => ?_)
    · rw [nI_leI (by omega) (by omega)] at c18
      exact kx lc rc kc L D R H locs ls (by rw [show 10 = i by omega]; exact hE) hP hD hS (lv_sub hl [0] rfl)
    · rw [nI_leI (by omega) (by omega)] at c18
      obtain ⟨hli, hkc⟩ := lj_XE_at hE
      obtain ⟨hE1, hE2, hE3, hE4, hE5, hE6⟩ := id hE
      have h5i := h50 i
      have hc50 : ∀ x, lc x ≤ 50 := fun x => by
        rw [hE1 x]
        by_cases z : x < i ∧ dl x < t
        · rw [if_pos z]; omega
        · rw [if_neg z]; exact h50 x
      refine lv_aload_n hx hb dX0_elapse_21 rfl (lv_at hl 0 rfl) ?_
      refine x_get (v := .ref g.2.1) hx hb hts hown hK hP 1 (by decide) rfl q29 rfl dX0_elapse_22 ?_
      refine lv_iload_n hx hb dX0_elapse_25 rfl (lv_at hl 2 rfl) ?_
      refine ya_bald (v := nI (lc i)) hx hb hK hP 1 0 rfl rfl (by omega) (by decide) (hE2 i (by omega)) dX0_elapse_26 ?_
      refine lv_if_ne (tgt := 33) hx hb dX0_elapse_27 (by decide) (fun c27 => ?_) (fun c27 => ?_)
      · rw [← nI_0, nI_eq (by have := hc50 i; omega) (by decide)] at c27
        have h0 : 0 < lc i := by omega
        have h2i := h200 i (by omega)
        refine lv_aload_n hx hb dX0_elapse_33 rfl (lv_at hl 0 rfl) ?_
        refine x_get (v := .ref g.2.2.1) hx hb hts hown hK hP 2 (by decide) rfl q30 rfl dX0_elapse_34 ?_
        refine lv_iload_n hx hb dX0_elapse_37 rfl (lv_at hl 2 rfl) ?_
        refine lv_dup2_11 hx hb dX0_elapse_38 rfl rfl ?_
        refine ya_sald (v := nI (dl i)) hx hb hK hP 2 1 rfl rfl (by omega) (by decide) ((hE3 i (by omega) h0).trans (by rw [if_neg (Nat.lt_irrefl i)])) dX0_elapse_39 ?_
        refine lv_iload_n hx hb dX0_elapse_40 rfl (lv_at hl 1 rfl) ?_
        refine lv_isub hx hb dX0_elapse_41 ?_
        refine lv_i2s (v := nI (dl i) - nI t) hx hb dX0_elapse_42 (lj_i2s h2i ht) ?_
        refine ya_sast (ws' := wX g (nI kc, L, upd D i ((nI (dl i)) - (nI t)), F, nI kc, R, ad, ac, am)) hx hb hK hP hD hS 2 1 rfl rfl (by omega) (by decide) (lj_vsub h2i ht) rfl dX0_elapse_43 (fun H locs hP hD hS => ?_)
        refine lv_aload_n hx hb dX0_elapse_44 rfl (lv_at hl 0 rfl) ?_
        refine x_get (v := .ref g.2.2.1) hx hb hts hown hK hP 2 (by decide) rfl q30 rfl dX0_elapse_45 ?_
        refine lv_iload_n hx hb dX0_elapse_48 rfl (lv_at hl 2 rfl) ?_
        refine ya_sald (v := nI (dl i) - nI t) hx hb hK hP 2 1 rfl rfl (by omega) (by decide) lj_upd_s dX0_elapse_49 ?_
        refine lv_if_ge (tgt := 59) hx hb dX0_elapse_50 (by decide) (fun c50 => ?_) (fun c50 => ?_)
        · rw [lj_ge0 h2i ht] at c50
          refine lv_iinc (v := nI (i + 1)) (lv' := [(2, .int (nI (i + 1))), (0, .ref g.1), (1, .int (nI t))]) hx hb dX0_elapse_59 hl (k := 2) rfl (lj_inc1 _) (by decide) rfl (fun ls hl => ?_)
          refine lv_goto (tgt := 15) hx hb dX0_elapse_62 (by decide) ?_
          exact ih (i + 1) lc rc kc L _ R H locs ls (by omega) (by omega) (lj_XE_keep hE c50) hP hD hS (lv_sub hl [1, 2, 0] rfl)
        · rw [lj_ge0 h2i ht] at c50
          refine lv_aload_n hx hb dX0_elapse_53 rfl (lv_at hl 0 rfl) ?_
          refine lv_iload_n hx hb dX0_elapse_54 rfl (lv_at hl 2 rfl) ?_
          refine z_calli (wf := wX g) (n := 1) (As := [.int (nI i)]) (rest := []) ⟨hx, hb, hml, hown, hts⟩ hK hP hD hS hA (metX_drop l dd g L (upd D i (nI (dl i) - nI t)) F R ad ac am lc dl rc kc hE2 hc50 hkc hE4 hE6 (nI i)) (lw_V q127 q72 q73 q18 q74) (by decide +kernel) ⟨hRf, hRl⟩ (ci := 0) rfl rfl rfl rfl hl.1 rfl (Nat.le_of_ble_eq_true rfl) dX0_elapse_55 ⟨Nat.zero_le _, Nat.zero_le _⟩ (fun r55 u55 H locs hpo hP hD hS => ?_)
          rcases hpo with ⟨j, q, R2, hj, ej, hj0, hq, hrq, hR2, hrr, rfl⟩ | ⟨hnp, -, -⟩
          · rw [nI_eq (by omega) (by omega)] at ej
            subst ej
            refine lv_pop hx hb dX0_elapse_58 rfl ?_
            refine lv_iinc (v := nI (i + 1)) (lv' := [(2, .int (nI (i + 1))), (0, .ref g.1), (1, .int (nI t))]) hx hb dX0_elapse_59 hl (k := 2) rfl (lj_inc1 _) (by decide) rfl (fun ls hl => ?_)
            refine lv_goto (tgt := 15) hx hb dX0_elapse_62 (by decide) ?_
            exact ih (i + 1) (va_up lc i 0) (lj_outr rc q) (kc - 1) _ _ R2 H locs ls (by omega) (by omega) (lj_XE_drop hE (by omega) h0 (by omega) hq hrq hR2) hP hD hS (lv_sub hl [1, 2, 0] rfl)
          · exact absurd ⟨i, by omega, rfl, h0⟩ hnp
      · rw [← nI_0, nI_eq (by have := hc50 i; omega) (by decide)] at c27
        refine lv_goto (tgt := 59) hx hb dX0_elapse_30 (by decide) ?_
        refine lv_iinc (v := nI (i + 1)) (lv' := [(2, .int (nI (i + 1))), (0, .ref g.1), (1, .int (nI t))]) hx hb dX0_elapse_59 hl (k := 2) rfl (lj_inc1 _) (by decide) rfl (fun ls hl => ?_)
        refine lv_goto (tgt := 15) hx hb dX0_elapse_62 (by decide) ?_
        exact ih (i + 1) lc rc kc L D R H locs ls (by omega) (by omega) (lj_XE_skip hE c27) hP hD hS (lv_sub hl [1, 2, 0] rfl)

set_option maxHeartbeats 4000000 in
set_option maxRecDepth 100000 in
theorem metX_elapse (l : Launch) (dd : va_G) (g : XG) (L D F R : Nat → Int32) (ad ac am : Int32) (len dl : Nat → Nat) (fm : Nat → Bool) (r : Nat → Nat) (k : Nat) (hX : lj_XR len dl fm r k L D F R) (p0 : Int32) : zMi l dd (tyX g) (wX g) g.1 yX0_elapse cX0_elapse 3 (some .int) 2 43 [.int p0] (nI k, L, D, F, nI k, R, ad, ac, am) (fun rr v => ∃ (len2 dl2 r2 : Nat → Nat) (k2 : Nat), lj_pel len dl p0 rr len2 dl2 ∧ lj_XV len2 dl2 fm r2 k2 v) := by
  refine zMi_of RX0 (by decide) rfl (Nat.le_of_ble_eq_true rfl) ?_
  intro p e s m below meth c A hx hb hr hml hown hts hlocks hA hK hP hD hS ls hl
  have hl : lv_has ls 3 [(0, .ref g.1), (1, .int p0)] := hl
  obtain ⟨hL, hD0, hF, hR, h50, h10, h200, hk, hrk⟩ := id hX
  have hkl := lj_ct_le len
  refine lv_iload_n hx hb dX0_elapse_0 rfl (lv_at hl 1 rfl) ?_
  refine lv_if_lt (tgt := 11) hx hb dX0_elapse_1 (by decide) (fun c1 => ?_) (fun c1 => ?_)
  · refine lv_iconst (v := (-1)) hx hb dX0_elapse_11 (by decide) ?_
    exact z_iret (wf := wX g) (u := (nI k, L, D, F, nI k, R, ad, ac, am)) hx hb hr hlocks hK hP hD hS dX0_elapse_12 (⟨len, dl, r, k, Or.inr ⟨fun h => by obtain ⟨t2, h2, e2⟩ := h; exact absurd c1 (by rw [e2]; exact nI_pos (by omega)), rfl, rfl, rfl⟩, L, D, F, R, ad, ac, am, rfl, hX⟩)
  · refine lv_iload_n hx hb dX0_elapse_4 rfl (lv_at hl 1 rfl) ?_
    refine lv_sipush (v := nI 200) hx hb dX0_elapse_5 (by decide) ?_
    refine lv_icmp_le (tgt := 13) hx hb dX0_elapse_8 (by decide) (fun c8 => ?_) (fun c8 => ?_)
    · obtain ⟨t, ht0, rfl⟩ := nI_of c1
      rw [nI_leI ht0 (by decide)] at c8
      refine lv_iconst (v := nI 0) hx hb dX0_elapse_13 (by decide) ?_
      refine lv_istore_n (lv' := [(2, .int (nI 0)), (0, .ref g.1), (1, .int (nI t))]) hx hb dX0_elapse_14 rfl hl (by decide) rfl (fun ls hl => ?_)
      refine lpX_elapse (F := F) (ad := ad) (ac := ac) (am := am) hx hb hts hown hml (Nat.le_of_ble_eq_true rfl) (Nat.le_of_ble_eq_true rfl) hA hK len dl t c8 h50 h200 (fun lc rc kc L2 D2 R2 H locs ls hE hP hD hS hl => ?_) 11 0 len r k L D R s.heap [] ls (by omega) (by omega) (lj_XE_0 hX) hP hD hS (lv_sub hl [1, 2, 0] rfl)
      obtain ⟨hlc, hX2⟩ := lj_XE_end hX hE
      refine lv_aload_n hx hb dX0_elapse_65 rfl (lv_at hl 0 rfl) ?_
      refine x_get (v := .int (nI kc)) hx hb hts hown hK hP 0 (by decide) rfl q28 rfl dX0_elapse_66 ?_
      exact z_iret (wf := wX g) (u := (nI kc, L2, D2, F, nI kc, R2, ad, ac, am)) hx hb hr hlocks hK hP hD hS dX0_elapse_69 (⟨lc, _, rc, kc, Or.inl ⟨t, c8, rfl, hlc, rfl, by rw [hE.2.2.2.2.1]⟩, L2, D2, F, R2, ad, ac, am, rfl, hX2⟩)
    · refine lv_iconst (v := (-1)) hx hb dX0_elapse_11 (by decide) ?_
      exact z_iret (wf := wX g) (u := (nI k, L, D, F, nI k, R, ad, ac, am)) hx hb hr hlocks hK hP hD hS dX0_elapse_12 (⟨len, dl, r, k, Or.inr ⟨fun h => by obtain ⟨t2, h2, e2⟩ := h; exact absurd (by rw [e2]; exact nI_le h2 (by decide)) c8, rfl, rfl, rfl⟩, L, D, F, R, ad, ac, am, rfl, hX⟩)
end
section
/-! PURE 6: what M's loops keep -/
section LJM
theorem lj_pI1 {P : Prop} : lj_pI P = nI 1 ↔ P := ⟨fun h => lj_pIn.mp (by rw [h]; decide), lj_t⟩
theorem lj_n3 {c : Nat} (h : c < 2 ^ 31) : ¬ nI c ≤ (-3) := by
  rw [Int32.le_iff_toInt_le, nI_toInt h]
  have : (-3 : Int32).toInt = -3 := by decide
  omega
theorem lj_ne3 {c : Nat} (h : c < 2 ^ 31) : ¬ nI c = (-3) := fun e => lj_n3 h (by rw [e]; exact Int32.le_refl _)
theorem lj_nlt_le {a b : Int32} (h : ¬ a ≤ b) : b < a := by
  rw [Int32.lt_iff_toInt_lt]
  rw [Int32.le_iff_toInt_le] at h
  omega
/-- put: the first empty place from n on -/
def lj_mf (len : Nat → Nat) (n : Nat) (a : Int32) : Prop := (a = (-1) ∧ ∀ j, n ≤ j → j < 10 → 0 < len j) ∨ ∃ z, n ≤ z ∧ z < 10 ∧ a = nI z ∧ len z = 0 ∧ ∀ j, n ≤ j → j < z → 0 < len j
theorem lj_mf_0 {len : Nat → Nat} : lj_mf len 10 (-1) := Or.inl ⟨rfl, fun j h1 h2 => by omega⟩
theorem lj_mf_hit {len : Nat → Nat} {i : Nat} (hi : i < 10) (h0 : len i = 0) : lj_mf len i (nI i) := Or.inr ⟨i, Nat.le_refl _, hi, rfl, h0, fun j h1 h2 => by omega⟩
theorem lj_mf_skip {len : Nat → Nat} {i : Nat} {a : Int32} (h : lj_mf len (i + 1) a) (h0 : 0 < len i) : lj_mf len i a := by
  rcases h with ⟨e, h⟩ | ⟨z, z1, z2, z3, z4, z5⟩
  · refine Or.inl ⟨e, fun j h1 h2 => ?_⟩
    by_cases q : j = i
    · rw [q]; exact h0
    · exact h j (by omega) h2
  · refine Or.inr ⟨z, by omega, z2, z3, z4, fun j h1 h2 => ?_⟩
    by_cases q : j = i
    · rw [q]; exact h0
    · exact z5 j (by omega) h2
theorem lj_mf_neg {len : Nat → Nat} {a : Int32} (h : lj_mf len 0 a) (hn : ¬ 0 ≤ a) : 10 ≤ lj_ct len := by
  rcases h with ⟨e, h⟩ | ⟨z, z1, z2, z3, -⟩
  · rw [lj_ct_all (fun i hi => h i (by omega) hi)]; omega
  · rw [z3] at hn; exact absurd (nI_pos' (by omega)) hn
theorem lj_mf_pos {len : Nat → Nat} {a : Int32} (h : lj_mf len 0 a) (hn : 0 ≤ a) : ∃ z, z < 10 ∧ a = nI z ∧ len z = 0 ∧ (∀ j, j < z → 0 < len j) ∧ lj_ct len < 10 := by
  rcases h with ⟨e, h⟩ | ⟨z, z1, z2, z3, z4, z5⟩
  · rw [e] at hn; exact absurd hn (by decide)
  · refine ⟨z, z2, z3, z4, fun j hj => z5 j (by omega) hj, ?_⟩
    rcases Nat.lt_or_ge (lj_ct len) 10 with q | q
    · exact q
    · have := lj_ct_full q z z2; omega
theorem lj_pr_f {n : Nat} (hn : n ≤ 10) (h : ¬ nI n - nI 1 < 0) : ∃ i, n = i + 1 ∧ nI n - nI 1 = nI i := by
  rcases Nat.eq_zero_or_pos n with e | e
  · rw [e] at h; exact absurd (by decide) h
  · exact ⟨n - 1, by omega, lj_sub (by omega)⟩
theorem lj_pr_t {n : Nat} (hn : n ≤ 10) (h : nI n - nI 1 < 0) : n = 0 := by
  rcases Nat.eq_zero_or_pos n with e | e
  · exact e
  · rw [lj_sub (by omega)] at h; exact absurd h (nI_pos (by omega))
theorem lj_decI (i : Nat) : nI i + Int32.ofInt (-1) = nI i - nI 1 := by
  rw [show Int32.ofInt (-1) = -nI 1 by decide]; grind
theorem lj_le0 {n : Nat} (h : n < 2 ^ 31) : nI n ≤ 0 ↔ n = 0 := by
  rw [← nI_0, nI_leI h (by decide)]; omega
theorem lj_MR_put {len dl : Nat → Nat} {fm : Nat → Bool} {L D F : Nat → Int32} {x y i : Nat} {b : Bool} (h : lj_MR len dl fm L D F) (hx : 1 ≤ x) (hx2 : x ≤ 50) (hy : y ≤ 200) (hi : i < 10) : lj_MR (va_up len i x) (va_up dl i y) (va_up fm i b) (upd L i (nI x)) (upd D i (nI y)) (upd F i (lj_pI (b = true))) := by
  obtain ⟨h1, h2, h3, h5, h6, h7⟩ := h
  refine ⟨?_, ?_, ?_, ?_, ?_, ?_⟩
  · intro j hj
    by_cases e : j = i
    · rw [e, lj_upd_s, va_up_self]
    · rw [lj_upd_n e, va_up_ne _ _ e]; exact h1 j hj
  · intro j hj hj0
    by_cases e : j = i
    · rw [e, lj_upd_s, va_up_self]
    · rw [va_up_ne _ _ e] at hj0
      rw [lj_upd_n e, va_up_ne _ _ e]; exact h2 j hj hj0
  · intro j hj
    by_cases e : j = i
    · rw [e, lj_upd_s, va_up_self]
    · rw [lj_upd_n e, va_up_ne _ _ e]; exact h3 j hj
  · intro j
    by_cases e : j = i
    · rw [e, va_up_self]; exact hx2
    · rw [va_up_ne _ _ e]; exact h5 j
  · intro j hj
    rw [va_up_ne _ _ (by omega)]; exact h6 j hj
  · intro j hj
    by_cases e : j = i
    · rw [e, va_up_self]; exact hy
    · rw [va_up_ne _ _ e] at hj ⊢; exact h7 j hj
theorem lj_MR_drop {len dl : Nat → Nat} {fm : Nat → Bool} {L D F : Nat → Int32} {j : Nat} (h : lj_MR len dl fm L D F) (hj : j < 10) : lj_MR (va_up len j 0) dl fm (upd L j (nI 0)) D F := by
  obtain ⟨h1, h2, h3, h5, h6, h7⟩ := h
  refine ⟨?_, ?_, h3, ?_, ?_, ?_⟩
  · intro i hi
    by_cases e : i = j
    · rw [e, lj_upd_s, va_up_self]
    · rw [lj_upd_n e, va_up_ne _ _ e]; exact h1 i hi
  · intro i hi hi0
    by_cases e : i = j
    · rw [e, va_up_self] at hi0; omega
    · rw [va_up_ne _ _ e] at hi0; exact h2 i hi hi0
  · intro i
    by_cases e : i = j
    · rw [e, va_up_self]; omega
    · rw [va_up_ne _ _ e]; exact h5 i
  · intro i hi
    rw [va_up_ne _ _ (by omega)]; exact h6 i hi
  · intro i hi
    by_cases e : i = j
    · rw [e, va_up_self] at hi; omega
    · rw [va_up_ne _ _ e] at hi; exact h7 i hi
theorem lj_MR_firm {len dl : Nat → Nat} {fm : Nat → Bool} {L D F : Nat → Int32} {j : Nat} {b : Bool} (h : lj_MR len dl fm L D F) : lj_MR len dl (va_up fm j b) L D (upd F j (lj_pI (b = true))) := by
  obtain ⟨h1, h2, h3, h5⟩ := h
  refine ⟨h1, h2, fun i hi => ?_, h5⟩
  by_cases e : i = j
  · rw [e, lj_upd_s, va_up_self]
  · rw [lj_upd_n e, va_up_ne _ _ e]; exact h3 i hi
theorem lj_m11 {m : Nat} (hm : m < 1024) (f : Nat → Nat) : lj_sm m.testBit f 11 = lj_sm m.testBit f 10 := by
  rw [lj_sm_succ _ _ 10, lj_bhi (n := 10) hm (Nat.le_refl _)]; rfl
/-- hasLast: i can be the last of the set -/
def lj_la (len dl : Nat → Nat) (S : Nat → Bool) (i : Nat) : Prop := S i = true ∧ 0 < len i ∧ lj_sm S len 11 ≤ dl i ∧ lj_fe len dl (va_up S i false)
theorem lj_la_t {len dl : Nat → Nat} {S : Nat → Bool} {i : Nat} (hi : i < 10) (h : lj_la len dl S i) : lj_fe len dl S := lj_fe_rec.mpr (Or.inr ⟨i, by omega, h⟩)
theorem lj_la_f {len dl : Nat → Nat} {m : Nat} (hm : m < 1024) (h0 : 0 < m) (h : ∀ i, i < 10 → ¬ lj_la len dl m.testBit i) : ¬ lj_fe len dl m.testBit := by
  intro q
  rcases lj_fe_rec.mp q with h1 | ⟨i, hi, a, b⟩
  · have : m = 0 := Nat.eq_of_testBit_eq (fun i => by
      rw [Nat.zero_testBit]
      rcases Nat.lt_or_ge i 11 with z | z
      · exact h1 i z
      · exact lj_bhi (n := 10) hm (by omega))
    omega
  · by_cases e : i = 10
    · rw [e, lj_bhi (n := 10) hm (Nat.le_refl _)] at a; cases a
    · exact h i (by omega) ⟨a, b⟩
theorem lj_la_bit {len dl : Nat → Nat} {m i : Nat} (hm : m < 1024) : lj_fe len dl (m &&& lj_cp (2 ^ i)).testBit ↔ lj_fe len dl (va_up m.testBit i false) := by
  rw [lj_bclr (by omega)]
/-- firmSet -/
def lj_fz (len : Nat → Nat) (fm : Nat → Bool) (i m : Nat) : Prop := m < 1024 ∧ ∀ j, m.testBit j = (decide (j < i) && lj_fs len fm j)
theorem lj_fz_0 {len : Nat → Nat} {fm : Nat → Bool} : lj_fz len fm 0 0 := ⟨by decide, fun j => by rw [Nat.zero_testBit]; simp⟩
theorem lj_fz_skip {len : Nat → Nat} {fm : Nat → Bool} {i m : Nat} (h : lj_fz len fm i m) (hn : lj_fs len fm i = false) : lj_fz len fm (i + 1) m := by
  refine ⟨h.1, fun j => ?_⟩
  rw [h.2 j]
  by_cases e : j = i
  · rw [e, hn]; simp
  · rw [decide_eq_decide.mpr (show j < i ↔ j < i + 1 by omega)]
theorem lj_fz_add {len : Nat → Nat} {fm : Nat → Bool} {i m : Nat} (h : lj_fz len fm i m) (hi : i < 10) (hy : lj_fs len fm i = true) : lj_fz len fm (i + 1) (m ||| 2 ^ i) := by
  refine ⟨lj_orlt (n := 10) h.1 hi, fun j => ?_⟩
  rw [lj_bor]
  by_cases e : j = i
  · rw [e, va_up_self, hy]; simp
  · rw [va_up_ne _ _ e, h.2 j, decide_eq_decide.mpr (show j < i ↔ j < i + 1 by omega)]
theorem lj_fz_end {len : Nat → Nat} {fm : Nat → Bool} {m : Nat} (h : lj_fz len fm 10 m) (h10 : ∀ i, 10 ≤ i → len i = 0) : m.testBit = lj_fs len fm := by
  funext j
  rw [h.2 j]
  rcases Nat.lt_or_ge j 10 with z | z
  · rw [decide_eq_true z, Bool.true_and]
  · unfold lj_fs; rw [h10 j z]; simp
theorem lj_fs_no {len : Nat → Nat} {fm : Nat → Bool} {i : Nat} (h : len i = 0 ∨ ¬ fm i = true) : lj_fs len fm i = false := by
  unfold lj_fs
  rcases h with h | h
  · rw [h]; simp
  · simp [h]
theorem lj_fs_yes {len : Nat → Nat} {fm : Nat → Bool} {i : Nat} (h : ¬ len i = 0) (h2 : fm i = true) : lj_fs len fm i = true := by
  rw [lj_fs_of (by omega)]; exact h2
/-- most: a set that counts -/
def lj_cn (len dl : Nat → Nat) (F : Nat → Bool) (x : Nat) : Prop := lj_fe len dl x.testBit ∧ ∀ i, i < 11 → F i = true → x.testBit i = true
theorem lj_sub2 {a b : Nat} (ha : a < 1024) : nI (a &&& lj_cp b) = 0 ↔ ∀ i, i < 11 → a.testBit i = true → b.testBit i = true := by
  rw [← lj_and, ← lj_not]; exact lj_subset (by omega)
theorem lj_minN {P : Nat → Prop} (h : ∃ n, P n) : ∃ n, P n ∧ ∀ m, P m → n ≤ m := by
  obtain ⟨n, hn⟩ := h
  induction n using Nat.strongRecOn with
  | ind n ih =>
    by_cases q : ∃ m, m < n ∧ P m
    · obtain ⟨m, h1, h2⟩ := q
      exact ih m h1 h2
    · refine ⟨n, hn, fun m hm => ?_⟩
      rcases Nat.lt_or_ge m n with z | z
      · exact absurd ⟨m, z, hm⟩ q
      · exact z
theorem lj_cn_of {len dl : Nat → Nat} {F B : Nat → Bool} (h10 : ∀ i, 10 ≤ i → len i = 0) (hB : lj_fe len dl B) (hF : ∀ i, i < 11 → F i = true → B i = true) : ∃ x, x < 1024 ∧ lj_cn len dl F x ∧ lj_sz x.testBit = lj_sz B ∧ lj_tm len x.testBit = lj_tm len B := by
  obtain ⟨m, h1, h2⟩ := lj_mask B 10
  have h3 : ∀ i, i < 11 → m.testBit i = B i := by
    intro i hi
    by_cases e : i = 10
    · rw [e, lj_bhi (n := 10) h1 (Nat.le_refl _)]
      cases hb : B 10
      · rfl
      · have := (hB 10 (by omega) hb).1
        rw [h10 10 (by omega)] at this
        omega
    · exact h2 i (by omega)
  refine ⟨m, h1, ⟨(lj_fe_congr h3).mpr hB, fun i hi q => by rw [h3 i hi]; exact hF i hi q⟩, lj_sm_congr h3 (fun _ _ _ => rfl), lj_sm_congr h3 (fun _ _ _ => rfl)⟩
def lj_mo (len dl : Nat → Nat) (F : Nat → Bool) (n : Nat) (b : Int32) : Prop := (b = (-3) ∧ ∀ x, x < n → ¬ lj_cn len dl F x) ∨ ∃ c, c ≤ 11 ∧ b = nI c ∧ (∃ x, x < n ∧ lj_cn len dl F x ∧ lj_sz x.testBit = c) ∧ ∀ x, x < n → lj_cn len dl F x → lj_sz x.testBit ≤ c
theorem lj_mo_0 {len dl : Nat → Nat} {F : Nat → Bool} : lj_mo len dl F 0 (-3) := Or.inl ⟨rfl, fun x hx => absurd hx (by omega)⟩
theorem lj_mo_skip {len dl : Nat → Nat} {F : Nat → Bool} {n : Nat} {b : Int32} (h : lj_mo len dl F n b) (hn : ¬ lj_cn len dl F n) : lj_mo len dl F (n + 1) b := by
  rcases h with ⟨e, h⟩ | ⟨c, c1, c2, ⟨x, x1, x2, x3⟩, c4⟩
  · refine Or.inl ⟨e, fun x hx => ?_⟩
    by_cases q : x = n
    · rw [q]; exact hn
    · exact h x (by omega)
  · refine Or.inr ⟨c, c1, c2, ⟨x, by omega, x2, x3⟩, fun x hx hc => ?_⟩
    by_cases q : x = n
    · rw [q] at hc; exact absurd hc hn
    · exact c4 x (by omega) hc
theorem lj_mo_keep {len dl : Nat → Nat} {F : Nat → Bool} {n : Nat} {b : Int32} (h : lj_mo len dl F n b) (hl : nI (lj_sz n.testBit) ≤ b) : lj_mo len dl F (n + 1) b := by
  have hs : lj_sz n.testBit ≤ 11 := lj_sm_le
  rcases h with ⟨e, h⟩ | ⟨c, c1, c2, ⟨x, x1, x2, x3⟩, c4⟩
  · rw [e] at hl; exact absurd hl (lj_n3 (by omega))
  · refine Or.inr ⟨c, c1, c2, ⟨x, by omega, x2, x3⟩, fun x hx hc => ?_⟩
    by_cases q : x = n
    · rw [c2, nI_leI (by omega) (by omega)] at hl
      rw [q]; exact hl
    · exact c4 x (by omega) hc
theorem lj_mo_new {len dl : Nat → Nat} {F : Nat → Bool} {n : Nat} {b : Int32} (h : lj_mo len dl F n b) (hc : lj_cn len dl F n) (hl : ¬ nI (lj_sz n.testBit) ≤ b) : lj_mo len dl F (n + 1) (nI (lj_sz n.testBit)) := by
  have hs : lj_sz n.testBit ≤ 11 := lj_sm_le
  refine Or.inr ⟨_, hs, rfl, ⟨n, by omega, hc, rfl⟩, fun x hx hc2 => ?_⟩
  by_cases q : x = n
  · rw [q]; exact Nat.le_refl _
  · rcases h with ⟨e, h⟩ | ⟨c, c1, c2, -, c4⟩
    · exact absurd hc2 (h x (by omega))
    · rw [c2, nI_leI (by omega) (by omega)] at hl
      have := c4 x (by omega) hc2
      omega
theorem lj_mo_end {len dl : Nat → Nat} {F : Nat → Bool} {b : Int32} (h10 : ∀ i, 10 ≤ i → len i = 0) (h : lj_mo len dl F 1024 b) : lj_pmost len dl F b := by
  rcases h with ⟨e, h⟩ | ⟨c, c1, c2, ⟨x, x1, x2, x3⟩, c4⟩
  · refine Or.inr ⟨fun B h1 h2 => ?_, e⟩
    obtain ⟨x, x1, x2, -⟩ := lj_cn_of h10 h1 h2
    exact h x x1 x2
  · obtain ⟨t, ⟨y, y1, y2, y3, y4⟩, ht⟩ := lj_minN (P := fun t => ∃ y, y < 1024 ∧ lj_cn len dl F y ∧ lj_sz y.testBit = c ∧ lj_tm len y.testBit = t) ⟨_, x, x1, x2, x3, rfl⟩
    refine Or.inl ⟨c, t, ⟨y.testBit, y2.1, y2.2, y3, y4, fun B h1 h2 => ?_⟩, c2⟩
    obtain ⟨z, z1, z2, z3, z4⟩ := lj_cn_of h10 h1 h2
    refine ⟨by rw [← z3]; exact c4 z z1 z2, fun e => ?_⟩
    exact ht _ ⟨z, z1, z2, z3.trans e, z4⟩
/-- leastTime -/
def lj_lt (len dl : Nat → Nat) (F : Nat → Bool) (cnt : Int32) (n : Nat) (b : Int32) : Prop := (b = (-3) ∧ ∀ x, x < n → lj_cn len dl F x → ¬ nI (lj_sz x.testBit) = cnt) ∨ ∃ t, t ≤ 550 ∧ b = nI t ∧ (∃ x, x < n ∧ lj_cn len dl F x ∧ nI (lj_sz x.testBit) = cnt ∧ lj_tm len x.testBit = t) ∧ ∀ x, x < n → lj_cn len dl F x → nI (lj_sz x.testBit) = cnt → t ≤ lj_tm len x.testBit
theorem lj_lt_0 {len dl : Nat → Nat} {F : Nat → Bool} {cnt : Int32} : lj_lt len dl F cnt 0 (-3) := Or.inl ⟨rfl, fun x hx => absurd hx (by omega)⟩
theorem lj_lt_skip {len dl : Nat → Nat} {F : Nat → Bool} {cnt : Int32} {n : Nat} {b : Int32} (h : lj_lt len dl F cnt n b) (hn : lj_cn len dl F n → ¬ nI (lj_sz n.testBit) = cnt) : lj_lt len dl F cnt (n + 1) b := by
  rcases h with ⟨e, h⟩ | ⟨c, c1, c2, ⟨x, x1, x2, x3⟩, c4⟩
  · refine Or.inl ⟨e, fun x hx => ?_⟩
    by_cases q : x = n
    · rw [q]; exact hn
    · exact h x (by omega)
  · refine Or.inr ⟨c, c1, c2, ⟨x, by omega, x2, x3⟩, fun x hx hc he => ?_⟩
    by_cases q : x = n
    · rw [q] at hc he; exact absurd he (hn hc)
    · exact c4 x (by omega) hc he
theorem lj_lt_keep {len dl : Nat → Nat} {F : Nat → Bool} {cnt : Int32} {n : Nat} {b : Int32} (h : lj_lt len dl F cnt n b) (h3 : ¬ b = (-3)) (ht : lj_tm len n.testBit ≤ 550) (hl : b ≤ nI (lj_tm len n.testBit)) : lj_lt len dl F cnt (n + 1) b := by
  rcases h with ⟨e, h⟩ | ⟨c, c1, c2, ⟨x, x1, x2, x3⟩, c4⟩
  · exact absurd e h3
  · refine Or.inr ⟨c, c1, c2, ⟨x, by omega, x2, x3⟩, fun x hx hc he => ?_⟩
    by_cases q : x = n
    · rw [c2, nI_leI (by omega) (by omega)] at hl
      rw [q]; exact hl
    · exact c4 x (by omega) hc he
theorem lj_lt_new {len dl : Nat → Nat} {F : Nat → Bool} {cnt : Int32} {n : Nat} {b : Int32} (h : lj_lt len dl F cnt n b) (hc : lj_cn len dl F n) (he : nI (lj_sz n.testBit) = cnt) (ht : lj_tm len n.testBit ≤ 550) (hl : b = (-3) ∨ ¬ b ≤ nI (lj_tm len n.testBit)) : lj_lt len dl F cnt (n + 1) (nI (lj_tm len n.testBit)) := by
  refine Or.inr ⟨_, ht, rfl, ⟨n, by omega, hc, he, rfl⟩, fun x hx hc2 he2 => ?_⟩
  by_cases q : x = n
  · rw [q]; exact Nat.le_refl _
  · rcases h with ⟨e, h⟩ | ⟨c, c1, c2, -, c4⟩
    · exact absurd he2 (h x (by omega) hc2)
    · rcases hl with hl | hl
      · rw [c2] at hl; exact absurd hl (lj_ne3 (by omega))
      · rw [c2, nI_leI (by omega) (by omega)] at hl
        have := c4 x (by omega) hc2 he2
        omega
theorem lj_lt_end {len dl : Nat → Nat} {F : Nat → Bool} {cnt b : Int32} (h10 : ∀ i, 10 ≤ i → len i = 0) (hp : lj_pmost len dl F cnt) (h : lj_lt len dl F cnt 1024 b) : lj_pleast len dl F b := by
  rcases hp with ⟨c, t, hb, e⟩ | ⟨hn, e⟩
  · have hc := lj_best_le hb
    obtain ⟨A, a1, a2, a3, a4, a5⟩ := id hb
    obtain ⟨x, x1, x2, x3, x4⟩ := lj_cn_of h10 a1 a2
    rcases h with ⟨e2, h⟩ | ⟨t2, c1, c2, ⟨y, y1, y2, y3, y4⟩, c4⟩
    · exact absurd (by rw [x3, a3, e]) (h x x1 x2)
    · have hy : lj_sz y.testBit ≤ 11 := lj_sm_le
      rw [e, nI_eq (by omega) (by omega)] at y3
      have q1 := (a5 y.testBit y2.1 y2.2).2 y3
      have q2 := c4 x x1 x2 (by rw [x3, a3, e])
      refine Or.inl ⟨c, t, hb, ?_⟩
      rw [c2]
      congr 1
      omega
  · rcases h with ⟨e2, h⟩ | ⟨t2, c1, c2, ⟨y, y1, y2, y3, y4⟩, c4⟩
    · exact Or.inr ⟨hn, e2⟩
    · exact absurd y2.2 (fun q => hn _ y2.1 q)
/-- affordable -/
theorem lj_aff_t {len dl : Nat → Nat} {F : Nat → Bool} {j : Nat} {a b : Int32} (hj : j < 10) (h0 : 0 < len j) (h1 : lj_pmost len dl F a) (h2 : lj_pmost len dl (va_up F j true) b) (hn : ¬ a = (-3)) (he : a = b) : lj_paff len dl F (nI j) := by
  rcases h1 with ⟨c, t, h1, e1⟩ | ⟨-, e1⟩
  · rcases h2 with ⟨c2, t2, h2, e2⟩ | ⟨-, e2⟩
    · have q1 := lj_best_le h1
      have q2 := lj_best_le h2
      rw [e1, e2, nI_eq (by omega) (by omega)] at he
      subst he
      exact ⟨j, hj, rfl, h0, c, t, t2, h1, h2⟩
    · exact absurd (he.trans e2) hn
  · exact absurd e1 hn
theorem lj_aff_f {len dl : Nat → Nat} {F : Nat → Bool} {j : Nat} {a b : Int32} (hj : j < 10) (h1 : lj_pmost len dl F a) (h2 : lj_pmost len dl (va_up F j true) b) (hn : a = (-3) ∨ ¬ a = b) : ¬ lj_paff len dl F (nI j) := by
  rintro ⟨i, hi, e, h0, c, t, t2, h3, h4⟩
  rw [nI_eq (by omega) (by omega)] at e
  subst e
  have e1 := lj_pmost_uniq h1 (Or.inl ⟨c, t, h3, rfl⟩)
  have e2 := lj_pmost_uniq h2 (Or.inl ⟨c, t2, h4, rfl⟩)
  have q1 := lj_best_le h3
  rcases hn with hn | hn
  · rw [e1] at hn; exact lj_ne3 (by omega) hn
  · exact hn (e1.trans e2.symm)
theorem lj_aff_up {len dl : Nat → Nat} {F : Nat → Bool} {m j : Nat} {b : Int32} (hm : m.testBit = F) (h : lj_pmost len dl (m ||| 2 ^ j).testBit b) : lj_pmost len dl (va_up F j true) b := by
  rw [lj_bor, hm] at h; exact h
theorem lj_aff_p {len dl : Nat → Nat} {F : Nat → Bool} {p0 : Int32} (h : ¬ lj_place len p0) : ¬ lj_paff len dl F p0 := by
  rintro ⟨j, h1, h2, h3, -⟩
  exact h ⟨j, h1, h2, h3⟩
end LJM
end
section
/-! PURE 7: welcome and elapse of M -/
section LJMW
/-- the set m and one further job (x long, due y) are feasible together -/
def lj_wl (len dl : Nat → Nat) (x y m : Nat) : Prop := lj_fe (va_up len 10 x) (va_up dl 10 y) (va_up m.testBit 10 true)
theorem lj_wl_sm {len : Nat → Nat} {x m : Nat} (hm : m < 1024) : lj_sm (va_up m.testBit 10 true) (va_up len 10 x) 11 = lj_sm m.testBit len 11 + x := by
  rw [lj_m11 hm, lj_sm_succ _ _ 10, va_up_self, va_up_self, if_pos rfl]
  exact congrArg (· + x) (lj_sm_congr (fun i hi => va_up_ne _ _ (by omega)) (fun i hi _ => va_up_ne _ _ (by omega)))
theorem lj_wl_fe {len dl : Nat → Nat} {x y m : Nat} (hm : m < 1024) : lj_fe (va_up len 10 x) (va_up dl 10 y) m.testBit ↔ lj_fe len dl m.testBit := by
  have hne : ∀ i, i < 11 → m.testBit i = true → i ≠ 10 := fun i hi q e => by
    rw [e, lj_bhi (n := 10) hm (Nat.le_refl _)] at q; cases q
  exact ⟨lj_fe_data (fun i hi q => va_up_ne _ _ (hne i hi q)) (fun i hi q => va_up_ne _ _ (hne i hi q)), lj_fe_data (fun i hi q => (va_up_ne _ _ (hne i hi q)).symm) (fun i hi q => (va_up_ne _ _ (hne i hi q)).symm)⟩
theorem lj_wl_bit {len dl : Nat → Nat} {x y m i : Nat} (hm : m < 1024) (hi : i < 10) : lj_wl len dl x y (m &&& lj_cp (2 ^ i)) ↔ lj_fe (va_up len 10 x) (va_up dl 10 y) (va_up (va_up m.testBit 10 true) i false) := by
  unfold lj_wl
  rw [lj_bclr (by omega)]
  refine lj_fe_congr (fun j hj => ?_)
  by_cases e1 : j = 10
  · subst e1
    rw [va_up_self, va_up_ne _ _ (by omega), va_up_self]
  · by_cases e2 : j = i
    · subst e2
      rw [va_up_ne _ _ e1, va_up_self, va_up_self]
    · rw [va_up_ne _ _ e1, va_up_ne _ _ e2, va_up_ne _ _ e2, va_up_ne _ _ e1]
theorem lj_wl_10 {m : Nat} (hm : m < 1024) : ∀ j, j < 11 → va_up (va_up m.testBit 10 true) 10 false j = m.testBit j := by
  intro j hj
  by_cases e : j = 10
  · rw [e, va_up_self, lj_bhi (n := 10) hm (Nat.le_refl _)]
  · rw [va_up_ne _ _ e, va_up_ne _ _ e]
theorem lj_wl_t1 {len dl : Nat → Nat} {x y m : Nat} (hm : m < 1024) (hx : 1 ≤ x) (hg : lj_fe len dl m.testBit) (he : lj_sm m.testBit len 11 + x ≤ y) : lj_wl len dl x y m := by
  refine lj_fe_rec.mpr (Or.inr ⟨10, by omega, va_up_self _ _ _, ?_, ?_, ?_⟩)
  · rw [va_up_self]; exact hx
  · rw [lj_wl_sm hm, va_up_self]; exact he
  · exact (lj_fe_congr (lj_wl_10 hm)).mpr ((lj_wl_fe hm).mpr hg)
/-- i can be the last of the set with the further job -/
def lj_lw (len dl : Nat → Nat) (x y m i : Nat) : Prop := m.testBit i = true ∧ 0 < len i ∧ lj_sm m.testBit len 11 + x ≤ dl i ∧ lj_wl len dl x y (m &&& lj_cp (2 ^ i))
theorem lj_wl_t2 {len dl : Nat → Nat} {x y m i : Nat} (hm : m < 1024) (hi : i < 10) (h : lj_lw len dl x y m i) : lj_wl len dl x y m := by
  obtain ⟨h1, h2, h3, h4⟩ := h
  refine lj_fe_rec.mpr (Or.inr ⟨i, by omega, ?_, ?_, ?_, (lj_wl_bit hm hi).mp h4⟩)
  · rw [va_up_ne _ _ (by omega)]; exact h1
  · rw [va_up_ne _ _ (by omega)]; exact h2
  · rw [lj_wl_sm hm, va_up_ne _ _ (by omega)]; exact h3
theorem lj_wl_f {len dl : Nat → Nat} {x y m : Nat} (hm : m < 1024) (h1 : ¬ (lj_fe len dl m.testBit ∧ lj_sm m.testBit len 11 + x ≤ y)) (h2 : ∀ i, i < 10 → ¬ lj_lw len dl x y m i) : ¬ lj_wl len dl x y m := by
  intro q
  rcases lj_fe_rec.mp q with h | ⟨i, hi, a, b, c, d⟩
  · have := h 10 (by omega)
    rw [va_up_self] at this
    cases this
  · rw [lj_wl_sm hm] at c
    by_cases e : i = 10
    · subst e
      rw [va_up_self] at c
      exact h1 ⟨(lj_wl_fe hm).mp ((lj_fe_congr (lj_wl_10 hm)).mp d), c⟩
    · rw [va_up_ne _ _ e] at a b c
      exact h2 i (by omega) ⟨a, b, c, (lj_wl_bit hm (by omega)).mpr d⟩
theorem lj_wl_sz {m : Nat} (hm : m < 1024) : lj_sz (va_up m.testBit 10 true) = lj_sz m.testBit + 1 :=
  lj_sm_ins (by omega) (lj_bhi (n := 10) hm (Nat.le_refl _))
theorem lj_pw_t {len dl : Nat → Nat} {F : Nat → Bool} {x y c t m : Nat} (hx : 1 ≤ x) (hx2 : x ≤ 50) (hy : y ≤ 200) (hm : m < 1024) (hb : lj_best len dl F c t) (hw : lj_wl len dl x y m) (hF : ∀ i, i < 11 → F i = true → m.testBit i = true) (hc : c < lj_sz m.testBit + 1) : lj_pwel len dl F (nI x) (nI y) := by
  refine ⟨x, y, hx, hx2, hy, rfl, rfl, c, t, hb, _, hw, fun i hi q => ?_, va_up_self _ _ _, ?_⟩
  · by_cases e : i = 10
    · rw [e, va_up_self]
    · rw [va_up_ne _ _ e]; exact hF i hi q
  · rw [lj_wl_sz hm]; exact hc
theorem lj_pw_f {len dl : Nat → Nat} {F : Nat → Bool} {x y c t : Nat} (hx2 : x ≤ 50) (hy : y ≤ 200) (hF10 : F 10 = false) (hb : lj_best len dl F c t) (h : ∀ m, m < 1024 → ¬ (lj_wl len dl x y m ∧ (∀ i, i < 11 → F i = true → m.testBit i = true) ∧ c < lj_sz m.testBit + 1)) : ¬ lj_pwel len dl F (nI x) (nI y) := by
  rintro ⟨x', y', h1, h2, h3, h4, h5, c', t', h6, B, b1, b2, b3, b4⟩
  rw [nI_eq (by omega) (by omega)] at h4 h5
  subst h4; subst h5
  have e := (lj_best_uniq hb h6).1
  obtain ⟨m, m1, m2⟩ := lj_mask B 10
  have m3 : ∀ i, i < 11 → va_up m.testBit 10 true i = B i := by
    intro i hi
    by_cases e : i = 10
    · rw [e, va_up_self, b3]
    · rw [va_up_ne _ _ e]; exact m2 i (by omega)
  refine h m m1 ⟨(lj_fe_congr m3).mpr b1, fun i hi q => ?_, ?_⟩
  · have hne : i ≠ 10 := fun e => by rw [e, hF10] at q; cases q
    rw [m2 i (by omega)]; exact b2 i hi q
  · rw [← lj_wl_sz m1, show lj_sz (va_up m.testBit 10 true) = lj_sz B from lj_sm_congr m3 (fun _ _ _ => rfl), e]; exact b4
theorem lj_pm_n {len dl : Nat → Nat} {F : Nat → Bool} {r : Int32} (h : lj_pmost len dl F r) (e : r = (-3)) : lj_none len dl F := by
  rcases h with ⟨c, t, h1, h2⟩ | ⟨h1, -⟩
  · have := lj_best_le h1
    rw [h2] at e
    exact absurd e (lj_ne3 (by omega))
  · exact h1
theorem lj_pm_b {len dl : Nat → Nat} {F : Nat → Bool} {r : Int32} (h : lj_pmost len dl F r) (e : ¬ r = (-3)) : ∃ c t : Nat, lj_best len dl F c t ∧ r = nI c := by
  rcases h with h | ⟨-, h⟩
  · exact h
  · exact absurd h e
/-- elapse -/
def lj_ME (len dl : Nat → Nat) (t i : Nat) (L D : Nat → Int32) : Prop := (∀ x, x < 10 → L x = nI (if x < i ∧ dl x < t then 0 else len x)) ∧ ∀ x, x < 10 → 0 < len x → ¬ (x < i ∧ dl x < t) → D x = nI (if x < i then dl x - t else dl x)
theorem lj_ME_0 {len dl : Nat → Nat} {fm : Nat → Bool} {t : Nat} {L D F : Nat → Int32} (h : lj_MR len dl fm L D F) : lj_ME len dl t 0 L D :=
  ⟨fun x hx => by rw [if_neg (by omega)]; exact h.1 x hx, fun x hx h0 _ => by rw [if_neg (by omega)]; exact h.2.1 x hx h0⟩
theorem lj_ME_keep {len dl : Nat → Nat} {t i : Nat} {L D : Nat → Int32} (h : lj_ME len dl t i L D) (h200 : 0 < len i → dl i ≤ 200) (ht : t ≤ 200) (hi : i < 10) (hn : 0 ≤ D i - nI t) : lj_ME len dl t (i + 1) L (upd D i (D i - nI t)) := by
  obtain ⟨h1, h2⟩ := h
  have hk : 0 < len i → D i = nI (dl i) ∧ t ≤ dl i := fun h0 => by
    have e := h2 i hi h0 (by omega)
    rw [if_neg (by omega)] at e
    rw [e, lj_ge0 (h200 h0) ht] at hn
    exact ⟨e, hn⟩
  refine ⟨fun x hx => ?_, fun x hx h0 hx2 => ?_⟩
  · rw [h1 x hx]
    by_cases e : x = i
    · subst e
      rw [if_neg (by omega)]
      by_cases z : x < x + 1 ∧ dl x < t
      · rw [if_pos z]
        rcases Nat.eq_zero_or_pos (len x) with q | q
        · rw [q]
        · have := (hk q).2; omega
      · rw [if_neg z]
    · by_cases z : x < i ∧ dl x < t
      · rw [if_pos z, if_pos (by omega)]
      · rw [if_neg z, if_neg (by omega)]
  · by_cases e : x = i
    · subst e
      obtain ⟨k1, k2⟩ := hk h0
      rw [lj_upd_s, if_pos (by omega), k1, lj_sub k2]
    · rw [lj_upd_n e, h2 x hx h0 (by omega)]
      by_cases z : x < i
      · rw [if_pos z, if_pos (by omega)]
      · rw [if_neg z, if_neg (by omega)]
theorem lj_ME_drop {len dl : Nat → Nat} {t i : Nat} {L D : Nat → Int32} (h : lj_ME len dl t i L D) (h200 : 0 < len i → dl i ≤ 200) (ht : t ≤ 200) (hi : i < 10) (hn : ¬ 0 ≤ D i - nI t) : lj_ME len dl t (i + 1) (upd L i (nI 0)) (upd D i (D i - nI t)) := by
  obtain ⟨h1, h2⟩ := h
  have hk : 0 < len i → dl i < t := fun h0 => by
    have e := h2 i hi h0 (by omega)
    rw [if_neg (by omega)] at e
    rw [e, lj_ge0 (h200 h0) ht] at hn
    omega
  refine ⟨fun x hx => ?_, fun x hx h0 hx2 => ?_⟩
  · by_cases e : x = i
    · subst e
      rw [lj_upd_s]
      by_cases z : x < x + 1 ∧ dl x < t
      · rw [if_pos z]
      · rw [if_neg z]
        rcases Nat.eq_zero_or_pos (len x) with q | q
        · rw [q]
        · have := hk q; omega
    · rw [lj_upd_n e, h1 x hx]
      by_cases z : x < i ∧ dl x < t
      · rw [if_pos z, if_pos (by omega)]
      · rw [if_neg z, if_neg (by omega)]
  · by_cases e : x = i
    · subst e
      have := hk h0; omega
    · rw [lj_upd_n e, h2 x hx h0 (by omega)]
      by_cases z : x < i
      · rw [if_pos z, if_pos (by omega)]
      · rw [if_neg z, if_neg (by omega)]
theorem lj_ME_end {len dl : Nat → Nat} {fm : Nat → Bool} {t : Nat} {L D F L0 D0 : Nat → Int32} (hM : lj_MR len dl fm L0 D0 F) (h : lj_ME len dl t 10 L D) : lj_MR (fun i => if dl i < t then 0 else len i) (fun i => dl i - t) fm L D F := by
  obtain ⟨x1, x2, x3, x5, x6, x7⟩ := hM
  obtain ⟨h1, h2⟩ := h
  refine ⟨fun x hx => ?_, fun x hx h0 => ?_, x3, fun x => ?_, fun x hx => ?_, fun x hx => ?_⟩
  · rw [h1 x hx]
    show _ = nI (if dl x < t then 0 else len x)
    by_cases w : dl x < t
    · rw [if_pos ⟨hx, w⟩, if_pos w]
    · rw [if_neg (by omega), if_neg w]
  · have h0 : 0 < if dl x < t then 0 else len x := h0
    by_cases w : dl x < t
    · rw [if_pos w] at h0; omega
    · rw [if_neg w] at h0
      rw [h2 x hx h0 (by omega), if_pos hx]
  · show (if dl x < t then 0 else len x) ≤ 50
    by_cases w : dl x < t
    · rw [if_pos w]; omega
    · rw [if_neg w]; exact x5 x
  · show (if dl x < t then 0 else len x) = 0
    by_cases w : dl x < t
    · rw [if_pos w]
    · rw [if_neg w]; exact x6 x hx
  · have hx : 0 < if dl x < t then 0 else len x := hx
    show dl x - t ≤ 200
    by_cases w : dl x < t
    · rw [if_pos w] at hx; omega
    · rw [if_neg w] at hx
      have := x7 x hx
      omega
end LJMW
end
section
/-! M: isJob, in, fits, jobs, put, drop, makeFirm -/
/-- what M's state is -/
def lj_MV (len dl : Nat → Nat) (fm : Nat → Bool) (v : MS) : Prop := ∃ (L D F G J : Nat → Int32), v = (L, D, F, G, J) ∧ lj_MR len dl fm L D F

set_option maxHeartbeats 4000000 in
set_option maxRecDepth 100000 in
theorem metM_isJob (l : Launch) (dd : va_G) (g : MG) (L D F G J : Nat → Int32) (len : Nat → Nat) (hL : ∀ i, i < 10 → L i = nI (len i)) (hl50 : ∀ i, len i ≤ 50) (p0 : Int32) : zMi l dd (tyM g) (wM g) g.1 yX1_isJob cX1_isJob 2 (some .boolean) 0 0 [.int p0] (L, D, F, G, J) (fun r v => r = lj_pI (lj_place len p0) ∧ v = (L, D, F, G, J)) := by
  refine zMi_of RX1 (by decide) rfl (Nat.le_of_ble_eq_true rfl) ?_
  intro p e s m below meth c A hx hb hr hml hown hts hlocks hA hK hP hD hS ls hl
  have hl : lv_has ls 2 [(0, .ref g.1), (1, .int p0)] := hl
  refine lv_iload_n hx hb dX1_isJob_0 rfl (lv_at hl 1 rfl) ?_
  refine lv_if_lt (tgt := 23) hx hb dX1_isJob_1 (by decide) (fun c1 => ?_) (fun c1 => ?_)
  · refine lv_iconst (v := nI 0) hx hb dX1_isJob_23 (by decide) ?_
    exact z_zret (wf := wM g) (u := (L, D, F, G, J)) hx hb hr rfl hlocks hK hP hD hS dX1_isJob_24 (⟨(lj_f (fun h => by obtain ⟨j2, hj2, e2, h2⟩ := h; exact absurd c1 (by rw [e2]; exact nI_pos (by omega)))).symm, rfl⟩)
  · refine lv_iload_n hx hb dX1_isJob_4 rfl (lv_at hl 1 rfl) ?_
    refine lv_bipush (v := nI 9) hx hb dX1_isJob_5 (by decide) ?_
    refine lv_icmp_gt (tgt := 23) hx hb dX1_isJob_7 (by decide) (fun c7 => ?_) (fun c7 => ?_)
    · refine lv_iconst (v := nI 0) hx hb dX1_isJob_23 (by decide) ?_
      exact z_zret (wf := wM g) (u := (L, D, F, G, J)) hx hb hr rfl hlocks hK hP hD hS dX1_isJob_24 (⟨(lj_f (fun h => by obtain ⟨j2, hj2, e2, h2⟩ := h; exact absurd c7 (by rw [e2]; exact nI_nlt (by omega) (by decide)))).symm, rfl⟩)
    · obtain ⟨j, hj, rfl⟩ := lj_ix9 c1 c7
      refine lv_aload_n hx hb dX1_isJob_10 rfl (lv_at hl 0 rfl) ?_
      refine m_get (v := .ref g.2.1) hx hb hts hown hK hP 0 (by decide) rfl q134 rfl dX1_isJob_11 ?_
      refine lv_iload_n hx hb dX1_isJob_14 rfl (lv_at hl 1 rfl) ?_
      refine ya_iald (v := nI (len j)) hx hb hK hP 1 0 rfl rfl (by omega) (by decide) (hL j hj) dX1_isJob_15 ?_
      refine lv_if_le (tgt := 23) hx hb dX1_isJob_16 (by decide) (fun c16 => ?_) (fun c16 => ?_)
      · rw [lj_le0 (by have := hl50 j; omega)] at c16
        refine lv_iconst (v := nI 0) hx hb dX1_isJob_23 (by decide) ?_
        exact z_zret (wf := wM g) (u := (L, D, F, G, J)) hx hb hr rfl hlocks hK hP hD hS dX1_isJob_24 (⟨(lj_f (fun h => by obtain ⟨j2, hj2, e2, h2⟩ := h; exact by rw [nI_eq (by omega) (by omega)] at e2; subst e2; omega)).symm, rfl⟩)
      · rw [lj_le0 (by have := hl50 j; omega)] at c16
        refine lv_iconst (v := nI 1) hx hb dX1_isJob_19 (by decide) ?_
        refine lv_goto (tgt := 24) hx hb dX1_isJob_20 (by decide) ?_
        exact z_zret (wf := wM g) (u := (L, D, F, G, J)) hx hb hr rfl hlocks hK hP hD hS dX1_isJob_24 (⟨(lj_t ⟨j, hj, rfl, by omega⟩).symm, rfl⟩)

set_option maxHeartbeats 4000000 in
set_option maxRecDepth 100000 in
theorem metM_in (l : Launch) (dd : va_G) (g : MG) (L D F G J : Nat → Int32) (mm i : Nat) (hmm : mm < 2 ^ 31) (hi : i < 32) : zMi l dd (tyM g) (wM g) g.1 yX1_in cX1_in 3 (some .boolean) 0 0 [.int (nI mm), .int (nI i)] (L, D, F, G, J) (fun r v => r = lj_pI (mm.testBit i = true) ∧ v = (L, D, F, G, J)) := by
  refine zMi_of RX1 (by decide) rfl (Nat.le_of_ble_eq_true rfl) ?_
  intro p e s m below meth c A hx hb hr hml hown hts hlocks hA hK hP hD hS ls hl
  have hl : lv_has ls 3 [(0, .ref g.1), (1, .int (nI mm)), (2, .int (nI i))] := hl
  refine lv_iload_n hx hb dX1_in_0 rfl (lv_at hl 1 rfl) ?_
  refine lv_iload_n hx hb dX1_in_1 rfl (lv_at hl 2 rfl) ?_
  refine lv_ishr hx hb dX1_in_2 ?_
  refine lv_iconst (v := nI 1) hx hb dX1_in_3 (by decide) ?_
  refine lv_iand hx hb dX1_in_4 ?_
  refine lj_top (y := lj_pI (mm.testBit i = true)) (lj_bit (by omega) (by omega)) ?_
  refine lv_iconst (v := nI 1) hx hb dX1_in_5 (by decide) ?_
  refine lv_icmp_ne (tgt := 13) hx hb dX1_in_6 (by decide) (fun c6 => ?_) (fun c6 => ?_)
  · refine lv_iconst (v := nI 0) hx hb dX1_in_13 (by decide) ?_
    exact z_zret (wf := wM g) (u := (L, D, F, G, J)) hx hb hr rfl hlocks hK hP hD hS dX1_in_14 (⟨(lj_f (fun h => c6 (lj_pI1.mpr h))).symm, rfl⟩)
  · refine lv_iconst (v := nI 1) hx hb dX1_in_9 (by decide) ?_
    refine lv_goto (tgt := 14) hx hb dX1_in_10 (by decide) ?_
    exact z_zret (wf := wM g) (u := (L, D, F, G, J)) hx hb hr rfl hlocks hK hP hD hS dX1_in_14 (⟨(lj_t (lj_pI1.mp c6)).symm, rfl⟩)

set_option maxHeartbeats 4000000 in
set_option maxRecDepth 100000 in
theorem metM_fits (l : Launch) (dd : va_G) (g : MG) (L D F G J : Nat → Int32) (p0 p1 : Int32) : zMi l dd (tyM g) (wM g) g.1 yX1_fits cX1_fits 3 (some .boolean) 0 0 [.int p0, .int p1] (L, D, F, G, J) (fun r v => r = lj_pI (lj_job p0 p1) ∧ v = (L, D, F, G, J)) := by
  refine zMi_of RX1 (by decide) rfl (Nat.le_of_ble_eq_true rfl) ?_
  intro p e s m below meth c A hx hb hr hml hown hts hlocks hA hK hP hD hS ls hl
  have hl : lv_has ls 3 [(0, .ref g.1), (1, .int p0), (2, .int p1)] := hl
  refine lv_iload_n hx hb dX1_fits_0 rfl (lv_at hl 1 rfl) ?_
  refine lv_iconst (v := nI 1) hx hb dX1_fits_1 (by decide) ?_
  refine lv_icmp_lt (tgt := 26) hx hb dX1_fits_2 (by decide) (fun c2 => ?_) (fun c2 => ?_)
  · refine lv_iconst (v := nI 0) hx hb dX1_fits_26 (by decide) ?_
    exact z_zret (wf := wM g) (u := (L, D, F, G, J)) hx hb hr rfl hlocks hK hP hD hS dX1_fits_27 (⟨(lj_f (fun h => h.1 c2)).symm, rfl⟩)
  · refine lv_iload_n hx hb dX1_fits_5 rfl (lv_at hl 1 rfl) ?_
    refine lv_bipush (v := nI 50) hx hb dX1_fits_6 (by decide) ?_
    refine lv_icmp_gt (tgt := 26) hx hb dX1_fits_8 (by decide) (fun c8 => ?_) (fun c8 => ?_)
    · refine lv_iconst (v := nI 0) hx hb dX1_fits_26 (by decide) ?_
      exact z_zret (wf := wM g) (u := (L, D, F, G, J)) hx hb hr rfl hlocks hK hP hD hS dX1_fits_27 (⟨(lj_f (fun h => h.2.1 c8)).symm, rfl⟩)
    · refine lv_iload_n hx hb dX1_fits_11 rfl (lv_at hl 2 rfl) ?_
      refine lv_if_lt (tgt := 26) hx hb dX1_fits_12 (by decide) (fun c12 => ?_) (fun c12 => ?_)
      · refine lv_iconst (v := nI 0) hx hb dX1_fits_26 (by decide) ?_
        exact z_zret (wf := wM g) (u := (L, D, F, G, J)) hx hb hr rfl hlocks hK hP hD hS dX1_fits_27 (⟨(lj_f (fun h => h.2.2.1 c12)).symm, rfl⟩)
      · refine lv_iload_n hx hb dX1_fits_15 rfl (lv_at hl 2 rfl) ?_
        refine lv_sipush (v := nI 200) hx hb dX1_fits_16 (by decide) ?_
        refine lv_icmp_gt (tgt := 26) hx hb dX1_fits_19 (by decide) (fun c19 => ?_) (fun c19 => ?_)
        · refine lv_iconst (v := nI 0) hx hb dX1_fits_26 (by decide) ?_
          exact z_zret (wf := wM g) (u := (L, D, F, G, J)) hx hb hr rfl hlocks hK hP hD hS dX1_fits_27 (⟨(lj_f (fun h => h.2.2.2 c19)).symm, rfl⟩)
        · refine lv_iconst (v := nI 1) hx hb dX1_fits_22 (by decide) ?_
          refine lv_goto (tgt := 27) hx hb dX1_fits_23 (by decide) ?_
          exact z_zret (wf := wM g) (u := (L, D, F, G, J)) hx hb hr rfl hlocks hK hP hD hS dX1_fits_27 (⟨(lj_t ⟨c2, c8, c12, c19⟩).symm, rfl⟩)

set_option maxHeartbeats 4000000 in
set_option maxRecDepth 100000 in
theorem lpM_jobs {p : Program} {l : Launch} {e : Env} {Rm : Room} {s : State} {m : MethodId} {args : Array Value} {below : List Frame} {meth : Method} {c : Code} {Q : State → Prop} {dd : va_G} {L D F G J : Nat → Int32} {g : MG} {H : Heap} {locs : List Loc} (hx : p.tables.exec = Jvm.exec) (hb : c.code = cX1_jobs) (hts : ∀ w ∈ lw_all, w.before args s = true) (hown : s.vm.findClass RX1 = some m.cls) (hK : va_K dd vwCl (tyM g) s) (hP : va_P dd vwCl (wM g (L, D, F, G, J)) H) (len : Nat → Nat) (hL : ∀ i, i < 10 → L i = nI (len i)) (h50 : ∀ i, len i ≤ 50)
    (kx : ∀ (ls : Array Slot), lv_has ls 3 [(1, .int (nI (lj_sm (fun i => decide (0 < len i)) (fun _ => 1) 10)))] → W p l e Rm s m args below meth c H locs 0 0 Q (F0 m 28 ls [])) :
    ∀ (n : Nat) (i : Nat) (ls : Array Slot), 10 - i < n → i ≤ 10 →  lv_has ls 3 [(0, .ref g.1), (1, .int (nI (lj_sm (fun i => decide (0 < len i)) (fun _ => 1) i))), (2, .int (nI i))] → W p l e Rm s m args below meth c H locs 0 0 Q (F0 m 4 ls []) := by
  intro n
  induction n with
  | zero =>
    intro i ls hn
    exact absurd hn (Nat.not_lt_zero _)
  | succ n ih =>
    intro i ls hn hi hl
    refine lv_iload_n hx hb dX1_jobs_4 rfl (lv_at hl 2 rfl) ?_
    refine lv_bipush (v := nI 10) hx hb dX1_jobs_5 (by decide) ?_
    refine lv_icmp_ge (tgt := 28) hx hb dX1_jobs_7 (by decide) (fun c7 => ?_) (fun c7 => ?_)
    · rw [nI_leI (by omega) (by omega)] at c7
      have e : i = 10 := by omega
      subst e
      exact kx ls (lv_sub hl [1] rfl)
    · rw [nI_leI (by omega) (by omega)] at c7
      refine lv_aload_n hx hb dX1_jobs_10 rfl (lv_at hl 0 rfl) ?_
      refine m_get (v := .ref g.2.1) hx hb hts hown hK hP 0 (by decide) rfl q134 rfl dX1_jobs_11 ?_
      refine lv_iload_n hx hb dX1_jobs_14 rfl (lv_at hl 2 rfl) ?_
      refine ya_iald (v := nI (len i)) hx hb hK hP 1 0 rfl rfl (by omega) (by decide) (hL i (by omega)) dX1_jobs_15 ?_
      refine lv_if_le (tgt := 22) hx hb dX1_jobs_16 (by decide) (fun c16 => ?_) (fun c16 => ?_)
      · rw [lj_le0 (by have := h50 i; omega)] at c16
        have hb0 : ¬ (decide (0 < len i) = true) := by simp [c16]
        have eT : lj_sm (fun i => decide (0 < len i)) (fun _ => 1) (i + 1) = lj_sm (fun i => decide (0 < len i)) (fun _ => 1) i := by
          rw [lj_sm_succ _ _ i, if_neg hb0]; rfl
        refine lv_iinc (v := nI (i + 1)) (lv' := [(2, .int (nI (i + 1))), (0, .ref g.1), (1, .int (nI (lj_sm (fun i => decide (0 < len i)) (fun _ => 1) i)))]) hx hb dX1_jobs_22 hl (k := 2) rfl (lj_inc1 _) (by decide) rfl (fun ls hl => ?_)
        refine lv_goto (tgt := 4) hx hb dX1_jobs_25 (by decide) ?_
        exact ih (i + 1) ls (by omega) (by omega) (by rw [eT]; exact lv_sub hl [1, 2, 0] rfl)
      · rw [lj_le0 (by have := h50 i; omega)] at c16
        have hb1 : decide (0 < len i) = true := decide_eq_true (by omega)
        have eT : lj_sm (fun i => decide (0 < len i)) (fun _ => 1) (i + 1) = lj_sm (fun i => decide (0 < len i)) (fun _ => 1) i + 1 := by
          rw [lj_sm_succ _ _ i, if_pos hb1]
        refine lv_iinc (v := nI (lj_sm (fun i => decide (0 < len i)) (fun _ => 1) i + 1)) (lv' := [(1, .int (nI (lj_sm (fun i => decide (0 < len i)) (fun _ => 1) i + 1))), (0, .ref g.1), (2, .int (nI i))]) hx hb dX1_jobs_19 hl (k := 1) rfl (lj_inc1 _) (by decide) rfl (fun ls hl => ?_)
        refine lv_iinc (v := nI (i + 1)) (lv' := [(2, .int (nI (i + 1))), (1, .int (nI (lj_sm (fun i => decide (0 < len i)) (fun _ => 1) i + 1))), (0, .ref g.1)]) hx hb dX1_jobs_22 hl (k := 2) rfl (lj_inc1 _) (by decide) rfl (fun ls hl => ?_)
        refine lv_goto (tgt := 4) hx hb dX1_jobs_25 (by decide) ?_
        exact ih (i + 1) ls (by omega) (by omega) (by rw [eT]; exact lv_sub hl [2, 1, 0] rfl)

set_option maxHeartbeats 4000000 in
set_option maxRecDepth 100000 in
theorem metM_jobs (l : Launch) (dd : va_G) (g : MG) (L D F G J : Nat → Int32) (len : Nat → Nat) (hL : ∀ i, i < 10 → L i = nI (len i)) (h50 : ∀ i, len i ≤ 50) : zMi l dd (tyM g) (wM g) g.1 yX1_jobs cX1_jobs 3 (some .int) 0 0 [] (L, D, F, G, J) (fun r v => r = nI (lj_ct len) ∧ v = (L, D, F, G, J)) := by
  refine zMi_of RX1 (by decide) rfl (Nat.le_of_ble_eq_true rfl) ?_
  intro p e s m below meth c A hx hb hr hml hown hts hlocks hA hK hP hD hS ls hl
  have hl : lv_has ls 3 [(0, .ref g.1)] := hl
  refine lv_iconst (v := nI 0) hx hb dX1_jobs_0 (by decide) ?_
  refine lv_istore_n (lv' := [(1, .int (nI 0)), (0, .ref g.1)]) hx hb dX1_jobs_1 rfl hl (by decide) rfl (fun ls hl => ?_)
  refine lv_iconst (v := nI 0) hx hb dX1_jobs_2 (by decide) ?_
  refine lv_istore_n (lv' := [(2, .int (nI 0)), (1, .int (nI 0)), (0, .ref g.1)]) hx hb dX1_jobs_3 rfl hl (by decide) rfl (fun ls hl => ?_)
  refine lpM_jobs hx hb hts hown hK hP len hL h50 (fun ls hl => ?_) 11 0 ls (by omega) (by omega) (lv_sub hl [2, 1, 0] rfl)
  have hl : lv_has ls 3 [(1, .int (nI (lj_ct len)))] := hl
  refine lv_iload_n hx hb dX1_jobs_28 rfl (lv_at hl 0 rfl) ?_
  exact z_iret (wf := wM g) (u := (L, D, F, G, J)) hx hb hr hlocks hK hP hD hS dX1_jobs_29 (⟨rfl, rfl⟩)

set_option maxHeartbeats 4000000 in
set_option maxRecDepth 100000 in
theorem lpM_put {p : Program} {l : Launch} {e : Env} {Rm : Room} {s : State} {m : MethodId} {args : Array Value} {below : List Frame} {meth : Method} {c : Code} {Q : State → Prop} {dd : va_G} {L D F G J : Nat → Int32} {g : MG} {H : Heap} {locs : List Loc} {p0 p1 p2 : Int32} (hx : p.tables.exec = Jvm.exec) (hb : c.code = cX1_put) (hts : ∀ w ∈ lw_all, w.before args s = true) (hown : s.vm.findClass RX1 = some m.cls) (hK : va_K dd vwCl (tyM g) s) (hP : va_P dd vwCl (wM g (L, D, F, G, J)) H) (len : Nat → Nat) (hL : ∀ i, i < 10 → L i = nI (len i)) (h50 : ∀ i, len i ≤ 50)
    (kx : ∀ (a : Int32) (ls : Array Slot), lj_mf len 0 a → lv_has ls 6 [(0, .ref g.1), (1, .int p0), (2, .int p1), (3, .int p2), (4, .int a)] → W p l e Rm s m args below meth c H locs 0 0 Q (F0 m 32 ls [])) :
    ∀ (n : Nat) (q : Nat) (a : Int32) (ls : Array Slot), q < n → q ≤ 10 → lj_mf len q a →  lv_has ls 6 [(0, .ref g.1), (1, .int p0), (2, .int p1), (3, .int p2), (4, .int a), (5, .int (nI q - nI 1))] → W p l e Rm s m args below meth c H locs 0 0 Q (F0 m 7 ls []) := by
  intro n
  induction n with
  | zero =>
    intro q a ls hn
    exact absurd hn (Nat.not_lt_zero _)
  | succ n ih =>
    intro q a ls hn hq hmf hl
    refine lv_iload hx hb dX1_put_7 (lv_at hl 5 rfl) ?_
    refine lv_if_lt (tgt := 32) hx hb dX1_put_9 (by decide) (fun c9 => ?_) (fun c9 => ?_)
    · have e := lj_pr_t hq c9
      subst e
      exact kx a ls hmf (lv_sub hl [0, 1, 2, 3, 4] rfl)
    · obtain ⟨i, rfl, ei⟩ := lj_pr_f hq c9
      rw [ei] at hl
      refine lv_aload_n hx hb dX1_put_12 rfl (lv_at hl 0 rfl) ?_
      refine m_get (v := .ref g.2.1) hx hb hts hown hK hP 0 (by decide) rfl q134 rfl dX1_put_13 ?_
      refine lv_iload hx hb dX1_put_16 (lv_at hl 5 rfl) ?_
      refine ya_iald (v := nI (len i)) hx hb hK hP 1 0 rfl rfl (by omega) (by decide) (hL i (by omega)) dX1_put_18 ?_
      refine lv_if_ne (tgt := 26) hx hb dX1_put_19 (by decide) (fun c19 => ?_) (fun c19 => ?_)
      · rw [← nI_0, nI_eq (by have := h50 i; omega) (by decide)] at c19
        refine lv_iinc (v := nI i - nI 1) (lv' := [(5, .int (nI i - nI 1)), (0, .ref g.1), (1, .int p0), (2, .int p1), (3, .int p2), (4, .int a)]) hx hb dX1_put_26 hl (k := 5) rfl (lj_decI _) (by decide) rfl (fun ls hl => ?_)
        refine lv_goto (tgt := 7) hx hb dX1_put_29 (by decide) ?_
        exact ih i _ ls (by omega) (by omega) (lj_mf_skip hmf (by omega)) (lv_sub hl [1, 2, 3, 4, 5, 0] rfl)
      · rw [← nI_0, nI_eq (by have := h50 i; omega) (by decide)] at c19
        refine lv_iload hx hb dX1_put_22 (lv_at hl 5 rfl) ?_
        refine lv_istore (lv' := [(4, .int (nI i)), (0, .ref g.1), (1, .int p0), (2, .int p1), (3, .int p2), (5, .int (nI i))]) hx hb dX1_put_24 hl (by decide) rfl (fun ls hl => ?_)
        refine lv_iinc (v := nI i - nI 1) (lv' := [(5, .int (nI i - nI 1)), (4, .int (nI i)), (0, .ref g.1), (1, .int p0), (2, .int p1), (3, .int p2)]) hx hb dX1_put_26 hl (k := 5) rfl (lj_decI _) (by decide) rfl (fun ls hl => ?_)
        refine lv_goto (tgt := 7) hx hb dX1_put_29 (by decide) ?_
        exact ih i _ ls (by omega) (by omega) (lj_mf_hit (by omega) c19) (lv_sub hl [2, 3, 4, 5, 1, 0] rfl)

set_option maxHeartbeats 4000000 in
set_option maxRecDepth 100000 in
theorem metM_put (l : Launch) (dd : va_G) (g : MG) (L D F G J : Nat → Int32) (len dl : Nat → Nat) (fm : Nat → Bool) (hM : lj_MR len dl fm L D F) (p0 p1 : Int32) (b : Bool) : zMi l dd (tyM g) (wM g) g.1 yX1_put cX1_put 6 (some .int) 1 22 [.int p0, .int p1, .int (lj_pI (b = true))] (L, D, F, G, J) (fun rr v => ∃ (len2 dl2 : Nat → Nat) (fm2 : Nat → Bool), lj_pput len dl fm p0 p1 b rr len2 dl2 fm2 ∧ lj_MV len2 dl2 fm2 v) := by
  refine zMi_of RX1 (by decide) rfl (Nat.le_of_ble_eq_true rfl) ?_
  intro p e s m below meth c A hx hb hr hml hown hts hlocks hA hK hP hD hS ls hl
  have hl : lv_has ls 6 [(0, .ref g.1), (1, .int p0), (2, .int p1), (3, .int (lj_pI (b = true)))] := hl
  obtain ⟨hL, hD0, hF, h50, h10, h200⟩ := id hM
  refine lv_iconst (v := (-1)) hx hb dX1_put_0 (by decide) ?_
  refine lv_istore (lv' := [(4, .int (-1)), (0, .ref g.1), (1, .int p0), (2, .int p1), (3, .int (lj_pI (b = true)))]) hx hb dX1_put_1 hl (by decide) rfl (fun ls hl => ?_)
  refine lv_bipush (v := nI 9) hx hb dX1_put_3 (by decide) ?_
  refine lv_istore (lv' := [(5, .int (nI 9)), (4, .int (-1)), (0, .ref g.1), (1, .int p0), (2, .int p1), (3, .int (lj_pI (b = true)))]) hx hb dX1_put_5 hl (by decide) rfl (fun ls hl => ?_)
  refine lpM_put hx hb hts hown hK hP len hL h50 (fun a ls hmf hl => ?_) 11 10 (-1) ls (by omega) (by omega) lj_mf_0 (by rw [show nI 10 - nI 1 = nI 9 by decide]; exact lv_sub hl [2, 3, 4, 5, 1, 0] rfl)
  refine lv_iload hx hb dX1_put_32 (lv_at hl 4 rfl) ?_
  refine lv_if_ge (tgt := 40) hx hb dX1_put_34 (by decide) (fun c34 => ?_) (fun c34 => ?_)
  · obtain ⟨z, hz, rfl, hz0, hzf, hct⟩ := lj_mf_pos hmf c34
    refine lv_aload_n hx hb dX1_put_40 rfl (lv_at hl 0 rfl) ?_
    refine lv_iload_n hx hb dX1_put_41 rfl (lv_at hl 1 rfl) ?_
    refine lv_iload_n hx hb dX1_put_42 rfl (lv_at hl 2 rfl) ?_
    refine z_calli (wf := wM g) (n := 2) (As := [.int p0, .int p1]) (rest := []) ⟨hx, hb, hml, hown, hts⟩ hK hP hD hS hA (metM_fits l dd g L D F G J p0 p1) (lw_V q155 q157 qs7 q19 q158) (by decide +kernel) ⟨Nat.le_of_ble_eq_true rfl, Nat.le_of_ble_eq_true rfl⟩ (ci := 1) rfl rfl rfl rfl hl.1 rfl (Nat.le_of_ble_eq_true rfl) dX1_put_43 ⟨Nat.zero_le _, Nat.zero_le _⟩ (fun r43 u43 H locs hpo hP hD hS => ?_)
    obtain ⟨hjb, rfl⟩ := hpo
    refine lv_if_ne (tgt := 51) hx hb dX1_put_46 (by decide) (fun c46 => ?_) (fun c46 => ?_)
    · rw [hjb, lj_pIn] at c46
      obtain ⟨x, y, hx1, hx2, hy, rfl, rfl⟩ := lj_job_of c46
      refine lv_aload_n hx hb dX1_put_51 rfl (lv_at hl 0 rfl) ?_
      refine m_get (v := .ref g.2.1) hx hb hts hown hK hP 0 (by decide) rfl q134 rfl dX1_put_52 ?_
      refine lv_iload hx hb dX1_put_55 (lv_at hl 4 rfl) ?_
      refine lv_iload_n hx hb dX1_put_57 rfl (lv_at hl 1 rfl) ?_
      refine ya_iast (ws' := wM g (upd L z (nI x), D, F, G, J)) hx hb hK hP hD hS 1 0 rfl rfl (by omega) (by decide) rfl rfl dX1_put_58 (fun H locs hP hD hS => ?_)
      refine lv_aload_n hx hb dX1_put_59 rfl (lv_at hl 0 rfl) ?_
      refine m_get (v := .ref g.2.2.1) hx hb hts hown hK hP 1 (by decide) rfl q135 rfl dX1_put_60 ?_
      refine lv_iload hx hb dX1_put_63 (lv_at hl 4 rfl) ?_
      refine lv_iload_n hx hb dX1_put_65 rfl (lv_at hl 2 rfl) ?_
      refine ya_iast (ws' := wM g (upd L z (nI x), upd D z (nI y), F, G, J)) hx hb hK hP hD hS 2 1 rfl rfl (by omega) (by decide) rfl rfl dX1_put_66 (fun H locs hP hD hS => ?_)
      refine lv_aload_n hx hb dX1_put_67 rfl (lv_at hl 0 rfl) ?_
      refine m_get (v := .ref g.2.2.2.1) hx hb hts hown hK hP 2 (by decide) rfl q136 rfl dX1_put_68 ?_
      refine lv_iload hx hb dX1_put_71 (lv_at hl 4 rfl) ?_
      refine lv_iload_n hx hb dX1_put_73 rfl (lv_at hl 3 rfl) ?_
      refine ya_zast (ws' := wM g (upd L z (nI x), upd D z (nI y), upd F z (lj_pI (b = true)), G, J)) hx hb hK hP hD hS 3 2 rfl rfl (by omega) (by decide) (lj_vz _) rfl dX1_put_74 (fun H locs hP hD hS => ?_)
      refine lv_iload hx hb dX1_put_75 (lv_at hl 4 rfl) ?_
      exact z_iret (wf := wM g) (u := (upd L z (nI x), upd D z (nI y), upd F z (lj_pI (b = true)), G, J)) hx hb hr hlocks hK hP hD hS dX1_put_77 (⟨_, _, _, Or.inr (Or.inr ⟨hct, c46, x, y, z, hx1, hx2, hy, rfl, rfl, hz, hz0, hzf, rfl, rfl, rfl, rfl⟩), _, _, _, G, J, rfl, lj_MR_put hM hx1 hx2 hy hz⟩)
    · rw [hjb, lj_pI0] at c46
      refine lv_iconst (v := (-1)) hx hb dX1_put_49 (by decide) ?_
      exact z_iret (wf := wM g) (u := (L, D, F, G, J)) hx hb hr hlocks hK hP hD hS dX1_put_50 (⟨len, dl, fm, Or.inr (Or.inl ⟨hct, c46, rfl, rfl, rfl, rfl⟩), L, D, F, G, J, rfl, hM⟩)
  · refine lv_bipush (v := (-2)) hx hb dX1_put_37 (by decide) ?_
    exact z_iret (wf := wM g) (u := (L, D, F, G, J)) hx hb hr hlocks hK hP hD hS dX1_put_39 (⟨len, dl, fm, Or.inl ⟨lj_mf_neg hmf c34, rfl, rfl, rfl, rfl⟩, L, D, F, G, J, rfl, hM⟩)

set_option maxHeartbeats 4000000 in
set_option maxRecDepth 100000 in
theorem metM_drop (l : Launch) (dd : va_G) (g : MG) (L D F G J : Nat → Int32) (len dl : Nat → Nat) (fm : Nat → Bool) (hM : lj_MR len dl fm L D F) (p0 : Int32) : zMi l dd (tyM g) (wM g) g.1 yX1_drop cX1_drop 2 (some .int) 1 22 [.int p0] (L, D, F, G, J) (fun rr v => ∃ len2 : Nat → Nat, lj_pdrop len p0 rr len2 ∧ lj_MV len2 dl fm v) := by
  refine zMi_of RX1 (by decide) rfl (Nat.le_of_ble_eq_true rfl) ?_
  intro p e s m below meth c A hx hb hr hml hown hts hlocks hA hK hP hD hS ls hl
  have hl : lv_has ls 2 [(0, .ref g.1), (1, .int p0)] := hl
  obtain ⟨hL, hD0, hF, h50, h10, h200⟩ := id hM
  refine lv_aload_n hx hb dX1_drop_0 rfl (lv_at hl 0 rfl) ?_
  refine lv_iload_n hx hb dX1_drop_1 rfl (lv_at hl 1 rfl) ?_
  refine z_calli (wf := wM g) (n := 1) (As := [.int p0]) (rest := []) ⟨hx, hb, hml, hown, hts⟩ hK hP hD hS hA (metM_isJob l dd g L D F G J len hL h50 p0) (lw_V q163 q165 qs8 q19 q166) (by decide +kernel) ⟨Nat.le_of_ble_eq_true rfl, Nat.le_of_ble_eq_true rfl⟩ (ci := 1) rfl rfl rfl rfl hl.1 rfl (Nat.le_of_ble_eq_true rfl) dX1_drop_2 ⟨Nat.zero_le _, Nat.zero_le _⟩ (fun r2 u2 H locs hpo hP hD hS => ?_)
  obtain ⟨hpl, rfl⟩ := hpo
  refine lv_if_ne (tgt := 10) hx hb dX1_drop_5 (by decide) (fun c5 => ?_) (fun c5 => ?_)
  · rw [hpl, lj_pIn] at c5
    obtain ⟨j, hj, rfl, h0⟩ := c5
    refine lv_aload_n hx hb dX1_drop_10 rfl (lv_at hl 0 rfl) ?_
    refine m_get (v := .ref g.2.1) hx hb hts hown hK hP 0 (by decide) rfl q134 rfl dX1_drop_11 ?_
    refine lv_iload_n hx hb dX1_drop_14 rfl (lv_at hl 1 rfl) ?_
    refine lv_iconst (v := nI 0) hx hb dX1_drop_15 (by decide) ?_
    refine ya_iast (ws' := wM g (upd L j (nI 0), D, F, G, J)) hx hb hK hP hD hS 1 0 rfl rfl (by omega) (by decide) rfl rfl dX1_drop_16 (fun H locs hP hD hS => ?_)
    refine lv_aload_n hx hb dX1_drop_17 rfl (lv_at hl 0 rfl) ?_
    have hM2 := lj_MR_drop hM hj
    refine z_calli (wf := wM g) (n := 0) (As := []) (rest := []) ⟨hx, hb, hml, hown, hts⟩ hK hP hD hS hA (metM_jobs l dd g (upd L j (nI 0)) D F G J (va_up len j 0) hM2.1 hM2.2.2.2.1) (lw_V q167 q168 q169 q19 q170) (by decide +kernel) ⟨Nat.le_of_ble_eq_true rfl, Nat.le_of_ble_eq_true rfl⟩ (ci := 1) rfl rfl rfl rfl hl.1 rfl (Nat.le_of_ble_eq_true rfl) dX1_drop_18 ⟨Nat.zero_le _, Nat.zero_le _⟩ (fun r18 u18 H locs hpo hP hD hS => ?_)
    obtain ⟨hrr, rfl⟩ := hpo
    subst hrr
    exact z_iret (wf := wM g) (u := (upd L j (nI 0), D, F, G, J)) hx hb hr hlocks hK hP hD hS dX1_drop_21 (⟨_, Or.inl ⟨j, hj, rfl, h0, rfl, rfl⟩, _, D, F, G, J, rfl, hM2⟩)
  · rw [hpl, lj_pI0] at c5
    refine lv_iconst (v := (-1)) hx hb dX1_drop_8 (by decide) ?_
    exact z_iret (wf := wM g) (u := (L, D, F, G, J)) hx hb hr hlocks hK hP hD hS dX1_drop_9 (⟨len, Or.inr ⟨c5, rfl, rfl⟩, L, D, F, G, J, rfl, hM⟩)

set_option maxHeartbeats 4000000 in
set_option maxRecDepth 100000 in
theorem metM_makeFirm (l : Launch) (dd : va_G) (g : MG) (L D F G J : Nat → Int32) (len dl : Nat → Nat) (fm : Nat → Bool) (hM : lj_MR len dl fm L D F) (p0 : Int32) (b : Bool) : zMi l dd (tyM g) (wM g) g.1 yX1_makeFirm cX1_makeFirm 3 (some .boolean) 1 21 [.int p0, .int (lj_pI (b = true))] (L, D, F, G, J) (fun rr v => ∃ fm2 : Nat → Bool, lj_pfirm len fm p0 b rr fm2 ∧ lj_MV len dl fm2 v) := by
  refine zMi_of RX1 (by decide) rfl (Nat.le_of_ble_eq_true rfl) ?_
  intro p e s m below meth c A hx hb hr hml hown hts hlocks hA hK hP hD hS ls hl
  have hl : lv_has ls 3 [(0, .ref g.1), (1, .int p0), (2, .int (lj_pI (b = true)))] := hl
  obtain ⟨hL, hD0, hF, h50, h10, h200⟩ := id hM
  refine lv_aload_n hx hb dX1_makeFirm_0 rfl (lv_at hl 0 rfl) ?_
  refine lv_iload_n hx hb dX1_makeFirm_1 rfl (lv_at hl 1 rfl) ?_
  refine z_calli (wf := wM g) (n := 1) (As := [.int p0]) (rest := []) ⟨hx, hb, hml, hown, hts⟩ hK hP hD hS hA (metM_isJob l dd g L D F G J len hL h50 p0) (lw_V q163 q165 qs8 q19 q166) (by decide +kernel) ⟨Nat.le_of_ble_eq_true rfl, Nat.le_of_ble_eq_true rfl⟩ (ci := 1) rfl rfl rfl rfl hl.1 rfl (Nat.le_of_ble_eq_true rfl) dX1_makeFirm_2 ⟨Nat.zero_le _, Nat.zero_le _⟩ (fun r2 u2 H locs hpo hP hD hS => ?_)
  obtain ⟨hpl, rfl⟩ := hpo
  refine lv_if_ne (tgt := 10) hx hb dX1_makeFirm_5 (by decide) (fun c5 => ?_) (fun c5 => ?_)
  · rw [hpl, lj_pIn] at c5
    obtain ⟨j, hj, rfl, h0⟩ := c5
    refine lv_aload_n hx hb dX1_makeFirm_10 rfl (lv_at hl 0 rfl) ?_
    refine m_get (v := .ref g.2.2.2.1) hx hb hts hown hK hP 2 (by decide) rfl q136 rfl dX1_makeFirm_11 ?_
    refine lv_iload_n hx hb dX1_makeFirm_14 rfl (lv_at hl 1 rfl) ?_
    refine lv_iload_n hx hb dX1_makeFirm_15 rfl (lv_at hl 2 rfl) ?_
    refine ya_zast (ws' := wM g (L, D, upd F j (lj_pI (b = true)), G, J)) hx hb hK hP hD hS 3 2 rfl rfl (by omega) (by decide) (lj_vz _) rfl dX1_makeFirm_16 (fun H locs hP hD hS => ?_)
    refine lv_iconst (v := nI 1) hx hb dX1_makeFirm_17 (by decide) ?_
    exact z_zret (wf := wM g) (u := (L, D, upd F j (lj_pI (b = true)), G, J)) hx hb hr rfl hlocks hK hP hD hS dX1_makeFirm_18 (⟨va_up fm j b, Or.inl ⟨j, hj, rfl, h0, rfl, rfl⟩, L, D, _, G, J, rfl, lj_MR_firm hM⟩)
  · rw [hpl, lj_pI0] at c5
    refine lv_iconst (v := nI 0) hx hb dX1_makeFirm_8 (by decide) ?_
    exact z_zret (wf := wM g) (u := (L, D, F, G, J)) hx hb hr rfl hlocks hK hP hD hS dX1_makeFirm_9 (⟨fm, Or.inr ⟨c5, rfl, rfl⟩, L, D, F, G, J, rfl, hM⟩)
end
section
/-! M: timeOf, sizeOf, hasLast, findGood, feasible -/
set_option maxHeartbeats 4000000 in
set_option maxRecDepth 100000 in
theorem lpM_timeOf {p : Program} {l : Launch} {e : Env} {Rm : Room} {s : State} {m : MethodId} {args : Array Value} {below : List Frame} {meth : Method} {c : Code} {Q : State → Prop} {dd : va_G} {A : Nat → Prop} {L D F G J : Nat → Int32} {g : MG} (hx : p.tables.exec = Jvm.exec) (hb : c.code = cX1_timeOf) (hts : ∀ w ∈ lw_all, w.before args s = true) (hown : s.vm.findClass RX1 = some m.cls) (hml : c.maxLocals = 4) (hRf : 1 ≤ Rm.frames) (hRl : 22 ≤ Rm.locals) (hA : ∀ q : Nat, s.heap.size ≤ q → A q) (hK : va_K dd vwCl (tyM g) s) (len : Nat → Nat) (hL : ∀ i, i < 10 → L i = nI (len i)) (mm : Nat) (hmm : mm < 1024)
    (kx : ∀ (H : Heap) (locs : List Loc) (ls : Array Slot), va_P dd vwCl (wM g (L, D, F, G, J)) H → va_D A (wM g (L, D, F, G, J)) → va_S A s.heap H locs → lv_has ls 4 [(2, .int (nI (lj_sm mm.testBit len 10)))] → W p l e Rm s m args below meth c H locs 0 0 Q (F0 m 34 ls [])) :
    ∀ (n : Nat) (i : Nat) (H : Heap) (locs : List Loc) (ls : Array Slot), 10 - i < n → i ≤ 10 → va_P dd vwCl (wM g (L, D, F, G, J)) H → va_D A (wM g (L, D, F, G, J)) → va_S A s.heap H locs →  lv_has ls 4 [(0, .ref g.1), (1, .int (nI mm)), (2, .int (nI (lj_sm mm.testBit len i))), (3, .int (nI i))] → W p l e Rm s m args below meth c H locs 0 0 Q (F0 m 4 ls []) := by
  intro n
  induction n with
  | zero =>
    intro i H locs ls hn
    exact absurd hn (Nat.not_lt_zero _)
  | succ n ih =>
    intro i H locs ls hn hi hP hD hS hl
    refine lv_iload_n hx hb dX1_timeOf_4 rfl (lv_at hl 3 rfl) ?_
    refine lv_bipush (v := nI 10) hx hb dX1_timeOf_5 (by decide) ?_
    refine lv_icmp_ge (tgt := 34) hx hb dX1_timeOf_7 (by decide) (fun c7 => ?_) (fun c7 => ?_)
    · rw [nI_leI (by omega) (by omega)] at c7
      have e : i = 10 := by omega
      subst e
      exact kx H locs ls hP hD hS (lv_sub hl [2] rfl)
    · rw [nI_leI (by omega) (by omega)] at c7
      refine lv_aload_n hx hb dX1_timeOf_10 rfl (lv_at hl 0 rfl) ?_
      refine lv_iload_n hx hb dX1_timeOf_11 rfl (lv_at hl 1 rfl) ?_
      refine lv_iload_n hx hb dX1_timeOf_12 rfl (lv_at hl 3 rfl) ?_
      refine z_calli (wf := wM g) (n := 2) (As := [.int (nI mm), .int (nI i)]) (rest := []) ⟨hx, hb, hml, hown, hts⟩ hK hP hD hS hA (metM_in l dd g L D F G J mm i (by omega) (by omega)) (lw_V q192 q194 qs12 q19 q195) (by decide +kernel) ⟨by omega, by omega⟩ (ci := 1) rfl rfl rfl rfl hl.1 rfl (Nat.le_of_ble_eq_true rfl) dX1_timeOf_13 ⟨Nat.zero_le _, Nat.zero_le _⟩ (fun r13 u13 H locs hpo hP hD hS => ?_)
      obtain ⟨hrr, rfl⟩ := hpo
      subst hrr
      refine lv_if_eq (tgt := 28) hx hb dX1_timeOf_16 (by decide) (fun c16 => ?_) (fun c16 => ?_)
      · have hbit := lj_pI0.mp c16
        have eT : lj_sm mm.testBit len (i + 1) = lj_sm mm.testBit len i := by
          rw [lj_sm_succ _ _ i, if_neg hbit]; rfl
        refine lv_iinc (v := nI (i + 1)) (lv' := [(3, .int (nI (i + 1))), (0, .ref g.1), (1, .int (nI mm)), (2, .int (nI (lj_sm mm.testBit len i)))]) hx hb dX1_timeOf_28 hl (k := 3) rfl (lj_inc1 _) (by decide) rfl (fun ls hl => ?_)
        refine lv_goto (tgt := 4) hx hb dX1_timeOf_31 (by decide) ?_
        exact ih (i + 1) H locs ls (by omega) (by omega) hP hD hS (by rw [eT]; exact lv_sub hl [1, 2, 3, 0] rfl)
      · have hbit := lj_pIn.mp c16
        have eT : lj_sm mm.testBit len (i + 1) = lj_sm mm.testBit len i + len i := by
          rw [lj_sm_succ _ _ i, if_pos hbit]
        refine lv_iload_n hx hb dX1_timeOf_19 rfl (lv_at hl 2 rfl) ?_
        refine lv_aload_n hx hb dX1_timeOf_20 rfl (lv_at hl 0 rfl) ?_
        refine m_get (v := .ref g.2.1) hx hb hts hown hK hP 0 (by decide) rfl q134 rfl dX1_timeOf_21 ?_
        refine lv_iload_n hx hb dX1_timeOf_24 rfl (lv_at hl 3 rfl) ?_
        refine ya_iald (v := nI (len i)) hx hb hK hP 1 0 rfl rfl (by omega) (by decide) (hL i (by omega)) dX1_timeOf_25 ?_
        refine lv_iadd hx hb dX1_timeOf_26 ?_
        refine lj_top (y := nI ((lj_sm mm.testBit len i) + (len i))) (nI_add _ _) ?_
        refine lv_istore_n (lv' := [(2, .int (nI ((lj_sm mm.testBit len i) + (len i)))), (0, .ref g.1), (1, .int (nI mm)), (3, .int (nI i))]) hx hb dX1_timeOf_27 rfl hl (by decide) rfl (fun ls hl => ?_)
        refine lv_iinc (v := nI (i + 1)) (lv' := [(3, .int (nI (i + 1))), (2, .int (nI ((lj_sm mm.testBit len i) + (len i)))), (0, .ref g.1), (1, .int (nI mm))]) hx hb dX1_timeOf_28 hl (k := 3) rfl (lj_inc1 _) (by decide) rfl (fun ls hl => ?_)
        refine lv_goto (tgt := 4) hx hb dX1_timeOf_31 (by decide) ?_
        exact ih (i + 1) H locs ls (by omega) (by omega) hP hD hS (by rw [eT]; exact lv_sub hl [2, 3, 1, 0] rfl)

set_option maxHeartbeats 4000000 in
set_option maxRecDepth 100000 in
theorem metM_timeOf (l : Launch) (dd : va_G) (g : MG) (L D F G J : Nat → Int32) (len : Nat → Nat) (hL : ∀ i, i < 10 → L i = nI (len i)) (mm : Nat) (hmm : mm < 1024) : zMi l dd (tyM g) (wM g) g.1 yX1_timeOf cX1_timeOf 4 (some .int) 1 22 [.int (nI mm)] (L, D, F, G, J) (fun r v => r = nI (lj_sm mm.testBit len 11) ∧ v = (L, D, F, G, J)) := by
  refine zMi_of RX1 (by decide) rfl (Nat.le_of_ble_eq_true rfl) ?_
  intro p e s m below meth c A hx hb hr hml hown hts hlocks hA hK hP hD hS ls hl
  have hl : lv_has ls 4 [(0, .ref g.1), (1, .int (nI mm))] := hl
  refine lv_iconst (v := nI 0) hx hb dX1_timeOf_0 (by decide) ?_
  refine lv_istore_n (lv' := [(2, .int (nI 0)), (0, .ref g.1), (1, .int (nI mm))]) hx hb dX1_timeOf_1 rfl hl (by decide) rfl (fun ls hl => ?_)
  refine lv_iconst (v := nI 0) hx hb dX1_timeOf_2 (by decide) ?_
  refine lv_istore_n (lv' := [(3, .int (nI 0)), (2, .int (nI 0)), (0, .ref g.1), (1, .int (nI mm))]) hx hb dX1_timeOf_3 rfl hl (by decide) rfl (fun ls hl => ?_)
  refine lpM_timeOf hx hb hts hown hml (Nat.le_of_ble_eq_true rfl) (Nat.le_of_ble_eq_true rfl) hA hK len hL mm hmm (fun H locs ls hP hD hS hl => ?_) 11 0 s.heap [] ls (by omega) (by omega) hP hD hS (lv_sub hl [2, 3, 1, 0] rfl)
  refine lv_iload_n hx hb dX1_timeOf_34 rfl (lv_at hl 0 rfl) ?_
  exact z_iret (wf := wM g) (u := (L, D, F, G, J)) hx hb hr hlocks hK hP hD hS dX1_timeOf_35 (⟨by rw [← lj_m11 hmm], rfl⟩)

set_option maxHeartbeats 4000000 in
set_option maxRecDepth 100000 in
theorem lpM_sizeOf {p : Program} {l : Launch} {e : Env} {Rm : Room} {s : State} {m : MethodId} {args : Array Value} {below : List Frame} {meth : Method} {c : Code} {Q : State → Prop} {dd : va_G} {A : Nat → Prop} {L D F G J : Nat → Int32} {g : MG} (hx : p.tables.exec = Jvm.exec) (hb : c.code = cX1_sizeOf) (hts : ∀ w ∈ lw_all, w.before args s = true) (hown : s.vm.findClass RX1 = some m.cls) (hml : c.maxLocals = 4) (hRf : 1 ≤ Rm.frames) (hRl : 22 ≤ Rm.locals) (hA : ∀ q : Nat, s.heap.size ≤ q → A q) (hK : va_K dd vwCl (tyM g) s)  (mm : Nat) (hmm : mm < 1024)
    (kx : ∀ (H : Heap) (locs : List Loc) (ls : Array Slot), va_P dd vwCl (wM g (L, D, F, G, J)) H → va_D A (wM g (L, D, F, G, J)) → va_S A s.heap H locs → lv_has ls 4 [(2, .int (nI (lj_sm mm.testBit (fun _ => 1) 10)))] → W p l e Rm s m args below meth c H locs 0 0 Q (F0 m 28 ls [])) :
    ∀ (n : Nat) (i : Nat) (H : Heap) (locs : List Loc) (ls : Array Slot), 10 - i < n → i ≤ 10 → va_P dd vwCl (wM g (L, D, F, G, J)) H → va_D A (wM g (L, D, F, G, J)) → va_S A s.heap H locs →  lv_has ls 4 [(0, .ref g.1), (1, .int (nI mm)), (2, .int (nI (lj_sm mm.testBit (fun _ => 1) i))), (3, .int (nI i))] → W p l e Rm s m args below meth c H locs 0 0 Q (F0 m 4 ls []) := by
  intro n
  induction n with
  | zero =>
    intro i H locs ls hn
    exact absurd hn (Nat.not_lt_zero _)
  | succ n ih =>
    intro i H locs ls hn hi hP hD hS hl
    refine lv_iload_n hx hb dX1_sizeOf_4 rfl (lv_at hl 3 rfl) ?_
    refine lv_bipush (v := nI 10) hx hb dX1_sizeOf_5 (by decide) ?_
    refine lv_icmp_ge (tgt := 28) hx hb dX1_sizeOf_7 (by decide) (fun c7 => ?_) (fun c7 => ?_)
    · rw [nI_leI (by omega) (by omega)] at c7
      have e : i = 10 := by omega
      subst e
      exact kx H locs ls hP hD hS (lv_sub hl [2] rfl)
    · rw [nI_leI (by omega) (by omega)] at c7
      refine lv_aload_n hx hb dX1_sizeOf_10 rfl (lv_at hl 0 rfl) ?_
      refine lv_iload_n hx hb dX1_sizeOf_11 rfl (lv_at hl 1 rfl) ?_
      refine lv_iload_n hx hb dX1_sizeOf_12 rfl (lv_at hl 3 rfl) ?_
      refine z_calli (wf := wM g) (n := 2) (As := [.int (nI mm), .int (nI i)]) (rest := []) ⟨hx, hb, hml, hown, hts⟩ hK hP hD hS hA (metM_in l dd g L D F G J mm i (by omega) (by omega)) (lw_V q192 q194 qs12 q19 q195) (by decide +kernel) ⟨by omega, by omega⟩ (ci := 1) rfl rfl rfl rfl hl.1 rfl (Nat.le_of_ble_eq_true rfl) dX1_sizeOf_13 ⟨Nat.zero_le _, Nat.zero_le _⟩ (fun r13 u13 H locs hpo hP hD hS => ?_)
      obtain ⟨hrr, rfl⟩ := hpo
      subst hrr
      refine lv_if_eq (tgt := 22) hx hb dX1_sizeOf_16 (by decide) (fun c16 => ?_) (fun c16 => ?_)
      · have hbit := lj_pI0.mp c16
        have eT : lj_sm mm.testBit (fun _ => 1) (i + 1) = lj_sm mm.testBit (fun _ => 1) i := by
          rw [lj_sm_succ _ _ i, if_neg hbit]; rfl
        refine lv_iinc (v := nI (i + 1)) (lv' := [(3, .int (nI (i + 1))), (0, .ref g.1), (1, .int (nI mm)), (2, .int (nI (lj_sm mm.testBit (fun _ => 1) i)))]) hx hb dX1_sizeOf_22 hl (k := 3) rfl (lj_inc1 _) (by decide) rfl (fun ls hl => ?_)
        refine lv_goto (tgt := 4) hx hb dX1_sizeOf_25 (by decide) ?_
        exact ih (i + 1) H locs ls (by omega) (by omega) hP hD hS (by rw [eT]; exact lv_sub hl [1, 2, 3, 0] rfl)
      · have hbit := lj_pIn.mp c16
        have eT : lj_sm mm.testBit (fun _ => 1) (i + 1) = lj_sm mm.testBit (fun _ => 1) i + 1 := by
          rw [lj_sm_succ _ _ i, if_pos hbit]
        refine lv_iinc (v := nI (lj_sm mm.testBit (fun _ => 1) i + 1)) (lv' := [(2, .int (nI (lj_sm mm.testBit (fun _ => 1) i + 1))), (0, .ref g.1), (1, .int (nI mm)), (3, .int (nI i))]) hx hb dX1_sizeOf_19 hl (k := 2) rfl (lj_inc1 _) (by decide) rfl (fun ls hl => ?_)
        refine lv_iinc (v := nI (i + 1)) (lv' := [(3, .int (nI (i + 1))), (2, .int (nI (lj_sm mm.testBit (fun _ => 1) i + 1))), (0, .ref g.1), (1, .int (nI mm))]) hx hb dX1_sizeOf_22 hl (k := 3) rfl (lj_inc1 _) (by decide) rfl (fun ls hl => ?_)
        refine lv_goto (tgt := 4) hx hb dX1_sizeOf_25 (by decide) ?_
        exact ih (i + 1) H locs ls (by omega) (by omega) hP hD hS (by rw [eT]; exact lv_sub hl [2, 3, 1, 0] rfl)

set_option maxHeartbeats 4000000 in
set_option maxRecDepth 100000 in
theorem metM_sizeOf (l : Launch) (dd : va_G) (g : MG) (L D F G J : Nat → Int32)  (mm : Nat) (hmm : mm < 1024) : zMi l dd (tyM g) (wM g) g.1 yX1_sizeOf cX1_sizeOf 4 (some .int) 1 22 [.int (nI mm)] (L, D, F, G, J) (fun r v => r = nI (lj_sz mm.testBit) ∧ v = (L, D, F, G, J)) := by
  refine zMi_of RX1 (by decide) rfl (Nat.le_of_ble_eq_true rfl) ?_
  intro p e s m below meth c A hx hb hr hml hown hts hlocks hA hK hP hD hS ls hl
  have hl : lv_has ls 4 [(0, .ref g.1), (1, .int (nI mm))] := hl
  refine lv_iconst (v := nI 0) hx hb dX1_sizeOf_0 (by decide) ?_
  refine lv_istore_n (lv' := [(2, .int (nI 0)), (0, .ref g.1), (1, .int (nI mm))]) hx hb dX1_sizeOf_1 rfl hl (by decide) rfl (fun ls hl => ?_)
  refine lv_iconst (v := nI 0) hx hb dX1_sizeOf_2 (by decide) ?_
  refine lv_istore_n (lv' := [(3, .int (nI 0)), (2, .int (nI 0)), (0, .ref g.1), (1, .int (nI mm))]) hx hb dX1_sizeOf_3 rfl hl (by decide) rfl (fun ls hl => ?_)
  refine lpM_sizeOf hx hb hts hown hml (Nat.le_of_ble_eq_true rfl) (Nat.le_of_ble_eq_true rfl) hA hK  mm hmm (fun H locs ls hP hD hS hl => ?_) 11 0 s.heap [] ls (by omega) (by omega) hP hD hS (lv_sub hl [2, 3, 1, 0] rfl)
  refine lv_iload_n hx hb dX1_sizeOf_28 rfl (lv_at hl 0 rfl) ?_
  exact z_iret (wf := wM g) (u := (L, D, F, G, J)) hx hb hr hlocks hK hP hD hS dX1_sizeOf_29 (⟨by rw [← lj_m11 hmm], rfl⟩)

set_option maxHeartbeats 4000000 in
set_option maxRecDepth 100000 in
theorem lpM_hasLast {p : Program} {l : Launch} {e : Env} {Rm : Room} {s : State} {m : MethodId} {args : Array Value} {below : List Frame} {meth : Method} {c : Code} {Q : State → Prop} {dd : va_G} {A : Nat → Prop} {L D F G J : Nat → Int32} {g : MG} (hx : p.tables.exec = Jvm.exec) (hb : c.code = cX1_hasLast) (hts : ∀ w ∈ lw_all, w.before args s = true) (hown : s.vm.findClass RX1 = some m.cls) (hml : c.maxLocals = 4) (hRf : 1 ≤ Rm.frames) (hRl : 22 ≤ Rm.locals) (hA : ∀ q : Nat, s.heap.size ≤ q → A q) (hK : va_K dd vwCl (tyM g) s) (len dl : Nat → Nat) (fm : Nat → Bool) (hM : lj_MR len dl fm L D F) (mm : Nat) (hmm : mm < 1024) (hG : ∀ x, x < mm → G x = lj_pI (lj_fe len dl x.testBit))
    (kx : ∀ (H : Heap) (locs : List Loc) (ls : Array Slot), (∀ j, j < 10 → ¬ lj_la len dl mm.testBit j) → va_P dd vwCl (wM g (L, D, F, G, J)) H → va_D A (wM g (L, D, F, G, J)) → va_S A s.heap H locs → W p l e Rm s m args below meth c H locs 0 0 Q (F0 m 65 ls [])) (kf : ∀ (i : Nat) (H : Heap) (locs : List Loc) (ls : Array Slot), i < 10 → lj_la len dl mm.testBit i → va_P dd vwCl (wM g (L, D, F, G, J)) H → va_D A (wM g (L, D, F, G, J)) → va_S A s.heap H locs → W p l e Rm s m args below meth c H locs 0 0 Q (F0 m 57 ls [])) :
    ∀ (n : Nat) (i : Nat) (H : Heap) (locs : List Loc) (ls : Array Slot), 10 - i < n → i ≤ 10 → (∀ j, j < i → ¬ lj_la len dl mm.testBit j) → va_P dd vwCl (wM g (L, D, F, G, J)) H → va_D A (wM g (L, D, F, G, J)) → va_S A s.heap H locs →  lv_has ls 4 [(0, .ref g.1), (1, .int (nI mm)), (2, .int (nI (lj_sm mm.testBit len 11))), (3, .int (nI i))] → W p l e Rm s m args below meth c H locs 0 0 Q (F0 m 8 ls []) := by
  intro n
  induction n with
  | zero =>
    intro i H locs ls hn
    exact absurd hn (Nat.not_lt_zero _)
  | succ n ih =>
    intro i H locs ls hn hi h1 hP hD hS hl
    obtain ⟨hL, hD0, hF, h50, h10, h200⟩ := id hM
    have hTM : lj_sm mm.testBit len 11 ≤ 50 * 11 := lj_sm_leB (fun i _ => h50 i)
    refine lv_iload_n hx hb dX1_hasLast_8 rfl (lv_at hl 3 rfl) ?_
    refine lv_bipush (v := nI 10) hx hb dX1_hasLast_9 (by decide) ?_
    refine lv_icmp_ge (tgt := 65) hx hb dX1_hasLast_11 (by decide) (fun c11 => ?_) (fun c11 => ?_)
    · rw [nI_leI (by omega) (by omega)] at c11
      exact kx H locs ls (fun j hj => h1 j (by omega)) hP hD hS
    · rw [nI_leI (by omega) (by omega)] at c11
      refine lv_aload_n hx hb dX1_hasLast_14 rfl (lv_at hl 0 rfl) ?_
      refine lv_iload_n hx hb dX1_hasLast_15 rfl (lv_at hl 1 rfl) ?_
      refine lv_iload_n hx hb dX1_hasLast_16 rfl (lv_at hl 3 rfl) ?_
      refine z_calli (wf := wM g) (n := 2) (As := [.int (nI mm), .int (nI i)]) (rest := []) ⟨hx, hb, hml, hown, hts⟩ hK hP hD hS hA (metM_in l dd g L D F G J mm i (by omega) (by omega)) (lw_V q192 q194 qs12 q19 q195) (by decide +kernel) ⟨by omega, by omega⟩ (ci := 1) rfl rfl rfl rfl hl.1 rfl (Nat.le_of_ble_eq_true rfl) dX1_hasLast_17 ⟨Nat.zero_le _, Nat.zero_le _⟩ (fun r17 u17 H locs hpo hP hD hS => ?_)
      obtain ⟨hrr, rfl⟩ := hpo
      subst hrr
      refine lv_if_eq (tgt := 59) hx hb dX1_hasLast_20 (by decide) (fun c20 => ?_) (fun c20 => ?_)
      · have hbit := lj_pI0.mp c20
        refine lv_iinc (v := nI (i + 1)) (lv' := [(3, .int (nI (i + 1))), (0, .ref g.1), (1, .int (nI mm)), (2, .int (nI (lj_sm mm.testBit len 11)))]) hx hb dX1_hasLast_59 hl (k := 3) rfl (lj_inc1 _) (by decide) rfl (fun ls hl => ?_)
        refine lv_goto (tgt := 8) hx hb dX1_hasLast_62 (by decide) ?_
        exact ih (i + 1) H locs ls (by omega) (by omega) (fun j hj => by
          by_cases e : j = i
          · rw [e]; exact fun h => absurd h.1 hbit
          · exact h1 j (by omega)) hP hD hS (lv_sub hl [1, 2, 3, 0] rfl)
      · have hbit := lj_pIn.mp c20
        have h5i := h50 i
        refine lv_aload_n hx hb dX1_hasLast_23 rfl (lv_at hl 0 rfl) ?_
        refine m_get (v := .ref g.2.1) hx hb hts hown hK hP 0 (by decide) rfl q134 rfl dX1_hasLast_24 ?_
        refine lv_iload_n hx hb dX1_hasLast_27 rfl (lv_at hl 3 rfl) ?_
        refine ya_iald (v := nI (len i)) hx hb hK hP 1 0 rfl rfl (by omega) (by decide) (hL i (by omega)) dX1_hasLast_28 ?_
        refine lv_if_le (tgt := 59) hx hb dX1_hasLast_29 (by decide) (fun c29 => ?_) (fun c29 => ?_)
        · rw [lj_le0 (by omega)] at c29
          refine lv_iinc (v := nI (i + 1)) (lv' := [(3, .int (nI (i + 1))), (0, .ref g.1), (1, .int (nI mm)), (2, .int (nI (lj_sm mm.testBit len 11)))]) hx hb dX1_hasLast_59 hl (k := 3) rfl (lj_inc1 _) (by decide) rfl (fun ls hl => ?_)
          refine lv_goto (tgt := 8) hx hb dX1_hasLast_62 (by decide) ?_
          exact ih (i + 1) H locs ls (by omega) (by omega) (fun j hj => by
            by_cases e : j = i
            · rw [e]; exact fun h => by have := h.2.1; omega
            · exact h1 j (by omega)) hP hD hS (lv_sub hl [1, 2, 3, 0] rfl)
        · rw [lj_le0 (by omega)] at c29
          have h2i := h200 i (by omega)
          refine lv_iload_n hx hb dX1_hasLast_32 rfl (lv_at hl 2 rfl) ?_
          refine lv_aload_n hx hb dX1_hasLast_33 rfl (lv_at hl 0 rfl) ?_
          refine m_get (v := .ref g.2.2.1) hx hb hts hown hK hP 1 (by decide) rfl q135 rfl dX1_hasLast_34 ?_
          refine lv_iload_n hx hb dX1_hasLast_37 rfl (lv_at hl 3 rfl) ?_
          refine ya_iald (v := nI (dl i)) hx hb hK hP 2 1 rfl rfl (by omega) (by decide) (hD0 i (by omega) (by omega)) dX1_hasLast_38 ?_
          refine lv_icmp_gt (tgt := 59) hx hb dX1_hasLast_39 (by decide) (fun c39 => ?_) (fun c39 => ?_)
          · rw [nI_ltI (by omega) (by omega)] at c39
            refine lv_iinc (v := nI (i + 1)) (lv' := [(3, .int (nI (i + 1))), (0, .ref g.1), (1, .int (nI mm)), (2, .int (nI (lj_sm mm.testBit len 11)))]) hx hb dX1_hasLast_59 hl (k := 3) rfl (lj_inc1 _) (by decide) rfl (fun ls hl => ?_)
            refine lv_goto (tgt := 8) hx hb dX1_hasLast_62 (by decide) ?_
            exact ih (i + 1) H locs ls (by omega) (by omega) (fun j hj => by
              by_cases e : j = i
              · rw [e]; exact fun h => by have := h.2.2.1; omega
              · exact h1 j (by omega)) hP hD hS (lv_sub hl [1, 2, 3, 0] rfl)
          · rw [nI_ltI (by omega) (by omega)] at c39
            refine lv_aload_n hx hb dX1_hasLast_42 rfl (lv_at hl 0 rfl) ?_
            refine m_get (v := .ref g.2.2.2.2.1) hx hb hts hown hK hP 3 (by decide) rfl q137 rfl dX1_hasLast_43 ?_
            refine lv_iload_n hx hb dX1_hasLast_46 rfl (lv_at hl 1 rfl) ?_
            refine lv_iconst (v := nI 1) hx hb dX1_hasLast_47 (by decide) ?_
            refine lv_iload_n hx hb dX1_hasLast_48 rfl (lv_at hl 3 rfl) ?_
            refine lv_ishl hx hb dX1_hasLast_49 ?_
            refine lj_top (y := nI (2 ^ i)) (lj_shl (by omega)) ?_
            refine lv_iconst (v := (-1)) hx hb dX1_hasLast_50 (by decide) ?_
            refine lv_ixor hx hb dX1_hasLast_51 ?_
            refine lj_top (y := nI (lj_cp (2 ^ i))) (lj_not _) ?_
            refine lv_iand hx hb dX1_hasLast_52 ?_
            refine lj_top (y := nI (mm &&& (lj_cp (2 ^ i)))) (lj_and _ _) ?_
            refine ya_zald (v := lj_pI (lj_fe len dl (mm &&& lj_cp (2 ^ i)).testBit)) hx hb hK hP 4 3 rfl rfl (Nat.lt_of_le_of_lt lj_andle hmm) (by decide) (hG _ (lj_clrlt (by omega) hbit)) dX1_hasLast_53 ?_
            refine lv_if_eq (tgt := 59) hx hb dX1_hasLast_54 (by decide) (fun c54 => ?_) (fun c54 => ?_)
            · refine lv_iinc (v := nI (i + 1)) (lv' := [(3, .int (nI (i + 1))), (0, .ref g.1), (1, .int (nI mm)), (2, .int (nI (lj_sm mm.testBit len 11)))]) hx hb dX1_hasLast_59 hl (k := 3) rfl (lj_inc1 _) (by decide) rfl (fun ls hl => ?_)
              refine lv_goto (tgt := 8) hx hb dX1_hasLast_62 (by decide) ?_
              exact ih (i + 1) H locs ls (by omega) (by omega) (fun j hj => by
                by_cases e : j = i
                · rw [e]; exact fun h => lj_pI0.mp c54 ((lj_la_bit hmm).mpr h.2.2.2)
                · exact h1 j (by omega)) hP hD hS (lv_sub hl [1, 2, 3, 0] rfl)
            · exact kf i H locs ls (by omega) ⟨hbit, by omega, by omega, (lj_la_bit hmm).mp (lj_pIn.mp c54)⟩ hP hD hS

set_option maxHeartbeats 4000000 in
set_option maxRecDepth 100000 in
theorem metM_hasLast (l : Launch) (dd : va_G) (g : MG) (L D F G J : Nat → Int32) (len dl : Nat → Nat) (fm : Nat → Bool) (hM : lj_MR len dl fm L D F) (mm : Nat) (hmm : mm < 1024) (h0 : 0 < mm) (hG : ∀ x, x < mm → G x = lj_pI (lj_fe len dl x.testBit)) : zMi l dd (tyM g) (wM g) g.1 yX1_hasLast cX1_hasLast 4 (some .boolean) 2 45 [.int (nI mm)] (L, D, F, G, J) (fun r v => r = lj_pI (lj_fe len dl mm.testBit) ∧ v = (L, D, F, G, J)) := by
  refine zMi_of RX1 (by decide) rfl (Nat.le_of_ble_eq_true rfl) ?_
  intro p e s m below meth c A hx hb hr hml hown hts hlocks hA hK hP hD hS ls hl
  have hl : lv_has ls 4 [(0, .ref g.1), (1, .int (nI mm))] := hl
  obtain ⟨hL, hD0, hF, h50, h10, h200⟩ := id hM
  refine lv_aload_n hx hb dX1_hasLast_0 rfl (lv_at hl 0 rfl) ?_
  refine lv_iload_n hx hb dX1_hasLast_1 rfl (lv_at hl 1 rfl) ?_
  refine z_calli (wf := wM g) (n := 1) (As := [.int (nI mm)]) (rest := []) ⟨hx, hb, hml, hown, hts⟩ hK hP hD hS hA (metM_timeOf l dd g L D F G J len hL mm hmm) (lw_V q188 q190 qs11 q19 q191) (by decide +kernel) ⟨Nat.le_of_ble_eq_true rfl, Nat.le_of_ble_eq_true rfl⟩ (ci := 1) rfl rfl rfl rfl hl.1 rfl (Nat.le_of_ble_eq_true rfl) dX1_hasLast_2 ⟨Nat.zero_le _, Nat.zero_le _⟩ (fun r2 u2 H locs hpo hP hD hS => ?_)
  obtain ⟨hrr, rfl⟩ := hpo
  subst hrr
  refine lv_istore_n (lv' := [(2, .int (nI (lj_sm mm.testBit len 11))), (0, .ref g.1), (1, .int (nI mm))]) hx hb dX1_hasLast_5 rfl hl (by decide) rfl (fun ls hl => ?_)
  refine lv_iconst (v := nI 0) hx hb dX1_hasLast_6 (by decide) ?_
  refine lv_istore_n (lv' := [(3, .int (nI 0)), (2, .int (nI (lj_sm mm.testBit len 11))), (0, .ref g.1), (1, .int (nI mm))]) hx hb dX1_hasLast_7 rfl hl (by decide) rfl (fun ls hl => ?_)
  refine lpM_hasLast hx hb hts hown hml (Nat.le_of_ble_eq_true rfl) (Nat.le_of_ble_eq_true rfl) hA hK len dl fm hM mm hmm hG (fun H locs ls h1 hP hD hS => ?_) (fun i H locs ls hi hla hP hD hS => ?_) 11 0 H locs ls (by omega) (by omega) (fun j hj => absurd hj (by omega)) hP hD hS (lv_sub hl [2, 3, 1, 0] rfl)
  · refine lv_iconst (v := nI 0) hx hb dX1_hasLast_65 (by decide) ?_
    exact z_zret (wf := wM g) (u := (L, D, F, G, J)) hx hb hr rfl hlocks hK hP hD hS dX1_hasLast_66 (⟨(lj_f (lj_la_f hmm h0 h1)).symm, rfl⟩)
  · refine lv_iconst (v := nI 1) hx hb dX1_hasLast_57 (by decide) ?_
    exact z_zret (wf := wM g) (u := (L, D, F, G, J)) hx hb hr rfl hlocks hK hP hD hS dX1_hasLast_58 (⟨(lj_t (lj_la_t hi hla)).symm, rfl⟩)

set_option maxHeartbeats 4000000 in
set_option maxRecDepth 100000 in
theorem lpM_findGood {p : Program} {l : Launch} {e : Env} {Rm : Room} {s : State} {m : MethodId} {args : Array Value} {below : List Frame} {meth : Method} {c : Code} {Q : State → Prop} {dd : va_G} {A : Nat → Prop} {L D F J : Nat → Int32} {g : MG} (hx : p.tables.exec = Jvm.exec) (hb : c.code = cX1_findGood) (hts : ∀ w ∈ lw_all, w.before args s = true) (hown : s.vm.findClass RX1 = some m.cls) (hml : c.maxLocals = 2) (hRf : 3 ≤ Rm.frames) (hRl : 68 ≤ Rm.locals) (hA : ∀ q : Nat, s.heap.size ≤ q → A q) (hK : va_K dd vwCl (tyM g) s) (len dl : Nat → Nat) (fm : Nat → Bool) (hM : lj_MR len dl fm L D F)
    (kx : ∀ (G : Nat → Int32) (H : Heap) (locs : List Loc) (ls : Array Slot), (∀ x, x < 1024 → G x = lj_pI (lj_fe len dl x.testBit)) → va_P dd vwCl (wM g (L, D, F, G, J)) H → va_D A (wM g (L, D, F, G, J)) → va_S A s.heap H locs → W p l e Rm s m args below meth c H locs 0 0 Q (F0 m 33 ls [])) :
    ∀ (n : Nat) (q : Nat) (G : Nat → Int32) (H : Heap) (locs : List Loc) (ls : Array Slot), 1024 - q < n → 1 ≤ q → q ≤ 1024 → (∀ x, x < q → G x = lj_pI (lj_fe len dl x.testBit)) → va_P dd vwCl (wM g (L, D, F, G, J)) H → va_D A (wM g (L, D, F, G, J)) → va_S A s.heap H locs →  lv_has ls 2 [(0, .ref g.1), (1, .int (nI q))] → W p l e Rm s m args below meth c H locs 0 0 Q (F0 m 9 ls []) := by
  intro n
  induction n with
  | zero =>
    intro q G H locs ls hn
    exact absurd hn (Nat.not_lt_zero _)
  | succ n ih =>
    intro q G H locs ls hn hq1 hq h1 hP hD hS hl
    refine lv_iload_n hx hb dX1_findGood_9 rfl (lv_at hl 1 rfl) ?_
    refine lv_sipush (v := nI 1024) hx hb dX1_findGood_10 (by decide) ?_
    refine lv_icmp_ge (tgt := 33) hx hb dX1_findGood_13 (by decide) (fun c13 => ?_) (fun c13 => ?_)
    · rw [nI_leI (by omega) (by omega)] at c13
      exact kx G H locs ls (fun x hx => h1 x (by omega)) hP hD hS
    · rw [nI_leI (by omega) (by omega)] at c13
      refine lv_aload_n hx hb dX1_findGood_16 rfl (lv_at hl 0 rfl) ?_
      refine m_get (v := .ref g.2.2.2.2.1) hx hb hts hown hK hP 3 (by decide) rfl q137 rfl dX1_findGood_17 ?_
      refine lv_iload_n hx hb dX1_findGood_20 rfl (lv_at hl 1 rfl) ?_
      refine lv_aload_n hx hb dX1_findGood_21 rfl (lv_at hl 0 rfl) ?_
      refine lv_iload_n hx hb dX1_findGood_22 rfl (lv_at hl 1 rfl) ?_
      refine z_calli (wf := wM g) (n := 1) (As := [.int (nI q)]) (rest := [.int (nI q), .ref g.2.2.2.2.1]) ⟨hx, hb, hml, hown, hts⟩ hK hP hD hS hA (metM_hasLast l dd g L D F G J len dl fm hM q (by omega) (by omega) h1) (lw_V q184 q186 qs10 q19 q187) (by decide +kernel) ⟨by omega, by omega⟩ (ci := 1) rfl rfl rfl rfl hl.1 rfl (Nat.le_of_ble_eq_true rfl) dX1_findGood_23 ⟨Nat.zero_le _, Nat.zero_le _⟩ (fun r23 u23 H locs hpo hP hD hS => ?_)
      obtain ⟨hrr, rfl⟩ := hpo
      subst hrr
      refine ya_zast (ws' := wM g (L, D, F, upd G q (lj_pI (lj_fe len dl q.testBit)), J)) hx hb hK hP hD hS 4 3 rfl rfl (by omega) (by decide) (lj_vz _) rfl dX1_findGood_26 (fun H locs hP hD hS => ?_)
      refine lv_iinc (v := nI (q + 1)) (lv' := [(1, .int (nI (q + 1))), (0, .ref g.1)]) hx hb dX1_findGood_27 hl (k := 1) rfl (lj_inc1 _) (by decide) rfl (fun ls hl => ?_)
      refine lv_goto (tgt := 9) hx hb dX1_findGood_30 (by decide) ?_
      exact ih (q + 1) _ H locs ls (by omega) (by omega) (by omega) (fun x hx => by
        by_cases e : x = q
        · rw [e]; exact lj_upd_s
        · rw [lj_upd_n e]; exact h1 x (by omega)) hP hD hS (lv_sub hl [1, 0] rfl)

set_option maxHeartbeats 4000000 in
set_option maxRecDepth 100000 in
theorem metM_findGood (l : Launch) (dd : va_G) (g : MG) (L D F G J : Nat → Int32) (len dl : Nat → Nat) (fm : Nat → Bool) (hM : lj_MR len dl fm L D F) : zMv l dd (tyM g) (wM g) g.1 yX1_findGood cX1_findGood 2 none 3 68 [] (L, D, F, G, J) (fun v => ∃ G2 : Nat → Int32, (∀ x, x < 1024 → G2 x = lj_pI (lj_fe len dl x.testBit)) ∧ v = (L, D, F, G2, J)) := by
  refine zMv_of RX1 (by decide) rfl (Nat.le_of_ble_eq_true rfl) ?_
  intro p e s m below meth c A hx hb hr hml hown hts hlocks hA hK hP hD hS ls hl
  have hl : lv_has ls 2 [(0, .ref g.1)] := hl
  refine lv_aload_n hx hb dX1_findGood_0 rfl (lv_at hl 0 rfl) ?_
  refine m_get (v := .ref g.2.2.2.2.1) hx hb hts hown hK hP 3 (by decide) rfl q137 rfl dX1_findGood_1 ?_
  refine lv_iconst (v := nI 0) hx hb dX1_findGood_4 (by decide) ?_
  refine lv_iconst (v := nI 1) hx hb dX1_findGood_5 (by decide) ?_
  refine ya_zast (ws' := wM g (L, D, F, upd G 0 (nI 1), J)) hx hb hK hP hD hS 4 3 rfl rfl (by omega) (by decide) rfl rfl dX1_findGood_6 (fun H locs hP hD hS => ?_)
  refine lv_iconst (v := nI 1) hx hb dX1_findGood_7 (by decide) ?_
  refine lv_istore_n (lv' := [(1, .int (nI 1)), (0, .ref g.1)]) hx hb dX1_findGood_8 rfl hl (by decide) rfl (fun ls hl => ?_)
  refine lpM_findGood hx hb hts hown hml (Nat.le_of_ble_eq_true rfl) (Nat.le_of_ble_eq_true rfl) hA hK len dl fm hM (fun G2 H locs ls h1 hP hD hS => ?_) 1024 1 (upd G 0 (nI 1)) H locs ls (by omega) (by omega) (by omega) (fun x hx => by
    rw [show x = 0 by omega, lj_upd_s]
    exact (lj_t (lj_fe_0 (fun i _ => Nat.zero_testBit i))).symm) hP hD hS (lv_sub hl [1, 0] rfl)
  exact z_vret (wf := wM g) (u := (L, D, F, G2, J)) hx hb hr hlocks hK hP hD hS dX1_findGood_33 (⟨G2, h1, rfl⟩)

set_option maxHeartbeats 4000000 in
set_option maxRecDepth 100000 in
theorem metM_feasible (l : Launch) (dd : va_G) (g : MG) (L D F G J : Nat → Int32) (len dl : Nat → Nat) (fm : Nat → Bool) (hM : lj_MR len dl fm L D F) (p0 : Int32) : zMi l dd (tyM g) (wM g) g.1 yX1_feasible cX1_feasible 2 (some .boolean) 4 89 [.int p0] (L, D, F, G, J) (fun rr v => rr = lj_pI (lj_pfeas len dl p0) ∧ lj_MV len dl fm v) := by
  refine zMi_of RX1 (by decide) rfl (Nat.le_of_ble_eq_true rfl) ?_
  intro p e s m below meth c A hx hb hr hml hown hts hlocks hA hK hP hD hS ls hl
  have hl : lv_has ls 2 [(0, .ref g.1), (1, .int p0)] := hl
  refine lv_iload_n hx hb dX1_feasible_0 rfl (lv_at hl 1 rfl) ?_
  refine lv_if_lt (tgt := 11) hx hb dX1_feasible_1 (by decide) (fun c1 => ?_) (fun c1 => ?_)
  · refine lv_iconst (v := nI 0) hx hb dX1_feasible_11 (by decide) ?_
    exact z_zret (wf := wM g) (u := (L, D, F, G, J)) hx hb hr rfl hlocks hK hP hD hS dX1_feasible_12 (⟨(lj_f (fun h => by obtain ⟨m2, h2, e2, -⟩ := h; exact absurd c1 (by rw [e2]; exact nI_pos (by omega)))).symm, L, D, F, G, J, rfl, hM⟩)
  · refine lv_iload_n hx hb dX1_feasible_4 rfl (lv_at hl 1 rfl) ?_
    refine lv_sipush (v := nI 1023) hx hb dX1_feasible_5 (by decide) ?_
    refine lv_icmp_le (tgt := 13) hx hb dX1_feasible_8 (by decide) (fun c8 => ?_) (fun c8 => ?_)
    · obtain ⟨mm, hmm0, rfl⟩ := nI_of c1
      rw [nI_leI hmm0 (by decide)] at c8
      refine lv_aload_n hx hb dX1_feasible_13 rfl (lv_at hl 0 rfl) ?_
      refine z_callv (wf := wM g) (n := 0) (As := []) (rest := []) ⟨hx, hb, hml, hown, hts⟩ hK hP hD hS hA (metM_findGood l dd g L D F G J len dl fm hM) (lw_V q180 q182 qs9 q19 q183) (by decide +kernel) ⟨Nat.le_of_ble_eq_true rfl, Nat.le_of_ble_eq_true rfl⟩ (ci := 1) rfl rfl rfl rfl hl.1 rfl (Nat.le_of_ble_eq_true rfl) dX1_feasible_14 ⟨Nat.zero_le _, Nat.zero_le _⟩ (fun u14 H locs hpo hP hD hS => ?_)
      obtain ⟨G2, hG2, rfl⟩ := hpo
      refine lv_aload_n hx hb dX1_feasible_17 rfl (lv_at hl 0 rfl) ?_
      refine m_get (v := .ref g.2.2.2.2.1) hx hb hts hown hK hP 3 (by decide) rfl q137 rfl dX1_feasible_18 ?_
      refine lv_iload_n hx hb dX1_feasible_21 rfl (lv_at hl 1 rfl) ?_
      refine ya_zald (v := lj_pI (lj_fe len dl mm.testBit)) hx hb hK hP 4 3 rfl rfl (by omega) (by decide) (hG2 mm (by omega)) dX1_feasible_22 ?_
      exact z_zret (wf := wM g) (u := (L, D, F, G2, J)) hx hb hr (lj_narz _) hlocks hK hP hD hS dX1_feasible_23 (⟨lj_congr ⟨fun h => ⟨mm, by omega, rfl, h⟩, fun h => by obtain ⟨m2, h2, e2, h3⟩ := h; rw [nI_eq (by omega) (by omega)] at e2; rw [e2]; exact h3⟩, L, D, F, G2, J, rfl, hM⟩)
    · refine lv_iconst (v := nI 0) hx hb dX1_feasible_11 (by decide) ?_
      exact z_zret (wf := wM g) (u := (L, D, F, G, J)) hx hb hr rfl hlocks hK hP hD hS dX1_feasible_12 (⟨(lj_f (fun h => by obtain ⟨m2, h2, e2, -⟩ := h; exact absurd (by rw [e2]; exact nI_le (by omega) (by decide)) c8)).symm, L, D, F, G, J, rfl, hM⟩)
end
section
/-! M: firmSet, most, mostInTime, leastTime, affordable -/
set_option maxHeartbeats 4000000 in
set_option maxRecDepth 100000 in
theorem lpM_firmSet {p : Program} {l : Launch} {e : Env} {Rm : Room} {s : State} {m : MethodId} {args : Array Value} {below : List Frame} {meth : Method} {c : Code} {Q : State → Prop} {dd : va_G} {L D F G J : Nat → Int32} {g : MG} {H : Heap} {locs : List Loc} (hx : p.tables.exec = Jvm.exec) (hb : c.code = cX1_firmSet) (hts : ∀ w ∈ lw_all, w.before args s = true) (hown : s.vm.findClass RX1 = some m.cls) (hK : va_K dd vwCl (tyM g) s) (hP : va_P dd vwCl (wM g (L, D, F, G, J)) H) (len dl : Nat → Nat) (fm : Nat → Bool) (hM : lj_MR len dl fm L D F)
    (kx : ∀ (mm : Nat) (ls : Array Slot), lj_fz len fm 10 mm → lv_has ls 3 [(1, .int (nI mm))] → W p l e Rm s m args below meth c H locs 0 0 Q (F0 m 40 ls [])) :
    ∀ (n : Nat) (i mm : Nat) (ls : Array Slot), 10 - i < n → i ≤ 10 → lj_fz len fm i mm →  lv_has ls 3 [(0, .ref g.1), (1, .int (nI mm)), (2, .int (nI i))] → W p l e Rm s m args below meth c H locs 0 0 Q (F0 m 4 ls []) := by
  intro n
  induction n with
  | zero =>
    intro i mm ls hn
    exact absurd hn (Nat.not_lt_zero _)
  | succ n ih =>
    intro i mm ls hn hi hz hl
    obtain ⟨hL, hD0, hF, h50, h10, h200⟩ := id hM
    refine lv_iload_n hx hb dX1_firmSet_4 rfl (lv_at hl 2 rfl) ?_
    refine lv_bipush (v := nI 10) hx hb dX1_firmSet_5 (by decide) ?_
    refine lv_icmp_ge (tgt := 40) hx hb dX1_firmSet_7 (by decide) (fun c7 => ?_) (fun c7 => ?_)
    · rw [nI_leI (by omega) (by omega)] at c7
      have e : i = 10 := by omega
      subst e
      exact kx mm ls hz (lv_sub hl [1] rfl)
    · rw [nI_leI (by omega) (by omega)] at c7
      refine lv_aload_n hx hb dX1_firmSet_10 rfl (lv_at hl 0 rfl) ?_
      refine m_get (v := .ref g.2.1) hx hb hts hown hK hP 0 (by decide) rfl q134 rfl dX1_firmSet_11 ?_
      refine lv_iload_n hx hb dX1_firmSet_14 rfl (lv_at hl 2 rfl) ?_
      refine ya_iald (v := nI (len i)) hx hb hK hP 1 0 rfl rfl (by omega) (by decide) (hL i (by omega)) dX1_firmSet_15 ?_
      refine lv_if_le (tgt := 34) hx hb dX1_firmSet_16 (by decide) (fun c16 => ?_) (fun c16 => ?_)
      · rw [lj_le0 (by have := h50 i; omega)] at c16
        refine lv_iinc (v := nI (i + 1)) (lv' := [(2, .int (nI (i + 1))), (0, .ref g.1), (1, .int (nI mm))]) hx hb dX1_firmSet_34 hl (k := 2) rfl (lj_inc1 _) (by decide) rfl (fun ls hl => ?_)
        refine lv_goto (tgt := 4) hx hb dX1_firmSet_37 (by decide) ?_
        exact ih (i + 1) _ ls (by omega) (by omega) (lj_fz_skip hz (lj_fs_no (Or.inl c16))) (lv_sub hl [1, 2, 0] rfl)
      · rw [lj_le0 (by have := h50 i; omega)] at c16
        refine lv_aload_n hx hb dX1_firmSet_19 rfl (lv_at hl 0 rfl) ?_
        refine m_get (v := .ref g.2.2.2.1) hx hb hts hown hK hP 2 (by decide) rfl q136 rfl dX1_firmSet_20 ?_
        refine lv_iload_n hx hb dX1_firmSet_23 rfl (lv_at hl 2 rfl) ?_
        refine ya_zald (v := lj_pI (fm i = true)) hx hb hK hP 3 2 rfl rfl (by omega) (by decide) (hF i (by omega)) dX1_firmSet_24 ?_
        refine lv_if_eq (tgt := 34) hx hb dX1_firmSet_25 (by decide) (fun c25 => ?_) (fun c25 => ?_)
        · refine lv_iinc (v := nI (i + 1)) (lv' := [(2, .int (nI (i + 1))), (0, .ref g.1), (1, .int (nI mm))]) hx hb dX1_firmSet_34 hl (k := 2) rfl (lj_inc1 _) (by decide) rfl (fun ls hl => ?_)
          refine lv_goto (tgt := 4) hx hb dX1_firmSet_37 (by decide) ?_
          exact ih (i + 1) _ ls (by omega) (by omega) (lj_fz_skip hz (lj_fs_no (Or.inr (lj_pI0.mp c25)))) (lv_sub hl [1, 2, 0] rfl)
        · refine lv_iload_n hx hb dX1_firmSet_28 rfl (lv_at hl 1 rfl) ?_
          refine lv_iconst (v := nI 1) hx hb dX1_firmSet_29 (by decide) ?_
          refine lv_iload_n hx hb dX1_firmSet_30 rfl (lv_at hl 2 rfl) ?_
          refine lv_ishl hx hb dX1_firmSet_31 ?_
          refine lj_top (y := nI (2 ^ i)) (lj_shl (by omega)) ?_
          refine lv_ior hx hb dX1_firmSet_32 ?_
          refine lj_top (y := nI (mm ||| (2 ^ i))) (lj_or _ _) ?_
          refine lv_istore_n (lv' := [(1, .int (nI (mm ||| (2 ^ i)))), (0, .ref g.1), (2, .int (nI i))]) hx hb dX1_firmSet_33 rfl hl (by decide) rfl (fun ls hl => ?_)
          refine lv_iinc (v := nI (i + 1)) (lv' := [(2, .int (nI (i + 1))), (1, .int (nI (mm ||| (2 ^ i)))), (0, .ref g.1)]) hx hb dX1_firmSet_34 hl (k := 2) rfl (lj_inc1 _) (by decide) rfl (fun ls hl => ?_)
          refine lv_goto (tgt := 4) hx hb dX1_firmSet_37 (by decide) ?_
          exact ih (i + 1) _ ls (by omega) (by omega) (lj_fz_add hz (by omega) (lj_fs_yes c16 (lj_pIn.mp c25))) (lv_sub hl [2, 1, 0] rfl)

set_option maxHeartbeats 4000000 in
set_option maxRecDepth 100000 in
theorem metM_firmSet (l : Launch) (dd : va_G) (g : MG) (L D F G J : Nat → Int32) (len dl : Nat → Nat) (fm : Nat → Bool) (hM : lj_MR len dl fm L D F) : zMi l dd (tyM g) (wM g) g.1 yX1_firmSet cX1_firmSet 3 (some .int) 0 0 [] (L, D, F, G, J) (fun r v => ∃ mm : Nat, mm < 1024 ∧ mm.testBit = lj_fs len fm ∧ r = nI mm ∧ v = (L, D, F, G, J)) := by
  refine zMi_of RX1 (by decide) rfl (Nat.le_of_ble_eq_true rfl) ?_
  intro p e s m below meth c A hx hb hr hml hown hts hlocks hA hK hP hD hS ls hl
  have hl : lv_has ls 3 [(0, .ref g.1)] := hl
  refine lv_iconst (v := nI 0) hx hb dX1_firmSet_0 (by decide) ?_
  refine lv_istore_n (lv' := [(1, .int (nI 0)), (0, .ref g.1)]) hx hb dX1_firmSet_1 rfl hl (by decide) rfl (fun ls hl => ?_)
  refine lv_iconst (v := nI 0) hx hb dX1_firmSet_2 (by decide) ?_
  refine lv_istore_n (lv' := [(2, .int (nI 0)), (1, .int (nI 0)), (0, .ref g.1)]) hx hb dX1_firmSet_3 rfl hl (by decide) rfl (fun ls hl => ?_)
  refine lpM_firmSet hx hb hts hown hK hP len dl fm hM (fun mm ls hz hl => ?_) 11 0 0 ls (by omega) (by omega) lj_fz_0 (lv_sub hl [2, 1, 0] rfl)
  refine lv_iload_n hx hb dX1_firmSet_40 rfl (lv_at hl 0 rfl) ?_
  exact z_iret (wf := wM g) (u := (L, D, F, G, J)) hx hb hr hlocks hK hP hD hS dX1_firmSet_41 (⟨mm, hz.1, lj_fz_end hz hM.2.2.2.2.1, rfl, rfl⟩)

set_option maxHeartbeats 4000000 in
set_option maxRecDepth 100000 in
theorem lpM_most {p : Program} {l : Launch} {e : Env} {Rm : Room} {s : State} {m : MethodId} {args : Array Value} {below : List Frame} {meth : Method} {c : Code} {Q : State → Prop} {dd : va_G} {A : Nat → Prop} {L D F G J : Nat → Int32} {g : MG} (hx : p.tables.exec = Jvm.exec) (hb : c.code = cX1_most) (hts : ∀ w ∈ lw_all, w.before args s = true) (hown : s.vm.findClass RX1 = some m.cls) (hml : c.maxLocals = 5) (hRf : 2 ≤ Rm.frames) (hRl : 45 ≤ Rm.locals) (hA : ∀ q : Nat, s.heap.size ≤ q → A q) (hK : va_K dd vwCl (tyM g) s) (len dl : Nat → Nat) (am : Nat) (ham : am < 1024) (hG : (∀ x, x < 1024 → G x = lj_pI (lj_fe len dl x.testBit)))
    (kx : ∀ (b : Int32) (H : Heap) (locs : List Loc) (ls : Array Slot), lj_mo len dl am.testBit 1024 b → va_P dd vwCl (wM g (L, D, F, G, J)) H → va_D A (wM g (L, D, F, G, J)) → va_S A s.heap H locs → lv_has ls 5 [(2, .int b)] → W p l e Rm s m args below meth c H locs 0 0 Q (F0 m 55 ls [])) :
    ∀ (n : Nat) (q : Nat) (b : Int32) (H : Heap) (locs : List Loc) (ls : Array Slot), 1024 - q < n → q ≤ 1024 → lj_mo len dl am.testBit q b → va_P dd vwCl (wM g (L, D, F, G, J)) H → va_D A (wM g (L, D, F, G, J)) → va_S A s.heap H locs →  lv_has ls 5 [(0, .ref g.1), (1, .int (nI am)), (2, .int b), (3, .int (nI q))] → W p l e Rm s m args below meth c H locs 0 0 Q (F0 m 9 ls []) := by
  intro n
  induction n with
  | zero =>
    intro q b H locs ls hn
    exact absurd hn (Nat.not_lt_zero _)
  | succ n ih =>
    intro q b H locs ls hn hq hmo hP hD hS hl
    refine lv_iload_n hx hb dX1_most_9 rfl (lv_at hl 3 rfl) ?_
    refine lv_sipush (v := nI 1024) hx hb dX1_most_10 (by decide) ?_
    refine lv_icmp_ge (tgt := 55) hx hb dX1_most_13 (by decide) (fun c13 => ?_) (fun c13 => ?_)
    · rw [nI_leI (by omega) (by omega)] at c13
      exact kx b H locs ls (by rw [show 1024 = q by omega]; exact hmo) hP hD hS (lv_sub hl [2] rfl)
    · rw [nI_leI (by omega) (by omega)] at c13
      refine lv_aload_n hx hb dX1_most_16 rfl (lv_at hl 0 rfl) ?_
      refine m_get (v := .ref g.2.2.2.2.1) hx hb hts hown hK hP 3 (by decide) rfl q137 rfl dX1_most_17 ?_
      refine lv_iload_n hx hb dX1_most_20 rfl (lv_at hl 3 rfl) ?_
      refine ya_zald (v := lj_pI (lj_fe len dl q.testBit)) hx hb hK hP 4 3 rfl rfl (by omega) (by decide) (hG q (by omega)) dX1_most_21 ?_
      refine lv_if_eq (tgt := 49) hx hb dX1_most_22 (by decide) (fun c22 => ?_) (fun c22 => ?_)
      · refine lv_iinc (v := nI (q + 1)) (lv' := [(3, .int (nI (q + 1))), (0, .ref g.1), (1, .int (nI am)), (2, .int b)]) hx hb dX1_most_49 hl (k := 3) rfl (lj_inc1 _) (by decide) rfl (fun ls hl => ?_)
        refine lv_goto (tgt := 9) hx hb dX1_most_52 (by decide) ?_
        exact ih (q + 1) _ H locs ls (by omega) (by omega) (lj_mo_skip hmo (fun h => lj_pI0.mp c22 h.1)) hP hD hS (lv_sub hl [1, 2, 3, 0] rfl)
      · refine lv_iload_n hx hb dX1_most_25 rfl (lv_at hl 1 rfl) ?_
        refine lv_iload_n hx hb dX1_most_26 rfl (lv_at hl 3 rfl) ?_
        refine lv_iconst (v := (-1)) hx hb dX1_most_27 (by decide) ?_
        refine lv_ixor hx hb dX1_most_28 ?_
        refine lj_top (y := nI (lj_cp q)) (lj_not _) ?_
        refine lv_iand hx hb dX1_most_29 ?_
        refine lj_top (y := nI (am &&& (lj_cp q))) (lj_and _ _) ?_
        refine lv_if_ne (tgt := 49) hx hb dX1_most_30 (by decide) (fun c30 => ?_) (fun c30 => ?_)
        · refine lv_iinc (v := nI (q + 1)) (lv' := [(3, .int (nI (q + 1))), (0, .ref g.1), (1, .int (nI am)), (2, .int b)]) hx hb dX1_most_49 hl (k := 3) rfl (lj_inc1 _) (by decide) rfl (fun ls hl => ?_)
          refine lv_goto (tgt := 9) hx hb dX1_most_52 (by decide) ?_
          exact ih (q + 1) _ H locs ls (by omega) (by omega) (lj_mo_skip hmo (fun h => c30 ((lj_sub2 ham).mpr h.2))) hP hD hS (lv_sub hl [1, 2, 3, 0] rfl)
        · have hcn : lj_cn len dl am.testBit q := ⟨lj_pIn.mp c22, (lj_sub2 ham).mp c30⟩
          refine lv_aload_n hx hb dX1_most_33 rfl (lv_at hl 0 rfl) ?_
          refine lv_iload_n hx hb dX1_most_34 rfl (lv_at hl 3 rfl) ?_
          refine z_calli (wf := wM g) (n := 1) (As := [.int (nI q)]) (rest := []) ⟨hx, hb, hml, hown, hts⟩ hK hP hD hS hA (metM_sizeOf l dd g L D F G J q (by omega)) (lw_V q208 q210 qs15 q19 q211) (by decide +kernel) ⟨by omega, by omega⟩ (ci := 1) rfl rfl rfl rfl hl.1 rfl (Nat.le_of_ble_eq_true rfl) dX1_most_35 ⟨Nat.zero_le _, Nat.zero_le _⟩ (fun r35 u35 H locs hpo hP hD hS => ?_)
          obtain ⟨hrr, rfl⟩ := hpo
          subst hrr
          refine lv_istore (lv' := [(4, .int (nI (lj_sz q.testBit))), (0, .ref g.1), (1, .int (nI am)), (2, .int b), (3, .int (nI q))]) hx hb dX1_most_38 hl (by decide) rfl (fun ls hl => ?_)
          refine lv_iload hx hb dX1_most_40 (lv_at hl 0 rfl) ?_
          refine lv_iload_n hx hb dX1_most_42 rfl (lv_at hl 3 rfl) ?_
          refine lv_icmp_le (tgt := 49) hx hb dX1_most_43 (by decide) (fun c43 => ?_) (fun c43 => ?_)
          · refine lv_iinc (v := nI (q + 1)) (lv' := [(3, .int (nI (q + 1))), (4, .int (nI (lj_sz q.testBit))), (0, .ref g.1), (1, .int (nI am)), (2, .int b)]) hx hb dX1_most_49 hl (k := 4) rfl (lj_inc1 _) (by decide) rfl (fun ls hl => ?_)
            refine lv_goto (tgt := 9) hx hb dX1_most_52 (by decide) ?_
            exact ih (q + 1) _ H locs ls (by omega) (by omega) (lj_mo_keep hmo c43) hP hD hS (lv_sub hl [2, 3, 4, 0] rfl)
          · refine lv_iload hx hb dX1_most_46 (lv_at hl 0 rfl) ?_
            refine lv_istore_n (lv' := [(2, .int (nI (lj_sz q.testBit))), (4, .int (nI (lj_sz q.testBit))), (0, .ref g.1), (1, .int (nI am)), (3, .int (nI q))]) hx hb dX1_most_48 rfl hl (by decide) rfl (fun ls hl => ?_)
            refine lv_iinc (v := nI (q + 1)) (lv' := [(3, .int (nI (q + 1))), (2, .int (nI (lj_sz q.testBit))), (4, .int (nI (lj_sz q.testBit))), (0, .ref g.1), (1, .int (nI am))]) hx hb dX1_most_49 hl (k := 4) rfl (lj_inc1 _) (by decide) rfl (fun ls hl => ?_)
            refine lv_goto (tgt := 9) hx hb dX1_most_52 (by decide) ?_
            exact ih (q + 1) _ H locs ls (by omega) (by omega) (lj_mo_new hmo hcn c43) hP hD hS (lv_sub hl [3, 4, 1, 0] rfl)

set_option maxHeartbeats 4000000 in
set_option maxRecDepth 100000 in
theorem metM_most (l : Launch) (dd : va_G) (g : MG) (L D F G J : Nat → Int32) (len dl : Nat → Nat) (fm : Nat → Bool) (hM : lj_MR len dl fm L D F) (am : Nat) (ham : am < 1024) : zMi l dd (tyM g) (wM g) g.1 yX1_most cX1_most 5 (some .int) 4 89 [.int (nI am)] (L, D, F, G, J) (fun r v => lj_pmost len dl am.testBit r ∧ ∃ G2 : Nat → Int32, (∀ x, x < 1024 → G2 x = lj_pI (lj_fe len dl x.testBit)) ∧ v = (L, D, F, G2, J)) := by
  refine zMi_of RX1 (by decide) rfl (Nat.le_of_ble_eq_true rfl) ?_
  intro p e s m below meth c A hx hb hr hml hown hts hlocks hA hK hP hD hS ls hl
  have hl : lv_has ls 5 [(0, .ref g.1), (1, .int (nI am))] := hl
  refine lv_aload_n hx hb dX1_most_0 rfl (lv_at hl 0 rfl) ?_
  refine z_callv (wf := wM g) (n := 0) (As := []) (rest := []) ⟨hx, hb, hml, hown, hts⟩ hK hP hD hS hA (metM_findGood l dd g L D F G J len dl fm hM) (lw_V q180 q182 qs9 q19 q183) (by decide +kernel) ⟨Nat.le_of_ble_eq_true rfl, Nat.le_of_ble_eq_true rfl⟩ (ci := 1) rfl rfl rfl rfl hl.1 rfl (Nat.le_of_ble_eq_true rfl) dX1_most_1 ⟨Nat.zero_le _, Nat.zero_le _⟩ (fun u1 H locs hpo hP hD hS => ?_)
  obtain ⟨G2, hG2, rfl⟩ := hpo
  refine lv_bipush (v := (-3)) hx hb dX1_most_4 (by decide) ?_
  refine lv_istore_n (lv' := [(2, .int (-3)), (0, .ref g.1), (1, .int (nI am))]) hx hb dX1_most_6 rfl hl (by decide) rfl (fun ls hl => ?_)
  refine lv_iconst (v := nI 0) hx hb dX1_most_7 (by decide) ?_
  refine lv_istore_n (lv' := [(3, .int (nI 0)), (2, .int (-3)), (0, .ref g.1), (1, .int (nI am))]) hx hb dX1_most_8 rfl hl (by decide) rfl (fun ls hl => ?_)
  refine lpM_most hx hb hts hown hml (Nat.le_of_ble_eq_true rfl) (Nat.le_of_ble_eq_true rfl) hA hK len dl am ham hG2 (fun b H locs ls hmo hP hD hS hl => ?_) 1025 0 (-3) H locs ls (by omega) (by omega) lj_mo_0 hP hD hS (lv_sub hl [2, 3, 1, 0] rfl)
  refine lv_iload_n hx hb dX1_most_55 rfl (lv_at hl 0 rfl) ?_
  exact z_iret (wf := wM g) (u := (L, D, F, G2, J)) hx hb hr hlocks hK hP hD hS dX1_most_56 (⟨lj_mo_end hM.2.2.2.2.1 hmo, G2, hG2, rfl⟩)

set_option maxHeartbeats 4000000 in
set_option maxRecDepth 100000 in
theorem metM_mostInTime (l : Launch) (dd : va_G) (g : MG) (L D F G J : Nat → Int32) (len dl : Nat → Nat) (fm : Nat → Bool) (hM : lj_MR len dl fm L D F) : zMi l dd (tyM g) (wM g) g.1 yX1_mostInTime cX1_mostInTime 2 (some .int) 5 113 [] (L, D, F, G, J) (fun rr v => lj_pmost len dl (lj_fs len fm) rr ∧ ∃ G2 : Nat → Int32, v = (L, D, F, G2, J)) := by
  refine zMi_of RX1 (by decide) rfl (Nat.le_of_ble_eq_true rfl) ?_
  intro p e s m below meth c A hx hb hr hml hown hts hlocks hA hK hP hD hS ls hl
  have hl : lv_has ls 2 [(0, .ref g.1)] := hl
  refine lv_aload_n hx hb dX1_mostInTime_0 rfl (lv_at hl 0 rfl) ?_
  refine z_calli (wf := wM g) (n := 0) (As := []) (rest := []) ⟨hx, hb, hml, hown, hts⟩ hK hP hD hS hA (metM_firmSet l dd g L D F G J len dl fm hM) (lw_V q200 q202 qs13 q19 q203) (by decide +kernel) ⟨Nat.le_of_ble_eq_true rfl, Nat.le_of_ble_eq_true rfl⟩ (ci := 1) rfl rfl rfl rfl hl.1 rfl (Nat.le_of_ble_eq_true rfl) dX1_mostInTime_1 ⟨Nat.zero_le _, Nat.zero_le _⟩ (fun r1 u1 H locs hpo hP hD hS => ?_)
  obtain ⟨mm, hmm, hfs, hrr, rfl⟩ := hpo
  subst hrr
  refine lv_istore_n (lv' := [(1, .int (nI mm)), (0, .ref g.1)]) hx hb dX1_mostInTime_4 rfl hl (by decide) rfl (fun ls hl => ?_)
  refine lv_aload_n hx hb dX1_mostInTime_5 rfl (lv_at hl 1 rfl) ?_
  refine lv_iload_n hx hb dX1_mostInTime_6 rfl (lv_at hl 0 rfl) ?_
  refine z_calli (wf := wM g) (n := 1) (As := [.int (nI mm)]) (rest := []) ⟨hx, hb, hml, hown, hts⟩ hK hP hD hS hA (metM_most l dd g L D F G J len dl fm hM mm hmm) (lw_V q204 q206 qs14 q19 q207) (by decide +kernel) ⟨Nat.le_of_ble_eq_true rfl, Nat.le_of_ble_eq_true rfl⟩ (ci := 1) rfl rfl rfl rfl hl.1 rfl (Nat.le_of_ble_eq_true rfl) dX1_mostInTime_7 ⟨Nat.zero_le _, Nat.zero_le _⟩ (fun r7 u7 H locs hpo hP hD hS => ?_)
  obtain ⟨hpm, G2, hG2, rfl⟩ := hpo
  rw [hfs] at hpm
  exact z_iret (wf := wM g) (u := (L, D, F, G2, J)) hx hb hr hlocks hK hP hD hS dX1_mostInTime_10 (⟨hpm, G2, rfl⟩)

set_option maxHeartbeats 4000000 in
set_option maxRecDepth 100000 in
theorem lpM_leastTime {p : Program} {l : Launch} {e : Env} {Rm : Room} {s : State} {m : MethodId} {args : Array Value} {below : List Frame} {meth : Method} {c : Code} {Q : State → Prop} {dd : va_G} {A : Nat → Prop} {L D F G J : Nat → Int32} {g : MG} (hx : p.tables.exec = Jvm.exec) (hb : c.code = cX1_leastTime) (hts : ∀ w ∈ lw_all, w.before args s = true) (hown : s.vm.findClass RX1 = some m.cls) (hml : c.maxLocals = 6) (hRf : 2 ≤ Rm.frames) (hRl : 45 ≤ Rm.locals) (hA : ∀ q : Nat, s.heap.size ≤ q → A q) (hK : va_K dd vwCl (tyM g) s) (len dl : Nat → Nat) (hL : ∀ i, i < 10 → L i = nI (len i)) (h50 : ∀ i, len i ≤ 50) (am : Nat) (ham : am < 1024) (cnt : Int32) (hG : (∀ x, x < 1024 → G x = lj_pI (lj_fe len dl x.testBit)))
    (kx : ∀ (b : Int32) (H : Heap) (locs : List Loc) (ls : Array Slot), lj_lt len dl am.testBit cnt 1024 b → va_P dd vwCl (wM g (L, D, F, G, J)) H → va_D A (wM g (L, D, F, G, J)) → va_S A s.heap H locs → lv_has ls 6 [(3, .int b)] → W p l e Rm s m args below meth c H locs 0 0 Q (F0 m 83 ls [])) :
    ∀ (n : Nat) (q : Nat) (b : Int32) (H : Heap) (locs : List Loc) (ls : Array Slot), 1024 - q < n → q ≤ 1024 → lj_lt len dl am.testBit cnt q b → va_P dd vwCl (wM g (L, D, F, G, J)) H → va_D A (wM g (L, D, F, G, J)) → va_S A s.heap H locs →  lv_has ls 6 [(0, .ref g.1), (1, .int (nI am)), (2, .int cnt), (3, .int b), (4, .int (nI q))] → W p l e Rm s m args below meth c H locs 0 0 Q (F0 m 17 ls []) := by
  intro n
  induction n with
  | zero =>
    intro q b H locs ls hn
    exact absurd hn (Nat.not_lt_zero _)
  | succ n ih =>
    intro q b H locs ls hn hq hlt hP hD hS hl
    refine lv_iload hx hb dX1_leastTime_17 (lv_at hl 4 rfl) ?_
    refine lv_sipush (v := nI 1024) hx hb dX1_leastTime_19 (by decide) ?_
    refine lv_icmp_ge (tgt := 83) hx hb dX1_leastTime_22 (by decide) (fun c22 => ?_) (fun c22 => ?_)
    · rw [nI_leI (by omega) (by omega)] at c22
      exact kx b H locs ls (by rw [show 1024 = q by omega]; exact hlt) hP hD hS (lv_sub hl [3] rfl)
    · rw [nI_leI (by omega) (by omega)] at c22
      refine lv_aload_n hx hb dX1_leastTime_25 rfl (lv_at hl 0 rfl) ?_
      refine m_get (v := .ref g.2.2.2.2.1) hx hb hts hown hK hP 3 (by decide) rfl q137 rfl dX1_leastTime_26 ?_
      refine lv_iload hx hb dX1_leastTime_29 (lv_at hl 4 rfl) ?_
      refine ya_zald (v := lj_pI (lj_fe len dl q.testBit)) hx hb hK hP 4 3 rfl rfl (by omega) (by decide) (hG q (by omega)) dX1_leastTime_31 ?_
      refine lv_if_eq (tgt := 77) hx hb dX1_leastTime_32 (by decide) (fun c32 => ?_) (fun c32 => ?_)
      · refine lv_iinc (v := nI (q + 1)) (lv' := [(4, .int (nI (q + 1))), (0, .ref g.1), (1, .int (nI am)), (2, .int cnt), (3, .int b)]) hx hb dX1_leastTime_77 hl (k := 4) rfl (lj_inc1 _) (by decide) rfl (fun ls hl => ?_)
        refine lv_goto (tgt := 17) hx hb dX1_leastTime_80 (by decide) ?_
        exact ih (q + 1) _ H locs ls (by omega) (by omega) (lj_lt_skip hlt (fun h => absurd h.1 (lj_pI0.mp c32))) hP hD hS (lv_sub hl [1, 2, 3, 4, 0] rfl)
      · refine lv_iload_n hx hb dX1_leastTime_35 rfl (lv_at hl 1 rfl) ?_
        refine lv_iload hx hb dX1_leastTime_36 (lv_at hl 4 rfl) ?_
        refine lv_iconst (v := (-1)) hx hb dX1_leastTime_38 (by decide) ?_
        refine lv_ixor hx hb dX1_leastTime_39 ?_
        refine lj_top (y := nI (lj_cp q)) (lj_not _) ?_
        refine lv_iand hx hb dX1_leastTime_40 ?_
        refine lj_top (y := nI (am &&& (lj_cp q))) (lj_and _ _) ?_
        refine lv_if_ne (tgt := 77) hx hb dX1_leastTime_41 (by decide) (fun c41 => ?_) (fun c41 => ?_)
        · refine lv_iinc (v := nI (q + 1)) (lv' := [(4, .int (nI (q + 1))), (0, .ref g.1), (1, .int (nI am)), (2, .int cnt), (3, .int b)]) hx hb dX1_leastTime_77 hl (k := 4) rfl (lj_inc1 _) (by decide) rfl (fun ls hl => ?_)
          refine lv_goto (tgt := 17) hx hb dX1_leastTime_80 (by decide) ?_
          exact ih (q + 1) _ H locs ls (by omega) (by omega) (lj_lt_skip hlt (fun h => absurd ((lj_sub2 ham).mpr h.2) c41)) hP hD hS (lv_sub hl [1, 2, 3, 4, 0] rfl)
        · have hcn : lj_cn len dl am.testBit q := ⟨lj_pIn.mp c32, (lj_sub2 ham).mp c41⟩
          refine lv_aload_n hx hb dX1_leastTime_44 rfl (lv_at hl 0 rfl) ?_
          refine lv_iload hx hb dX1_leastTime_45 (lv_at hl 4 rfl) ?_
          refine z_calli (wf := wM g) (n := 1) (As := [.int (nI q)]) (rest := []) ⟨hx, hb, hml, hown, hts⟩ hK hP hD hS hA (metM_sizeOf l dd g L D F G J q (by omega)) (lw_V q208 q210 qs15 q19 q211) (by decide +kernel) ⟨by omega, by omega⟩ (ci := 1) rfl rfl rfl rfl hl.1 rfl (Nat.le_of_ble_eq_true rfl) dX1_leastTime_47 ⟨Nat.zero_le _, Nat.zero_le _⟩ (fun r47 u47 H locs hpo hP hD hS => ?_)
          obtain ⟨hrr, rfl⟩ := hpo
          subst hrr
          refine lv_iload_n hx hb dX1_leastTime_50 rfl (lv_at hl 2 rfl) ?_
          refine lv_icmp_ne (tgt := 77) hx hb dX1_leastTime_51 (by decide) (fun c51 => ?_) (fun c51 => ?_)
          · refine lv_iinc (v := nI (q + 1)) (lv' := [(4, .int (nI (q + 1))), (0, .ref g.1), (1, .int (nI am)), (2, .int cnt), (3, .int b)]) hx hb dX1_leastTime_77 hl (k := 4) rfl (lj_inc1 _) (by decide) rfl (fun ls hl => ?_)
            refine lv_goto (tgt := 17) hx hb dX1_leastTime_80 (by decide) ?_
            exact ih (q + 1) _ H locs ls (by omega) (by omega) (lj_lt_skip hlt (fun _ => c51)) hP hD hS (lv_sub hl [1, 2, 3, 4, 0] rfl)
          · refine lv_aload_n hx hb dX1_leastTime_54 rfl (lv_at hl 0 rfl) ?_
            refine lv_iload hx hb dX1_leastTime_55 (lv_at hl 4 rfl) ?_
            refine z_calli (wf := wM g) (n := 1) (As := [.int (nI q)]) (rest := []) ⟨hx, hb, hml, hown, hts⟩ hK hP hD hS hA (metM_timeOf l dd g L D F G J len hL q (by omega)) (lw_V q188 q190 qs11 q19 q191) (by decide +kernel) ⟨by omega, by omega⟩ (ci := 1) rfl rfl rfl rfl hl.1 rfl (Nat.le_of_ble_eq_true rfl) dX1_leastTime_57 ⟨Nat.zero_le _, Nat.zero_le _⟩ (fun r57 u57 H locs hpo hP hD hS => ?_)
            obtain ⟨hrr, rfl⟩ := hpo
            subst hrr
            have hTM : lj_tm len q.testBit ≤ 550 := lj_sm_leB (b := 50) (n := 11) (fun i _ => h50 i)
            refine lv_istore (lv' := [(5, .int (nI (lj_tm len q.testBit))), (0, .ref g.1), (1, .int (nI am)), (2, .int cnt), (3, .int b), (4, .int (nI q))]) hx hb dX1_leastTime_60 hl (by decide) rfl (fun ls hl => ?_)
            refine lv_iload_n hx hb dX1_leastTime_62 rfl (lv_at hl 4 rfl) ?_
            refine lv_bipush (v := (-3)) hx hb dX1_leastTime_63 (by decide) ?_
            refine lv_icmp_eq (tgt := 74) hx hb dX1_leastTime_65 (by decide) (fun c65 => ?_) (fun c65 => ?_)
            · refine lv_iload hx hb dX1_leastTime_74 (lv_at hl 0 rfl) ?_
              refine lv_istore_n (lv' := [(3, .int (nI (lj_tm len q.testBit))), (5, .int (nI (lj_tm len q.testBit))), (0, .ref g.1), (1, .int (nI am)), (2, .int cnt), (4, .int (nI q))]) hx hb dX1_leastTime_76 rfl hl (by decide) rfl (fun ls hl => ?_)
              refine lv_iinc (v := nI (q + 1)) (lv' := [(4, .int (nI (q + 1))), (3, .int (nI (lj_tm len q.testBit))), (5, .int (nI (lj_tm len q.testBit))), (0, .ref g.1), (1, .int (nI am)), (2, .int cnt)]) hx hb dX1_leastTime_77 hl (k := 5) rfl (lj_inc1 _) (by decide) rfl (fun ls hl => ?_)
              refine lv_goto (tgt := 17) hx hb dX1_leastTime_80 (by decide) ?_
              exact ih (q + 1) _ H locs ls (by omega) (by omega) (lj_lt_new hlt hcn c51 hTM (Or.inl c65)) hP hD hS (lv_sub hl [3, 4, 5, 1, 0] rfl)
            · refine lv_iload hx hb dX1_leastTime_68 (lv_at hl 0 rfl) ?_
              refine lv_iload_n hx hb dX1_leastTime_70 rfl (lv_at hl 4 rfl) ?_
              refine lv_icmp_ge (tgt := 77) hx hb dX1_leastTime_71 (by decide) (fun c71 => ?_) (fun c71 => ?_)
              · refine lv_iinc (v := nI (q + 1)) (lv' := [(4, .int (nI (q + 1))), (5, .int (nI (lj_tm len q.testBit))), (0, .ref g.1), (1, .int (nI am)), (2, .int cnt), (3, .int b)]) hx hb dX1_leastTime_77 hl (k := 5) rfl (lj_inc1 _) (by decide) rfl (fun ls hl => ?_)
                refine lv_goto (tgt := 17) hx hb dX1_leastTime_80 (by decide) ?_
                exact ih (q + 1) _ H locs ls (by omega) (by omega) (lj_lt_keep hlt c65 hTM c71) hP hD hS (lv_sub hl [2, 3, 4, 5, 0] rfl)
              · refine lv_iload hx hb dX1_leastTime_74 (lv_at hl 0 rfl) ?_
                refine lv_istore_n (lv' := [(3, .int (nI (lj_tm len q.testBit))), (5, .int (nI (lj_tm len q.testBit))), (0, .ref g.1), (1, .int (nI am)), (2, .int cnt), (4, .int (nI q))]) hx hb dX1_leastTime_76 rfl hl (by decide) rfl (fun ls hl => ?_)
                refine lv_iinc (v := nI (q + 1)) (lv' := [(4, .int (nI (q + 1))), (3, .int (nI (lj_tm len q.testBit))), (5, .int (nI (lj_tm len q.testBit))), (0, .ref g.1), (1, .int (nI am)), (2, .int cnt)]) hx hb dX1_leastTime_77 hl (k := 5) rfl (lj_inc1 _) (by decide) rfl (fun ls hl => ?_)
                refine lv_goto (tgt := 17) hx hb dX1_leastTime_80 (by decide) ?_
                exact ih (q + 1) _ H locs ls (by omega) (by omega) (lj_lt_new hlt hcn c51 hTM (Or.inr c71)) hP hD hS (lv_sub hl [3, 4, 5, 1, 0] rfl)

set_option maxHeartbeats 4000000 in
set_option maxRecDepth 100000 in
theorem metM_leastTime (l : Launch) (dd : va_G) (g : MG) (L D F G J : Nat → Int32) (len dl : Nat → Nat) (fm : Nat → Bool) (hM : lj_MR len dl fm L D F) : zMi l dd (tyM g) (wM g) g.1 yX1_leastTime cX1_leastTime 6 (some .int) 5 113 [] (L, D, F, G, J) (fun rr v => lj_pleast len dl (lj_fs len fm) rr ∧ ∃ G2 : Nat → Int32, v = (L, D, F, G2, J)) := by
  refine zMi_of RX1 (by decide) rfl (Nat.le_of_ble_eq_true rfl) ?_
  intro p e s m below meth c A hx hb hr hml hown hts hlocks hA hK hP hD hS ls hl
  have hl : lv_has ls 6 [(0, .ref g.1)] := hl
  refine lv_aload_n hx hb dX1_leastTime_0 rfl (lv_at hl 0 rfl) ?_
  refine z_calli (wf := wM g) (n := 0) (As := []) (rest := []) ⟨hx, hb, hml, hown, hts⟩ hK hP hD hS hA (metM_firmSet l dd g L D F G J len dl fm hM) (lw_V q200 q202 qs13 q19 q203) (by decide +kernel) ⟨Nat.le_of_ble_eq_true rfl, Nat.le_of_ble_eq_true rfl⟩ (ci := 1) rfl rfl rfl rfl hl.1 rfl (Nat.le_of_ble_eq_true rfl) dX1_leastTime_1 ⟨Nat.zero_le _, Nat.zero_le _⟩ (fun r1 u1 H locs hpo hP hD hS => ?_)
  obtain ⟨mm, hmm, hfs, hrr, rfl⟩ := hpo
  subst hrr
  refine lv_istore_n (lv' := [(1, .int (nI mm)), (0, .ref g.1)]) hx hb dX1_leastTime_4 rfl hl (by decide) rfl (fun ls hl => ?_)
  refine lv_aload_n hx hb dX1_leastTime_5 rfl (lv_at hl 1 rfl) ?_
  refine lv_iload_n hx hb dX1_leastTime_6 rfl (lv_at hl 0 rfl) ?_
  refine z_calli (wf := wM g) (n := 1) (As := [.int (nI mm)]) (rest := []) ⟨hx, hb, hml, hown, hts⟩ hK hP hD hS hA (metM_most l dd g L D F G J len dl fm hM mm hmm) (lw_V q204 q206 qs14 q19 q207) (by decide +kernel) ⟨Nat.le_of_ble_eq_true rfl, Nat.le_of_ble_eq_true rfl⟩ (ci := 1) rfl rfl rfl rfl hl.1 rfl (Nat.le_of_ble_eq_true rfl) dX1_leastTime_7 ⟨Nat.zero_le _, Nat.zero_le _⟩ (fun r7 u7 H locs hpo hP hD hS => ?_)
  obtain ⟨hpm, G2, hG2, rfl⟩ := hpo
  refine lv_istore_n (lv' := [(2, .int r7), (1, .int (nI mm)), (0, .ref g.1)]) hx hb dX1_leastTime_10 rfl hl (by decide) rfl (fun ls hl => ?_)
  refine lv_bipush (v := (-3)) hx hb dX1_leastTime_11 (by decide) ?_
  refine lv_istore_n (lv' := [(3, .int (-3)), (2, .int r7), (1, .int (nI mm)), (0, .ref g.1)]) hx hb dX1_leastTime_13 rfl hl (by decide) rfl (fun ls hl => ?_)
  refine lv_iconst (v := nI 0) hx hb dX1_leastTime_14 (by decide) ?_
  refine lv_istore (lv' := [(4, .int (nI 0)), (3, .int (-3)), (2, .int r7), (1, .int (nI mm)), (0, .ref g.1)]) hx hb dX1_leastTime_15 hl (by decide) rfl (fun ls hl => ?_)
  refine lpM_leastTime hx hb hts hown hml (Nat.le_of_ble_eq_true rfl) (Nat.le_of_ble_eq_true rfl) hA hK len dl hM.1 hM.2.2.2.1 mm hmm r7 hG2 (fun b H locs ls hlt hP hD hS hl => ?_) 1025 0 (-3) H locs ls (by omega) (by omega) lj_lt_0 hP hD hS (lv_sub hl [4, 3, 2, 1, 0] rfl)
  have hle := lj_lt_end hM.2.2.2.2.1 hpm hlt
  rw [hfs] at hle
  refine lv_iload_n hx hb dX1_leastTime_83 rfl (lv_at hl 0 rfl) ?_
  exact z_iret (wf := wM g) (u := (L, D, F, G2, J)) hx hb hr hlocks hK hP hD hS dX1_leastTime_84 (⟨hle, G2, rfl⟩)

set_option maxHeartbeats 4000000 in
set_option maxRecDepth 100000 in
theorem metM_affordable (l : Launch) (dd : va_G) (g : MG) (L D F G J : Nat → Int32) (len dl : Nat → Nat) (fm : Nat → Bool) (hM : lj_MR len dl fm L D F) (p0 : Int32) : zMi l dd (tyM g) (wM g) g.1 yX1_affordable cX1_affordable 5 (some .boolean) 6 134 [.int p0] (L, D, F, G, J) (fun rr v => rr = lj_pI (lj_paff len dl (lj_fs len fm) p0) ∧ ∃ G2 : Nat → Int32, v = (L, D, F, G2, J)) := by
  refine zMi_of RX1 (by decide) rfl (Nat.le_of_ble_eq_true rfl) ?_
  intro p e s m below meth c A hx hb hr hml hown hts hlocks hA hK hP hD hS ls hl
  have hl : lv_has ls 5 [(0, .ref g.1), (1, .int p0)] := hl
  refine lv_aload_n hx hb dX1_affordable_0 rfl (lv_at hl 0 rfl) ?_
  refine lv_iload_n hx hb dX1_affordable_1 rfl (lv_at hl 1 rfl) ?_
  refine z_calli (wf := wM g) (n := 1) (As := [.int p0]) (rest := []) ⟨hx, hb, hml, hown, hts⟩ hK hP hD hS hA (metM_isJob l dd g L D F G J len hM.1 hM.2.2.2.1 p0) (lw_V q163 q165 qs8 q19 q166) (by decide +kernel) ⟨Nat.le_of_ble_eq_true rfl, Nat.le_of_ble_eq_true rfl⟩ (ci := 1) rfl rfl rfl rfl hl.1 rfl (Nat.le_of_ble_eq_true rfl) dX1_affordable_2 ⟨Nat.zero_le _, Nat.zero_le _⟩ (fun r2 u2 H locs hpo hP hD hS => ?_)
  obtain ⟨hpl, rfl⟩ := hpo
  refine lv_if_ne (tgt := 10) hx hb dX1_affordable_5 (by decide) (fun c5 => ?_) (fun c5 => ?_)
  · rw [hpl, lj_pIn] at c5
    obtain ⟨j, hj, rfl, h0⟩ := c5
    refine lv_aload_n hx hb dX1_affordable_10 rfl (lv_at hl 0 rfl) ?_
    refine z_calli (wf := wM g) (n := 0) (As := []) (rest := []) ⟨hx, hb, hml, hown, hts⟩ hK hP hD hS hA (metM_mostInTime l dd g L D F G J len dl fm hM) (lw_V q220 q197 q198 q19 q199) (by decide +kernel) ⟨Nat.le_of_ble_eq_true rfl, Nat.le_of_ble_eq_true rfl⟩ (ci := 1) rfl rfl rfl rfl hl.1 rfl (Nat.le_of_ble_eq_true rfl) dX1_affordable_11 ⟨Nat.zero_le _, Nat.zero_le _⟩ (fun r11 u11 H locs hpo hP hD hS => ?_)
    obtain ⟨hp1, G1, rfl⟩ := hpo
    refine lv_istore_n (lv' := [(2, .int r11), (0, .ref g.1), (1, .int (nI j))]) hx hb dX1_affordable_14 rfl hl (by decide) rfl (fun ls hl => ?_)
    refine lv_aload_n hx hb dX1_affordable_15 rfl (lv_at hl 1 rfl) ?_
    refine z_calli (wf := wM g) (n := 0) (As := []) (rest := []) ⟨hx, hb, hml, hown, hts⟩ hK hP hD hS hA (metM_firmSet l dd g L D F G1 J len dl fm hM) (lw_V q200 q202 qs13 q19 q203) (by decide +kernel) ⟨Nat.le_of_ble_eq_true rfl, Nat.le_of_ble_eq_true rfl⟩ (ci := 1) rfl rfl rfl rfl hl.1 rfl (Nat.le_of_ble_eq_true rfl) dX1_affordable_16 ⟨Nat.zero_le _, Nat.zero_le _⟩ (fun r16 u16 H locs hpo hP hD hS => ?_)
    obtain ⟨mm, hmm, hfs, hrr, rfl⟩ := hpo
    subst hrr
    refine lv_istore_n (lv' := [(3, .int (nI mm)), (2, .int r11), (0, .ref g.1), (1, .int (nI j))]) hx hb dX1_affordable_19 rfl hl (by decide) rfl (fun ls hl => ?_)
    refine lv_aload_n hx hb dX1_affordable_20 rfl (lv_at hl 2 rfl) ?_
    refine lv_iload_n hx hb dX1_affordable_21 rfl (lv_at hl 0 rfl) ?_
    refine lv_iconst (v := nI 1) hx hb dX1_affordable_22 (by decide) ?_
    refine lv_iload_n hx hb dX1_affordable_23 rfl (lv_at hl 3 rfl) ?_
    refine lv_ishl hx hb dX1_affordable_24 ?_
    refine lj_top (y := nI (2 ^ j)) (lj_shl (by omega)) ?_
    refine lv_ior hx hb dX1_affordable_25 ?_
    refine lj_top (y := nI (mm ||| (2 ^ j))) (lj_or _ _) ?_
    refine z_calli (wf := wM g) (n := 1) (As := [.int (nI (mm ||| (2 ^ j)))]) (rest := []) ⟨hx, hb, hml, hown, hts⟩ hK hP hD hS hA (metM_most l dd g L D F G1 J len dl fm hM (mm ||| 2 ^ j) (lj_orlt (n := 10) hmm hj)) (lw_V q204 q206 qs14 q19 q207) (by decide +kernel) ⟨Nat.le_of_ble_eq_true rfl, Nat.le_of_ble_eq_true rfl⟩ (ci := 1) rfl rfl rfl rfl hl.1 rfl (Nat.le_of_ble_eq_true rfl) dX1_affordable_26 ⟨Nat.zero_le _, Nat.zero_le _⟩ (fun r26 u26 H locs hpo hP hD hS => ?_)
    obtain ⟨hp2, G2, hG2, rfl⟩ := hpo
    have hp3 := lj_aff_up hfs hp2
    refine lv_istore (lv' := [(4, .int r26), (3, .int (nI mm)), (2, .int r11), (0, .ref g.1), (1, .int (nI j))]) hx hb dX1_affordable_29 hl (by decide) rfl (fun ls hl => ?_)
    refine lv_iload_n hx hb dX1_affordable_31 rfl (lv_at hl 2 rfl) ?_
    refine lv_bipush (v := (-3)) hx hb dX1_affordable_32 (by decide) ?_
    refine lv_icmp_eq (tgt := 47) hx hb dX1_affordable_34 (by decide) (fun c34 => ?_) (fun c34 => ?_)
    · refine lv_iconst (v := nI 0) hx hb dX1_affordable_47 (by decide) ?_
      exact z_zret (wf := wM g) (u := (L, D, F, G2, J)) hx hb hr rfl hlocks hK hP hD hS dX1_affordable_48 (⟨(lj_f (lj_aff_f hj hp1 hp3 (Or.inl c34))).symm, G2, rfl⟩)
    · refine lv_iload_n hx hb dX1_affordable_37 rfl (lv_at hl 2 rfl) ?_
      refine lv_iload hx hb dX1_affordable_38 (lv_at hl 0 rfl) ?_
      refine lv_icmp_ne (tgt := 47) hx hb dX1_affordable_40 (by decide) (fun c40 => ?_) (fun c40 => ?_)
      · refine lv_iconst (v := nI 0) hx hb dX1_affordable_47 (by decide) ?_
        exact z_zret (wf := wM g) (u := (L, D, F, G2, J)) hx hb hr rfl hlocks hK hP hD hS dX1_affordable_48 (⟨(lj_f (lj_aff_f hj hp1 hp3 (Or.inr c40))).symm, G2, rfl⟩)
      · refine lv_iconst (v := nI 1) hx hb dX1_affordable_43 (by decide) ?_
        refine lv_goto (tgt := 48) hx hb dX1_affordable_44 (by decide) ?_
        exact z_zret (wf := wM g) (u := (L, D, F, G2, J)) hx hb hr rfl hlocks hK hP hD hS dX1_affordable_48 (⟨(lj_t (lj_aff_t hj h0 hp1 hp3 c34 c40)).symm, G2, rfl⟩)
  · rw [hpl, lj_pI0] at c5
    refine lv_iconst (v := nI 0) hx hb dX1_affordable_8 (by decide) ?_
    exact z_zret (wf := wM g) (u := (L, D, F, G, J)) hx hb hr rfl hlocks hK hP hD hS dX1_affordable_9 (⟨(lj_f (lj_aff_p c5)).symm, G, rfl⟩)
end
section
/-! M: hasLastWith, welcome, elapse -/
set_option maxHeartbeats 4000000 in
set_option maxRecDepth 100000 in
theorem lpM_hasLastWith {p : Program} {l : Launch} {e : Env} {Rm : Room} {s : State} {m : MethodId} {args : Array Value} {below : List Frame} {meth : Method} {c : Code} {Q : State → Prop} {dd : va_G} {A : Nat → Prop} {L D F G J : Nat → Int32} {g : MG} (hx : p.tables.exec = Jvm.exec) (hb : c.code = cX1_hasLastWith) (hts : ∀ w ∈ lw_all, w.before args s = true) (hown : s.vm.findClass RX1 = some m.cls) (hml : c.maxLocals = 6) (hRf : 1 ≤ Rm.frames) (hRl : 22 ≤ Rm.locals) (hA : ∀ q : Nat, s.heap.size ≤ q → A q) (hK : va_K dd vwCl (tyM g) s) (len dl : Nat → Nat) (fm : Nat → Bool) (hM : lj_MR len dl fm L D F) (mm : Nat) (hmm : mm < 1024) (x y : Nat) (hx1 : 1 ≤ x) (hx2 : x ≤ 50) (hy : y ≤ 200) (hJ : ∀ z, z < mm → J z = lj_pI (lj_wl len dl x y z))
    (kx : ∀ (H : Heap) (locs : List Loc) (ls : Array Slot), (∀ j, j < 10 → ¬ lj_lw len dl x y mm j) → va_P dd vwCl (wM g (L, D, F, G, J)) H → va_D A (wM g (L, D, F, G, J)) → va_S A s.heap H locs → W p l e Rm s m args below meth c H locs 0 0 Q (F0 m 92 ls [])) (kf : ∀ (i : Nat) (H : Heap) (locs : List Loc) (ls : Array Slot), i < 10 → lj_lw len dl x y mm i → va_P dd vwCl (wM g (L, D, F, G, J)) H → va_D A (wM g (L, D, F, G, J)) → va_S A s.heap H locs → W p l e Rm s m args below meth c H locs 0 0 Q (F0 m 84 ls [])) :
    ∀ (n : Nat) (i : Nat) (H : Heap) (locs : List Loc) (ls : Array Slot), 10 - i < n → i ≤ 10 → (∀ j, j < i → ¬ lj_lw len dl x y mm j) → va_P dd vwCl (wM g (L, D, F, G, J)) H → va_D A (wM g (L, D, F, G, J)) → va_S A s.heap H locs →  lv_has ls 6 [(0, .ref g.1), (1, .int (nI mm)), (4, .int (nI ((lj_sm mm.testBit len 11) + x))), (5, .int (nI i))] → W p l e Rm s m args below meth c H locs 0 0 Q (F0 m 29 ls []) := by
  intro n
  induction n with
  | zero =>
    intro i H locs ls hn
    exact absurd hn (Nat.not_lt_zero _)
  | succ n ih =>
    intro i H locs ls hn hi h1 hP hD hS hl
    obtain ⟨hL, hD0, hF, h50, h10, h200⟩ := id hM
    have hTM : lj_sm mm.testBit len 11 ≤ 50 * 11 := lj_sm_leB (fun i _ => h50 i)
    refine lv_iload hx hb dX1_hasLastWith_29 (lv_at hl 3 rfl) ?_
    refine lv_bipush (v := nI 10) hx hb dX1_hasLastWith_31 (by decide) ?_
    refine lv_icmp_ge (tgt := 92) hx hb dX1_hasLastWith_33 (by decide) (fun c33 => ?_) (fun c33 => ?_)
    · rw [nI_leI (by omega) (by omega)] at c33
      exact kx H locs ls (fun j hj => h1 j (by omega)) hP hD hS
    · rw [nI_leI (by omega) (by omega)] at c33
      refine lv_aload_n hx hb dX1_hasLastWith_36 rfl (lv_at hl 0 rfl) ?_
      refine lv_iload_n hx hb dX1_hasLastWith_37 rfl (lv_at hl 1 rfl) ?_
      refine lv_iload hx hb dX1_hasLastWith_38 (lv_at hl 3 rfl) ?_
      refine z_calli (wf := wM g) (n := 2) (As := [.int (nI mm), .int (nI i)]) (rest := []) ⟨hx, hb, hml, hown, hts⟩ hK hP hD hS hA (metM_in l dd g L D F G J mm i (by omega) (by omega)) (lw_V q192 q194 qs12 q19 q195) (by decide +kernel) ⟨by omega, by omega⟩ (ci := 1) rfl rfl rfl rfl hl.1 rfl (Nat.le_of_ble_eq_true rfl) dX1_hasLastWith_40 ⟨Nat.zero_le _, Nat.zero_le _⟩ (fun r40 u40 H locs hpo hP hD hS => ?_)
      obtain ⟨hrr, rfl⟩ := hpo
      subst hrr
      refine lv_if_eq (tgt := 86) hx hb dX1_hasLastWith_43 (by decide) (fun c43 => ?_) (fun c43 => ?_)
      · have hbit := lj_pI0.mp c43
        refine lv_iinc (v := nI (i + 1)) (lv' := [(5, .int (nI (i + 1))), (0, .ref g.1), (1, .int (nI mm)), (4, .int (nI ((lj_sm mm.testBit len 11) + x)))]) hx hb dX1_hasLastWith_86 hl (k := 3) rfl (lj_inc1 _) (by decide) rfl (fun ls hl => ?_)
        refine lv_goto (tgt := 29) hx hb dX1_hasLastWith_89 (by decide) ?_
        exact ih (i + 1) H locs ls (by omega) (by omega) (fun j hj => by
          by_cases e : j = i
          · rw [e]; exact fun h => absurd h.1 hbit
          · exact h1 j (by omega)) hP hD hS (lv_sub hl [1, 2, 3, 0] rfl)
      · have hbit := lj_pIn.mp c43
        have h5i := h50 i
        refine lv_aload_n hx hb dX1_hasLastWith_46 rfl (lv_at hl 0 rfl) ?_
        refine m_get (v := .ref g.2.1) hx hb hts hown hK hP 0 (by decide) rfl q134 rfl dX1_hasLastWith_47 ?_
        refine lv_iload hx hb dX1_hasLastWith_50 (lv_at hl 3 rfl) ?_
        refine ya_iald (v := nI (len i)) hx hb hK hP 1 0 rfl rfl (by omega) (by decide) (hL i (by omega)) dX1_hasLastWith_52 ?_
        refine lv_if_le (tgt := 86) hx hb dX1_hasLastWith_53 (by decide) (fun c53 => ?_) (fun c53 => ?_)
        · rw [lj_le0 (by omega)] at c53
          refine lv_iinc (v := nI (i + 1)) (lv' := [(5, .int (nI (i + 1))), (0, .ref g.1), (1, .int (nI mm)), (4, .int (nI ((lj_sm mm.testBit len 11) + x)))]) hx hb dX1_hasLastWith_86 hl (k := 3) rfl (lj_inc1 _) (by decide) rfl (fun ls hl => ?_)
          refine lv_goto (tgt := 29) hx hb dX1_hasLastWith_89 (by decide) ?_
          exact ih (i + 1) H locs ls (by omega) (by omega) (fun j hj => by
            by_cases e : j = i
            · rw [e]; exact fun h => by have := h.2.1; omega
            · exact h1 j (by omega)) hP hD hS (lv_sub hl [1, 2, 3, 0] rfl)
        · rw [lj_le0 (by omega)] at c53
          have h2i := h200 i (by omega)
          refine lv_iload hx hb dX1_hasLastWith_56 (lv_at hl 2 rfl) ?_
          refine lv_aload_n hx hb dX1_hasLastWith_58 rfl (lv_at hl 0 rfl) ?_
          refine m_get (v := .ref g.2.2.1) hx hb hts hown hK hP 1 (by decide) rfl q135 rfl dX1_hasLastWith_59 ?_
          refine lv_iload hx hb dX1_hasLastWith_62 (lv_at hl 3 rfl) ?_
          refine ya_iald (v := nI (dl i)) hx hb hK hP 2 1 rfl rfl (by omega) (by decide) (hD0 i (by omega) (by omega)) dX1_hasLastWith_64 ?_
          refine lv_icmp_gt (tgt := 86) hx hb dX1_hasLastWith_65 (by decide) (fun c65 => ?_) (fun c65 => ?_)
          · rw [nI_ltI (by omega) (by omega)] at c65
            refine lv_iinc (v := nI (i + 1)) (lv' := [(5, .int (nI (i + 1))), (0, .ref g.1), (1, .int (nI mm)), (4, .int (nI ((lj_sm mm.testBit len 11) + x)))]) hx hb dX1_hasLastWith_86 hl (k := 3) rfl (lj_inc1 _) (by decide) rfl (fun ls hl => ?_)
            refine lv_goto (tgt := 29) hx hb dX1_hasLastWith_89 (by decide) ?_
            exact ih (i + 1) H locs ls (by omega) (by omega) (fun j hj => by
              by_cases e : j = i
              · rw [e]; exact fun h => by have := h.2.2.1; omega
              · exact h1 j (by omega)) hP hD hS (lv_sub hl [1, 2, 3, 0] rfl)
          · rw [nI_ltI (by omega) (by omega)] at c65
            refine lv_aload_n hx hb dX1_hasLastWith_68 rfl (lv_at hl 0 rfl) ?_
            refine m_get (v := .ref g.2.2.2.2.2.1) hx hb hts hown hK hP 4 (by decide) rfl q138 rfl dX1_hasLastWith_69 ?_
            refine lv_iload_n hx hb dX1_hasLastWith_72 rfl (lv_at hl 1 rfl) ?_
            refine lv_iconst (v := nI 1) hx hb dX1_hasLastWith_73 (by decide) ?_
            refine lv_iload hx hb dX1_hasLastWith_74 (lv_at hl 3 rfl) ?_
            refine lv_ishl hx hb dX1_hasLastWith_76 ?_
            refine lj_top (y := nI (2 ^ i)) (lj_shl (by omega)) ?_
            refine lv_iconst (v := (-1)) hx hb dX1_hasLastWith_77 (by decide) ?_
            refine lv_ixor hx hb dX1_hasLastWith_78 ?_
            refine lj_top (y := nI (lj_cp (2 ^ i))) (lj_not _) ?_
            refine lv_iand hx hb dX1_hasLastWith_79 ?_
            refine lj_top (y := nI (mm &&& (lj_cp (2 ^ i)))) (lj_and _ _) ?_
            refine ya_zald (v := lj_pI (lj_wl len dl x y (mm &&& lj_cp (2 ^ i)))) hx hb hK hP 5 4 rfl rfl (Nat.lt_of_le_of_lt lj_andle hmm) (by decide) (hJ _ (lj_clrlt (by omega) hbit)) dX1_hasLastWith_80 ?_
            refine lv_if_eq (tgt := 86) hx hb dX1_hasLastWith_81 (by decide) (fun c81 => ?_) (fun c81 => ?_)
            · refine lv_iinc (v := nI (i + 1)) (lv' := [(5, .int (nI (i + 1))), (0, .ref g.1), (1, .int (nI mm)), (4, .int (nI ((lj_sm mm.testBit len 11) + x)))]) hx hb dX1_hasLastWith_86 hl (k := 3) rfl (lj_inc1 _) (by decide) rfl (fun ls hl => ?_)
              refine lv_goto (tgt := 29) hx hb dX1_hasLastWith_89 (by decide) ?_
              exact ih (i + 1) H locs ls (by omega) (by omega) (fun j hj => by
                by_cases e : j = i
                · rw [e]; exact fun h => lj_pI0.mp c81 h.2.2.2
                · exact h1 j (by omega)) hP hD hS (lv_sub hl [1, 2, 3, 0] rfl)
            · exact kf i H locs ls (by omega) ⟨hbit, by omega, by omega, lj_pIn.mp c81⟩ hP hD hS

set_option maxHeartbeats 4000000 in
set_option maxRecDepth 100000 in
theorem metM_hasLastWith (l : Launch) (dd : va_G) (g : MG) (L D F G J : Nat → Int32) (len dl : Nat → Nat) (fm : Nat → Bool) (hM : lj_MR len dl fm L D F) (mm x y : Nat) (hmm : mm < 1024) (hx1 : 1 ≤ x) (hx2 : x ≤ 50) (hy : y ≤ 200) (hG : (∀ z, z < 1024 → G z = lj_pI (lj_fe len dl z.testBit))) (hJ : ∀ z, z < mm → J z = lj_pI (lj_wl len dl x y z)) : zMi l dd (tyM g) (wM g) g.1 yX1_hasLastWith cX1_hasLastWith 6 (some .boolean) 2 45 [.int (nI mm), .int (nI x), .int (nI y)] (L, D, F, G, J) (fun r v => r = lj_pI (lj_wl len dl x y mm) ∧ v = (L, D, F, G, J)) := by
  refine zMi_of RX1 (by decide) rfl (Nat.le_of_ble_eq_true rfl) ?_
  intro p e s m below meth c A hx hb hr hml hown hts hlocks hA hK hP hD hS ls hl
  have hl : lv_has ls 6 [(0, .ref g.1), (1, .int (nI mm)), (2, .int (nI x)), (3, .int (nI y))] := hl
  obtain ⟨hL, hD0, hF, h50, h10, h200⟩ := id hM
  have hTM : lj_sm mm.testBit len 11 ≤ 50 * 11 := lj_sm_leB (fun i _ => h50 i)
  refine lv_aload_n hx hb dX1_hasLastWith_0 rfl (lv_at hl 0 rfl) ?_
  refine lv_iload_n hx hb dX1_hasLastWith_1 rfl (lv_at hl 1 rfl) ?_
  refine z_calli (wf := wM g) (n := 1) (As := [.int (nI mm)]) (rest := []) ⟨hx, hb, hml, hown, hts⟩ hK hP hD hS hA (metM_timeOf l dd g L D F G J len hL mm hmm) (lw_V q188 q190 qs11 q19 q191) (by decide +kernel) ⟨Nat.le_of_ble_eq_true rfl, Nat.le_of_ble_eq_true rfl⟩ (ci := 1) rfl rfl rfl rfl hl.1 rfl (Nat.le_of_ble_eq_true rfl) dX1_hasLastWith_2 ⟨Nat.zero_le _, Nat.zero_le _⟩ (fun r2 u2 H locs hpo hP hD hS => ?_)
  obtain ⟨hrr, rfl⟩ := hpo
  subst hrr
  refine lv_iload_n hx hb dX1_hasLastWith_5 rfl (lv_at hl 2 rfl) ?_
  refine lv_iadd hx hb dX1_hasLastWith_6 ?_
  refine lj_top (y := nI ((lj_sm mm.testBit len 11) + x)) (nI_add _ _) ?_
  refine lv_istore (lv' := [(4, .int (nI ((lj_sm mm.testBit len 11) + x))), (0, .ref g.1), (1, .int (nI mm)), (2, .int (nI x)), (3, .int (nI y))]) hx hb dX1_hasLastWith_7 hl (by decide) rfl (fun ls hl => ?_)
  refine lv_aload_n hx hb dX1_hasLastWith_9 rfl (lv_at hl 1 rfl) ?_
  refine m_get (v := .ref g.2.2.2.2.1) hx hb hts hown hK hP 3 (by decide) rfl q137 rfl dX1_hasLastWith_10 ?_
  refine lv_iload_n hx hb dX1_hasLastWith_13 rfl (lv_at hl 2 rfl) ?_
  refine ya_zald (v := lj_pI (lj_fe len dl mm.testBit)) hx hb hK hP 4 3 rfl rfl (by omega) (by decide) (hG mm hmm) dX1_hasLastWith_14 ?_
  refine lv_if_eq (tgt := 26) hx hb dX1_hasLastWith_15 (by decide) (fun c15 => ?_) (fun c15 => ?_)
  · have hh1 : ¬ (lj_fe len dl mm.testBit ∧ (lj_sm mm.testBit len 11) + x ≤ y) := fun h => lj_pI0.mp c15 h.1
    refine lv_iconst (v := nI 0) hx hb dX1_hasLastWith_26 (by decide) ?_
    refine lv_istore (lv' := [(5, .int (nI 0)), (4, .int (nI ((lj_sm mm.testBit len 11) + x))), (0, .ref g.1), (1, .int (nI mm)), (2, .int (nI x)), (3, .int (nI y))]) hx hb dX1_hasLastWith_27 hl (by decide) rfl (fun ls hl => ?_)
    refine lpM_hasLastWith hx hb hts hown hml (Nat.le_of_ble_eq_true rfl) (Nat.le_of_ble_eq_true rfl) hA hK len dl fm hM mm hmm x y hx1 hx2 hy hJ (fun H locs ls h1 hP hD hS => ?_) (fun i H locs ls hi hlw hP hD hS => ?_) 11 0 H locs ls (by omega) (by omega) (fun j hj => absurd hj (by omega)) hP hD hS (lv_sub hl [2, 3, 1, 0] rfl)
    · refine lv_iconst (v := nI 0) hx hb dX1_hasLastWith_92 (by decide) ?_
      exact z_zret (wf := wM g) (u := (L, D, F, G, J)) hx hb hr rfl hlocks hK hP hD hS dX1_hasLastWith_93 (⟨(lj_f (lj_wl_f hmm hh1 h1)).symm, rfl⟩)
    · refine lv_iconst (v := nI 1) hx hb dX1_hasLastWith_84 (by decide) ?_
      exact z_zret (wf := wM g) (u := (L, D, F, G, J)) hx hb hr rfl hlocks hK hP hD hS dX1_hasLastWith_85 (⟨(lj_t (lj_wl_t2 hmm hi hlw)).symm, rfl⟩)
  · refine lv_iload hx hb dX1_hasLastWith_18 (lv_at hl 0 rfl) ?_
    refine lv_iload_n hx hb dX1_hasLastWith_20 rfl (lv_at hl 4 rfl) ?_
    refine lv_icmp_gt (tgt := 26) hx hb dX1_hasLastWith_21 (by decide) (fun c21 => ?_) (fun c21 => ?_)
    · rw [nI_ltI (by omega) (by omega)] at c21
      have hh1 : ¬ (lj_fe len dl mm.testBit ∧ (lj_sm mm.testBit len 11) + x ≤ y) := fun h => by have := h.2; omega
      refine lv_iconst (v := nI 0) hx hb dX1_hasLastWith_26 (by decide) ?_
      refine lv_istore (lv' := [(5, .int (nI 0)), (4, .int (nI ((lj_sm mm.testBit len 11) + x))), (0, .ref g.1), (1, .int (nI mm)), (2, .int (nI x)), (3, .int (nI y))]) hx hb dX1_hasLastWith_27 hl (by decide) rfl (fun ls hl => ?_)
      refine lpM_hasLastWith hx hb hts hown hml (Nat.le_of_ble_eq_true rfl) (Nat.le_of_ble_eq_true rfl) hA hK len dl fm hM mm hmm x y hx1 hx2 hy hJ (fun H locs ls h1 hP hD hS => ?_) (fun i H locs ls hi hlw hP hD hS => ?_) 11 0 H locs ls (by omega) (by omega) (fun j hj => absurd hj (by omega)) hP hD hS (lv_sub hl [2, 3, 1, 0] rfl)
      · refine lv_iconst (v := nI 0) hx hb dX1_hasLastWith_92 (by decide) ?_
        exact z_zret (wf := wM g) (u := (L, D, F, G, J)) hx hb hr rfl hlocks hK hP hD hS dX1_hasLastWith_93 (⟨(lj_f (lj_wl_f hmm hh1 h1)).symm, rfl⟩)
      · refine lv_iconst (v := nI 1) hx hb dX1_hasLastWith_84 (by decide) ?_
        exact z_zret (wf := wM g) (u := (L, D, F, G, J)) hx hb hr rfl hlocks hK hP hD hS dX1_hasLastWith_85 (⟨(lj_t (lj_wl_t2 hmm hi hlw)).symm, rfl⟩)
    · rw [nI_ltI (by omega) (by omega)] at c21
      refine lv_iconst (v := nI 1) hx hb dX1_hasLastWith_24 (by decide) ?_
      exact z_zret (wf := wM g) (u := (L, D, F, G, J)) hx hb hr rfl hlocks hK hP hD hS dX1_hasLastWith_25 (⟨(lj_t (lj_wl_t1 hmm hx1 (lj_pIn.mp c15) (by omega))).symm, rfl⟩)

set_option maxHeartbeats 4000000 in
set_option maxRecDepth 100000 in
theorem lpM_welcome {p : Program} {l : Launch} {e : Env} {Rm : Room} {s : State} {m : MethodId} {args : Array Value} {below : List Frame} {meth : Method} {c : Code} {Q : State → Prop} {dd : va_G} {A : Nat → Prop} {L D F G : Nat → Int32} {g : MG} (hx : p.tables.exec = Jvm.exec) (hb : c.code = cX1_welcome) (hts : ∀ w ∈ lw_all, w.before args s = true) (hown : s.vm.findClass RX1 = some m.cls) (hml : c.maxLocals = 6) (hRf : 3 ≤ Rm.frames) (hRl : 70 ≤ Rm.locals) (hA : ∀ q : Nat, s.heap.size ≤ q → A q) (hK : va_K dd vwCl (tyM g) s) (len dl : Nat → Nat) (fm : Nat → Bool) (hM : lj_MR len dl fm L D F) (mm c0 : Nat) (hmm : mm < 1024) (hc0 : c0 ≤ 11) (x y : Nat) (hx1 : 1 ≤ x) (hx2 : x ≤ 50) (hy : y ≤ 200) (hG : (∀ z, z < 1024 → G z = lj_pI (lj_fe len dl z.testBit)))
    (kx : ∀ (J : Nat → Int32) (H : Heap) (locs : List Loc) (ls : Array Slot), (∀ z, z < 1024 → ¬ (lj_wl len dl x y z ∧ (∀ i, i < 11 → mm.testBit i = true → z.testBit i = true) ∧ c0 < lj_sz z.testBit + 1)) → va_P dd vwCl (wM g (L, D, F, G, J)) H → va_D A (wM g (L, D, F, G, J)) → va_S A s.heap H locs → W p l e Rm s m args below meth c H locs 0 0 Q (F0 m 98 ls [])) (kf : ∀ (z : Nat) (J : Nat → Int32) (H : Heap) (locs : List Loc) (ls : Array Slot), z < 1024 → (lj_wl len dl x y z ∧ (∀ i, i < 11 → mm.testBit i = true → z.testBit i = true) ∧ c0 < lj_sz z.testBit + 1) → va_P dd vwCl (wM g (L, D, F, G, J)) H → va_D A (wM g (L, D, F, G, J)) → va_S A s.heap H locs → W p l e Rm s m args below meth c H locs 0 0 Q (F0 m 90 ls [])) :
    ∀ (n : Nat) (q : Nat) (J : Nat → Int32) (H : Heap) (locs : List Loc) (ls : Array Slot), 1024 - q < n → q ≤ 1024 → (∀ z, z < q → J z = lj_pI (lj_wl len dl x y z)) → (∀ z, z < q → ¬ (lj_wl len dl x y z ∧ (∀ i, i < 11 → mm.testBit i = true → z.testBit i = true) ∧ c0 < lj_sz z.testBit + 1)) → va_P dd vwCl (wM g (L, D, F, G, J)) H → va_D A (wM g (L, D, F, G, J)) → va_S A s.heap H locs →  lv_has ls 6 [(0, .ref g.1), (1, .int (nI x)), (2, .int (nI y)), (3, .int (nI mm)), (4, .int (nI c0)), (5, .int (nI q))] → W p l e Rm s m args below meth c H locs 0 0 Q (F0 m 35 ls []) := by
  intro n
  induction n with
  | zero =>
    intro q J H locs ls hn
    exact absurd hn (Nat.not_lt_zero _)
  | succ n ih =>
    intro q J H locs ls hn hq h1 h2 hP hD hS hl
    refine lv_iload hx hb dX1_welcome_35 (lv_at hl 5 rfl) ?_
    refine lv_sipush (v := nI 1024) hx hb dX1_welcome_37 (by decide) ?_
    refine lv_icmp_ge (tgt := 98) hx hb dX1_welcome_40 (by decide) (fun c40 => ?_) (fun c40 => ?_)
    · rw [nI_leI (by omega) (by omega)] at c40
      exact kx J H locs ls (fun z hz => h2 z (by omega)) hP hD hS
    · rw [nI_leI (by omega) (by omega)] at c40
      refine lv_aload_n hx hb dX1_welcome_43 rfl (lv_at hl 0 rfl) ?_
      refine m_get (v := .ref g.2.2.2.2.2.1) hx hb hts hown hK hP 4 (by decide) rfl q138 rfl dX1_welcome_44 ?_
      refine lv_iload hx hb dX1_welcome_47 (lv_at hl 5 rfl) ?_
      refine lv_aload_n hx hb dX1_welcome_49 rfl (lv_at hl 0 rfl) ?_
      refine lv_iload hx hb dX1_welcome_50 (lv_at hl 5 rfl) ?_
      refine lv_iload_n hx hb dX1_welcome_52 rfl (lv_at hl 1 rfl) ?_
      refine lv_iload_n hx hb dX1_welcome_53 rfl (lv_at hl 2 rfl) ?_
      refine z_calli (wf := wM g) (n := 3) (As := [.int (nI q), .int (nI x), .int (nI y)]) (rest := [.int (nI q), .ref g.2.2.2.2.2.1]) ⟨hx, hb, hml, hown, hts⟩ hK hP hD hS hA (metM_hasLastWith l dd g L D F G J len dl fm hM q x y (by omega) hx1 hx2 hy hG h1) (lw_V q225 q227 qs16 q19 q228) (by decide +kernel) ⟨by omega, by omega⟩ (ci := 1) rfl rfl rfl rfl hl.1 rfl (Nat.le_of_ble_eq_true rfl) dX1_welcome_54 ⟨Nat.zero_le _, Nat.zero_le _⟩ (fun r54 u54 H locs hpo hP hD hS => ?_)
      obtain ⟨hrr, rfl⟩ := hpo
      subst hrr
      refine ya_zast (ws' := wM g (L, D, F, G, upd J q (lj_pI (lj_wl len dl x y q)))) hx hb hK hP hD hS 5 4 rfl rfl (by omega) (by decide) (lj_vz _) rfl dX1_welcome_57 (fun H locs hP hD hS => ?_)
      refine lv_aload_n hx hb dX1_welcome_58 rfl (lv_at hl 0 rfl) ?_
      refine m_get (v := .ref g.2.2.2.2.2.1) hx hb hts hown hK hP 4 (by decide) rfl q138 rfl dX1_welcome_59 ?_
      refine lv_iload hx hb dX1_welcome_62 (lv_at hl 5 rfl) ?_
      refine ya_zald (v := lj_pI (lj_wl len dl x y q)) hx hb hK hP 5 4 rfl rfl (by omega) (by decide) lj_upd_s dX1_welcome_64 ?_
      refine lv_if_eq (tgt := 92) hx hb dX1_welcome_65 (by decide) (fun c65 => ?_) (fun c65 => ?_)
      · refine lv_iinc (v := nI (q + 1)) (lv' := [(5, .int (nI (q + 1))), (0, .ref g.1), (1, .int (nI x)), (2, .int (nI y)), (3, .int (nI mm)), (4, .int (nI c0))]) hx hb dX1_welcome_92 hl (k := 5) rfl (lj_inc1 _) (by decide) rfl (fun ls hl => ?_)
        refine lv_goto (tgt := 35) hx hb dX1_welcome_95 (by decide) ?_
        exact ih (q + 1) _ H locs ls (by omega) (by omega) (fun z hz => by
          by_cases e : z = q
          · rw [e]; exact lj_upd_s
          · rw [lj_upd_n e]; exact h1 z (by omega)) (fun z hz => by
          by_cases e : z = q
          · rw [e]; exact fun h => lj_pI0.mp c65 h.1
          · exact h2 z (by omega)) hP hD hS (lv_sub hl [1, 2, 3, 4, 5, 0] rfl)
      · refine lv_iload_n hx hb dX1_welcome_68 rfl (lv_at hl 3 rfl) ?_
        refine lv_iload hx hb dX1_welcome_69 (lv_at hl 5 rfl) ?_
        refine lv_iconst (v := (-1)) hx hb dX1_welcome_71 (by decide) ?_
        refine lv_ixor hx hb dX1_welcome_72 ?_
        refine lj_top (y := nI (lj_cp q)) (lj_not _) ?_
        refine lv_iand hx hb dX1_welcome_73 ?_
        refine lj_top (y := nI (mm &&& (lj_cp q))) (lj_and _ _) ?_
        refine lv_if_ne (tgt := 92) hx hb dX1_welcome_74 (by decide) (fun c74 => ?_) (fun c74 => ?_)
        · refine lv_iinc (v := nI (q + 1)) (lv' := [(5, .int (nI (q + 1))), (0, .ref g.1), (1, .int (nI x)), (2, .int (nI y)), (3, .int (nI mm)), (4, .int (nI c0))]) hx hb dX1_welcome_92 hl (k := 5) rfl (lj_inc1 _) (by decide) rfl (fun ls hl => ?_)
          refine lv_goto (tgt := 35) hx hb dX1_welcome_95 (by decide) ?_
          exact ih (q + 1) _ H locs ls (by omega) (by omega) (fun z hz => by
            by_cases e : z = q
            · rw [e]; exact lj_upd_s
            · rw [lj_upd_n e]; exact h1 z (by omega)) (fun z hz => by
            by_cases e : z = q
            · rw [e]; exact fun h => c74 ((lj_sub2 hmm).mpr h.2.1)
            · exact h2 z (by omega)) hP hD hS (lv_sub hl [1, 2, 3, 4, 5, 0] rfl)
        · refine lv_aload_n hx hb dX1_welcome_77 rfl (lv_at hl 0 rfl) ?_
          refine lv_iload hx hb dX1_welcome_78 (lv_at hl 5 rfl) ?_
          refine z_calli (wf := wM g) (n := 1) (As := [.int (nI q)]) (rest := []) ⟨hx, hb, hml, hown, hts⟩ hK hP hD hS hA (metM_sizeOf l dd g L D F G (upd J q (lj_pI (lj_wl len dl x y q))) q (by omega)) (lw_V q208 q210 qs15 q19 q211) (by decide +kernel) ⟨by omega, by omega⟩ (ci := 1) rfl rfl rfl rfl hl.1 rfl (Nat.le_of_ble_eq_true rfl) dX1_welcome_80 ⟨Nat.zero_le _, Nat.zero_le _⟩ (fun r80 u80 H locs hpo hP hD hS => ?_)
          obtain ⟨hrr, rfl⟩ := hpo
          subst hrr
          have hsz : lj_sz q.testBit ≤ 11 := lj_sm_le
          refine lv_iconst (v := nI 1) hx hb dX1_welcome_83 (by decide) ?_
          refine lv_iadd hx hb dX1_welcome_84 ?_
          refine lj_top (y := nI ((lj_sz q.testBit) + 1)) (nI_add _ _) ?_
          refine lv_iload hx hb dX1_welcome_85 (lv_at hl 4 rfl) ?_
          refine lv_icmp_le (tgt := 92) hx hb dX1_welcome_87 (by decide) (fun c87 => ?_) (fun c87 => ?_)
          · rw [nI_leI (by omega) (by omega)] at c87
            refine lv_iinc (v := nI (q + 1)) (lv' := [(5, .int (nI (q + 1))), (0, .ref g.1), (1, .int (nI x)), (2, .int (nI y)), (3, .int (nI mm)), (4, .int (nI c0))]) hx hb dX1_welcome_92 hl (k := 5) rfl (lj_inc1 _) (by decide) rfl (fun ls hl => ?_)
            refine lv_goto (tgt := 35) hx hb dX1_welcome_95 (by decide) ?_
            exact ih (q + 1) _ H locs ls (by omega) (by omega) (fun z hz => by
              by_cases e : z = q
              · rw [e]; exact lj_upd_s
              · rw [lj_upd_n e]; exact h1 z (by omega)) (fun z hz => by
              by_cases e : z = q
              · rw [e]; exact fun h => by have := h.2.2; omega
              · exact h2 z (by omega)) hP hD hS (lv_sub hl [1, 2, 3, 4, 5, 0] rfl)
          · rw [nI_leI (by omega) (by omega)] at c87
            exact kf q _ H locs ls (by omega) ⟨lj_pIn.mp c65, (lj_sub2 hmm).mp c74, by omega⟩ hP hD hS

set_option maxHeartbeats 4000000 in
set_option maxRecDepth 100000 in
theorem metM_welcome (l : Launch) (dd : va_G) (g : MG) (L D F G J : Nat → Int32) (len dl : Nat → Nat) (fm : Nat → Bool) (hM : lj_MR len dl fm L D F) (p0 p1 : Int32) : zMi l dd (tyM g) (wM g) g.1 yX1_welcome cX1_welcome 6 (some .boolean) 5 113 [.int p0, .int p1] (L, D, F, G, J) (fun rr v => rr = lj_pI (lj_pwel len dl (lj_fs len fm) p0 p1) ∧ lj_MV len dl fm v) := by
  refine zMi_of RX1 (by decide) rfl (Nat.le_of_ble_eq_true rfl) ?_
  intro p e s m below meth c A hx hb hr hml hown hts hlocks hA hK hP hD hS ls hl
  have hl : lv_has ls 6 [(0, .ref g.1), (1, .int p0), (2, .int p1)] := hl
  refine lv_aload_n hx hb dX1_welcome_0 rfl (lv_at hl 0 rfl) ?_
  refine lv_iload_n hx hb dX1_welcome_1 rfl (lv_at hl 1 rfl) ?_
  refine lv_iload_n hx hb dX1_welcome_2 rfl (lv_at hl 2 rfl) ?_
  refine z_calli (wf := wM g) (n := 2) (As := [.int p0, .int p1]) (rest := []) ⟨hx, hb, hml, hown, hts⟩ hK hP hD hS hA (metM_fits l dd g L D F G J p0 p1) (lw_V q155 q157 qs7 q19 q158) (by decide +kernel) ⟨Nat.le_of_ble_eq_true rfl, Nat.le_of_ble_eq_true rfl⟩ (ci := 1) rfl rfl rfl rfl hl.1 rfl (Nat.le_of_ble_eq_true rfl) dX1_welcome_3 ⟨Nat.zero_le _, Nat.zero_le _⟩ (fun r3 u3 H locs hpo hP hD hS => ?_)
  obtain ⟨hjb, rfl⟩ := hpo
  refine lv_if_ne (tgt := 11) hx hb dX1_welcome_6 (by decide) (fun c6 => ?_) (fun c6 => ?_)
  · rw [hjb, lj_pIn] at c6
    obtain ⟨x, y, hx1, hx2, hy, rfl, rfl⟩ := lj_job_of c6
    refine lv_aload_n hx hb dX1_welcome_11 rfl (lv_at hl 0 rfl) ?_
    refine z_calli (wf := wM g) (n := 0) (As := []) (rest := []) ⟨hx, hb, hml, hown, hts⟩ hK hP hD hS hA (metM_firmSet l dd g L D F G J len dl fm hM) (lw_V q200 q202 qs13 q19 q203) (by decide +kernel) ⟨Nat.le_of_ble_eq_true rfl, Nat.le_of_ble_eq_true rfl⟩ (ci := 1) rfl rfl rfl rfl hl.1 rfl (Nat.le_of_ble_eq_true rfl) dX1_welcome_12 ⟨Nat.zero_le _, Nat.zero_le _⟩ (fun r12 u12 H locs hpo hP hD hS => ?_)
    obtain ⟨mm, hmm, hfs, hrr, rfl⟩ := hpo
    subst hrr
    refine lv_istore_n (lv' := [(3, .int (nI mm)), (0, .ref g.1), (1, .int (nI x)), (2, .int (nI y))]) hx hb dX1_welcome_15 rfl hl (by decide) rfl (fun ls hl => ?_)
    refine lv_aload_n hx hb dX1_welcome_16 rfl (lv_at hl 1 rfl) ?_
    refine lv_iload_n hx hb dX1_welcome_17 rfl (lv_at hl 0 rfl) ?_
    refine z_calli (wf := wM g) (n := 1) (As := [.int (nI mm)]) (rest := []) ⟨hx, hb, hml, hown, hts⟩ hK hP hD hS hA (metM_most l dd g L D F G J len dl fm hM mm hmm) (lw_V q204 q206 qs14 q19 q207) (by decide +kernel) ⟨Nat.le_of_ble_eq_true rfl, Nat.le_of_ble_eq_true rfl⟩ (ci := 1) rfl rfl rfl rfl hl.1 rfl (Nat.le_of_ble_eq_true rfl) dX1_welcome_18 ⟨Nat.zero_le _, Nat.zero_le _⟩ (fun r18 u18 H locs hpo hP hD hS => ?_)
    obtain ⟨hpm, G2, hG2, rfl⟩ := hpo
    rw [hfs] at hpm
    refine lv_istore (lv' := [(4, .int r18), (3, .int (nI mm)), (0, .ref g.1), (1, .int (nI x)), (2, .int (nI y))]) hx hb dX1_welcome_21 hl (by decide) rfl (fun ls hl => ?_)
    refine lv_iload hx hb dX1_welcome_23 (lv_at hl 0 rfl) ?_
    refine lv_bipush (v := (-3)) hx hb dX1_welcome_25 (by decide) ?_
    refine lv_icmp_ne (tgt := 32) hx hb dX1_welcome_27 (by decide) (fun c27 => ?_) (fun c27 => ?_)
    · obtain ⟨c0, t0, hbst, rfl⟩ := lj_pm_b hpm c27
      have hc0 := lj_best_le hbst
      refine lv_iconst (v := nI 0) hx hb dX1_welcome_32 (by decide) ?_
      refine lv_istore (lv' := [(5, .int (nI 0)), (4, .int (nI c0)), (3, .int (nI mm)), (0, .ref g.1), (1, .int (nI x)), (2, .int (nI y))]) hx hb dX1_welcome_33 hl (by decide) rfl (fun ls hl => ?_)
      refine lpM_welcome hx hb hts hown hml (Nat.le_of_ble_eq_true rfl) (Nat.le_of_ble_eq_true rfl) hA hK len dl fm hM mm c0 hmm hc0 x y hx1 hx2 hy hG2 (fun J2 H locs ls h2 hP hD hS => ?_) (fun z J2 H locs ls hz hcn hP hD hS => ?_) 1025 0 J H locs ls (by omega) (by omega) (fun j hj => absurd hj (by omega)) (fun j hj => absurd hj (by omega)) hP hD hS (lv_sub hl [3, 4, 5, 2, 1, 0] rfl)
      · refine lv_iconst (v := nI 0) hx hb dX1_welcome_98 (by decide) ?_
        exact z_zret (wf := wM g) (u := (L, D, F, G2, J2)) hx hb hr rfl hlocks hK hP hD hS dX1_welcome_99 (⟨(lj_f (lj_pw_f hx2 hy (by rw [← hfs]; exact lj_bhi (n := 10) hmm (Nat.le_refl _)) hbst (by rw [← hfs]; exact h2))).symm, L, D, F, G2, J2, rfl, hM⟩)
      · refine lv_iconst (v := nI 1) hx hb dX1_welcome_90 (by decide) ?_
        exact z_zret (wf := wM g) (u := (L, D, F, G2, J2)) hx hb hr rfl hlocks hK hP hD hS dX1_welcome_91 (⟨(lj_t (lj_pw_t hx1 hx2 hy hz hbst hcn.1 (by rw [← hfs]; exact hcn.2.1) hcn.2.2)).symm, L, D, F, G2, J2, rfl, hM⟩)
    · refine lv_iconst (v := nI 0) hx hb dX1_welcome_30 (by decide) ?_
      exact z_zret (wf := wM g) (u := (L, D, F, G2, J)) hx hb hr rfl hlocks hK hP hD hS dX1_welcome_31 (⟨(lj_f (lj_wel_0 (lj_pm_n hpm c27))).symm, L, D, F, G2, J, rfl, hM⟩)
  · rw [hjb, lj_pI0] at c6
    refine lv_iconst (v := nI 0) hx hb dX1_welcome_9 (by decide) ?_
    exact z_zret (wf := wM g) (u := (L, D, F, G, J)) hx hb hr rfl hlocks hK hP hD hS dX1_welcome_10 (⟨(lj_f (lj_wel_j c6)).symm, L, D, F, G, J, rfl, hM⟩)

set_option maxHeartbeats 4000000 in
set_option maxRecDepth 100000 in
theorem lpM_elapse {p : Program} {l : Launch} {e : Env} {Rm : Room} {s : State} {m : MethodId} {args : Array Value} {below : List Frame} {meth : Method} {c : Code} {Q : State → Prop} {dd : va_G} {A : Nat → Prop} {F G J : Nat → Int32} {g : MG} (hx : p.tables.exec = Jvm.exec) (hb : c.code = cX1_elapse) (hts : ∀ w ∈ lw_all, w.before args s = true) (hown : s.vm.findClass RX1 = some m.cls) (hK : va_K dd vwCl (tyM g) s) (len dl : Nat → Nat) (t : Nat) (ht : t ≤ 200) (h200 : ∀ i, 0 < len i → dl i ≤ 200)
    (kx : ∀ (L D : Nat → Int32) (H : Heap) (locs : List Loc) (ls : Array Slot), lj_ME len dl t 10 L D → va_P dd vwCl (wM g (L, D, F, G, J)) H → va_D A (wM g (L, D, F, G, J)) → va_S A s.heap H locs → lv_has ls 3 [(0, .ref g.1)] → W p l e Rm s m args below meth c H locs 0 0 Q (F0 m 53 ls [])) :
    ∀ (n : Nat) (i : Nat) (L D : Nat → Int32) (H : Heap) (locs : List Loc) (ls : Array Slot), 10 - i < n → i ≤ 10 → lj_ME len dl t i L D → va_P dd vwCl (wM g (L, D, F, G, J)) H → va_D A (wM g (L, D, F, G, J)) → va_S A s.heap H locs →  lv_has ls 3 [(0, .ref g.1), (1, .int (nI t)), (2, .int (nI i))] → W p l e Rm s m args below meth c H locs 0 0 Q (F0 m 15 ls []) := by
  intro n
  induction n with
  | zero =>
    intro i L D H locs ls hn
    exact absurd hn (Nat.not_lt_zero _)
  | succ n ih =>
    intro i L D H locs ls hn hi hE hP hD hS hl
    refine lv_iload_n hx hb dX1_elapse_15 rfl (lv_at hl 2 rfl) ?_
    refine lv_bipush (v := nI 10) hx hb dX1_elapse_16 (by decide) ?_
    refine lv_icmp_ge (tgt := 53) hx hb dX1_elapse_18 (by decide) (fun c18 => ?_) (fun c18 => ?_)
    · rw [nI_leI (by omega) (by omega)] at c18
      have e : i = 10 := by omega
      subst e
      exact kx L D H locs ls hE hP hD hS (lv_sub hl [0] rfl)
    · rw [nI_leI (by omega) (by omega)] at c18
      refine lv_aload_n hx hb dX1_elapse_21 rfl (lv_at hl 0 rfl) ?_
      refine m_get (v := .ref g.2.2.1) hx hb hts hown hK hP 1 (by decide) rfl q135 rfl dX1_elapse_22 ?_
      refine lv_iload_n hx hb dX1_elapse_25 rfl (lv_at hl 2 rfl) ?_
      refine lv_dup2_11 hx hb dX1_elapse_26 rfl rfl ?_
      refine ya_iald (v := D i) hx hb hK hP 2 1 rfl rfl (by omega) (by decide) rfl dX1_elapse_27 ?_
      refine lv_iload_n hx hb dX1_elapse_28 rfl (lv_at hl 1 rfl) ?_
      refine lv_isub hx hb dX1_elapse_29 ?_
      refine ya_iast (ws' := wM g (L, upd D i ((D i) - (nI t)), F, G, J)) hx hb hK hP hD hS 2 1 rfl rfl (by omega) (by decide) rfl rfl dX1_elapse_30 (fun H locs hP hD hS => ?_)
      refine lv_aload_n hx hb dX1_elapse_31 rfl (lv_at hl 0 rfl) ?_
      refine m_get (v := .ref g.2.2.1) hx hb hts hown hK hP 1 (by decide) rfl q135 rfl dX1_elapse_32 ?_
      refine lv_iload_n hx hb dX1_elapse_35 rfl (lv_at hl 2 rfl) ?_
      refine ya_iald (v := D i - nI t) hx hb hK hP 2 1 rfl rfl (by omega) (by decide) lj_upd_s dX1_elapse_36 ?_
      refine lv_if_ge (tgt := 47) hx hb dX1_elapse_37 (by decide) (fun c37 => ?_) (fun c37 => ?_)
      · refine lv_iinc (v := nI (i + 1)) (lv' := [(2, .int (nI (i + 1))), (0, .ref g.1), (1, .int (nI t))]) hx hb dX1_elapse_47 hl (k := 2) rfl (lj_inc1 _) (by decide) rfl (fun ls hl => ?_)
        refine lv_goto (tgt := 15) hx hb dX1_elapse_50 (by decide) ?_
        exact ih (i + 1) _ _ H locs ls (by omega) (by omega) (lj_ME_keep hE (h200 i) ht (by omega) c37) hP hD hS (lv_sub hl [1, 2, 0] rfl)
      · refine lv_aload_n hx hb dX1_elapse_40 rfl (lv_at hl 0 rfl) ?_
        refine m_get (v := .ref g.2.1) hx hb hts hown hK hP 0 (by decide) rfl q134 rfl dX1_elapse_41 ?_
        refine lv_iload_n hx hb dX1_elapse_44 rfl (lv_at hl 2 rfl) ?_
        refine lv_iconst (v := nI 0) hx hb dX1_elapse_45 (by decide) ?_
        refine ya_iast (ws' := wM g (upd L i (nI 0), upd D i ((D i) - (nI t)), F, G, J)) hx hb hK hP hD hS 1 0 rfl rfl (by omega) (by decide) rfl rfl dX1_elapse_46 (fun H locs hP hD hS => ?_)
        refine lv_iinc (v := nI (i + 1)) (lv' := [(2, .int (nI (i + 1))), (0, .ref g.1), (1, .int (nI t))]) hx hb dX1_elapse_47 hl (k := 2) rfl (lj_inc1 _) (by decide) rfl (fun ls hl => ?_)
        refine lv_goto (tgt := 15) hx hb dX1_elapse_50 (by decide) ?_
        exact ih (i + 1) _ _ H locs ls (by omega) (by omega) (lj_ME_drop hE (h200 i) ht (by omega) c37) hP hD hS (lv_sub hl [1, 2, 0] rfl)

set_option maxHeartbeats 4000000 in
set_option maxRecDepth 100000 in
theorem metM_elapse (l : Launch) (dd : va_G) (g : MG) (L D F G J : Nat → Int32) (len dl : Nat → Nat) (fm : Nat → Bool) (hM : lj_MR len dl fm L D F) (p0 : Int32) : zMi l dd (tyM g) (wM g) g.1 yX1_elapse cX1_elapse 3 (some .int) 1 22 [.int p0] (L, D, F, G, J) (fun rr v => ∃ (len2 dl2 : Nat → Nat), lj_pel len dl p0 rr len2 dl2 ∧ lj_MV len2 dl2 fm v) := by
  refine zMi_of RX1 (by decide) rfl (Nat.le_of_ble_eq_true rfl) ?_
  intro p e s m below meth c A hx hb hr hml hown hts hlocks hA hK hP hD hS ls hl
  have hl : lv_has ls 3 [(0, .ref g.1), (1, .int p0)] := hl
  refine lv_iload_n hx hb dX1_elapse_0 rfl (lv_at hl 1 rfl) ?_
  refine lv_if_lt (tgt := 11) hx hb dX1_elapse_1 (by decide) (fun c1 => ?_) (fun c1 => ?_)
  · refine lv_iconst (v := (-1)) hx hb dX1_elapse_11 (by decide) ?_
    exact z_iret (wf := wM g) (u := (L, D, F, G, J)) hx hb hr hlocks hK hP hD hS dX1_elapse_12 (⟨len, dl, Or.inr ⟨fun h => by obtain ⟨t2, h2, e2⟩ := h; exact absurd c1 (by rw [e2]; exact nI_pos (by omega)), rfl, rfl, rfl⟩, L, D, F, G, J, rfl, hM⟩)
  · refine lv_iload_n hx hb dX1_elapse_4 rfl (lv_at hl 1 rfl) ?_
    refine lv_sipush (v := nI 200) hx hb dX1_elapse_5 (by decide) ?_
    refine lv_icmp_le (tgt := 13) hx hb dX1_elapse_8 (by decide) (fun c8 => ?_) (fun c8 => ?_)
    · obtain ⟨t, ht0, rfl⟩ := nI_of c1
      rw [nI_leI ht0 (by decide)] at c8
      refine lv_iconst (v := nI 0) hx hb dX1_elapse_13 (by decide) ?_
      refine lv_istore_n (lv' := [(2, .int (nI 0)), (0, .ref g.1), (1, .int (nI t))]) hx hb dX1_elapse_14 rfl hl (by decide) rfl (fun ls hl => ?_)
      refine lpM_elapse (F := F) (G := G) (J := J) hx hb hts hown hK len dl t c8 hM.2.2.2.2.2 (fun L2 D2 H locs ls hE hP hD hS hl => ?_) 11 0 L D s.heap [] ls (by omega) (by omega) (lj_ME_0 hM) hP hD hS (lv_sub hl [1, 2, 0] rfl)
      have hM2 := lj_ME_end hM hE
      refine lv_aload_n hx hb dX1_elapse_53 rfl (lv_at hl 0 rfl) ?_
      refine z_calli (wf := wM g) (n := 0) (As := []) (rest := []) ⟨hx, hb, hml, hown, hts⟩ hK hP hD hS hA (metM_jobs l dd g L2 D2 F G J (fun i => if dl i < t then 0 else len i) hM2.1 hM2.2.2.2.1) (lw_V q167 q168 q169 q19 q170) (by decide +kernel) ⟨Nat.le_of_ble_eq_true rfl, Nat.le_of_ble_eq_true rfl⟩ (ci := 1) rfl rfl rfl rfl hl.1 rfl (Nat.le_of_ble_eq_true rfl) dX1_elapse_54 ⟨Nat.zero_le _, Nat.zero_le _⟩ (fun r54 u54 H locs hpo hP hD hS => ?_)
      obtain ⟨hrr, rfl⟩ := hpo
      subst hrr
      exact z_iret (wf := wM g) (u := (L2, D2, F, G, J)) hx hb hr hlocks hK hP hD hS dX1_elapse_57 (⟨_, _, Or.inl ⟨t, c8, rfl, rfl, rfl, rfl⟩, L2, D2, F, G, J, rfl, hM2⟩)
    · refine lv_iconst (v := (-1)) hx hb dX1_elapse_11 (by decide) ?_
      exact z_iret (wf := wM g) (u := (L, D, F, G, J)) hx hb hr hlocks hK hP hD hS dX1_elapse_12 (⟨len, dl, Or.inr ⟨fun h => by obtain ⟨t2, h2, e2⟩ := h; exact absurd (by rw [e2]; exact nI_le h2 (by decide)) c8, rfl, rfl, rfl⟩, L, D, F, G, J, rfl, hM⟩)
end
section
/-! a call with other cells beside the callee's; the two constructors -/
section LJINIT
variable {p : Program} {l : Launch} {e : Env} {R : Room} {s : State} {m : MethodId} {args : Array Value} {below : List Frame} {meth : Method} {c : Code} {H : Heap} {locs : List Loc} {cells slots : Nat} {Q : State → Prop}
variable {cc : ByteArray} {pc : Nat} {ls : Array Slot} {rest : List Value} {dd : va_G} {tys : List (ClassId × FieldType)} {A : Nat → Prop} {a : Nat}
variable {nL maxL fr lo index n : Nat} {own C : String} {y : MethodName} {bytes : ByteArray} {ret : Option FieldType} {As st : List Value}
theorem lj_left {w1 w2 : va_W} {k : Nat} {q : Nat × va_E} (h : w1[k]? = some q) : (w1 ++ w2)[k]? = some q := by
  rw [List.getElem?_append_left (List.getElem?_eq_some_iff.mp h).1]; exact h
theorem lj_pl {D : va_G} {cl : List vw_C} {w1 w2 : va_W} (h : va_P D cl (w1 ++ w2) H) : va_P D cl w1 H := fun k q hk => h k q (lj_left hk)
theorem lj_dl {w1 w2 : va_W} (h : va_D A (w1 ++ w2)) : va_D A w1 := ⟨fun i j p q hi hj e => h.1 i j p q (lj_left hi) (lj_left hj) e, fun k q hk => h.2 k q (lj_left hk)⟩
theorem z_callF {U : Type} {wf : U → va_W} {u : U} {w2 : va_W} {post : Int32 → U → Prop} (S : CallFix p m c cc nL s args lw_all own) (hK : va_K dd vwCl tys s) (hP : va_P dd vwCl (wf u ++ w2) H) (hD : va_D A (wf u ++ w2)) (hS : va_S A s.heap H locs) (hA : ∀ q : Nat, s.heap.size ≤ q → A q) (isC isR : List Nat) (hC : isC.map (fun i => (wf u ++ w2)[i]?) = (wf u).map some) (hRr : isR.map (fun i => (wf u ++ w2)[i]?) = w2.map some) (hnd : va_nd isR = true) (hdis : ∀ i ∈ isR, i ∉ isC) (hM : zMi l dd tys wf a y bytes maxL ret fr lo As u post)
    (hG : GoodIn lw_all (wsV own index C y (ws_ y bytes maxL ret))) (hd : y.cls = C ∧ y.cls ≠ "java/lang/invoke/MethodHandle" ∧ y.cls ≠ "java/lang/invoke/VarHandle" ∧ (parseMethodDescriptor y.desc).map (fun d => d.parameters.length) = some n) (hR : fr + 1 ≤ R.frames ∧ 8 + (maxL + 11) + lo ≤ R.locals) {ci : Nat} {q : vw_C} {fs : List Value} (hc : vwCl[ci]? = some q) (hqC : q.1 = C) (he : (wf u)[0]? = some (a, .inr (ci, fs)))
    (hn : As.length = n) (hsz : ls.size = nL) (hst : st = As.reverse ++ .ref a :: rest) (hW : (rest.map fun v => v.category).sum ≤ 8) (hdg : decode cc pc = .ok (.invokevirtual index, 3)) (hcs : cells ≤ R.cells ∧ slots ≤ R.slots)
    (kk : ∀ (r : Int32) (u' : U) (H1 : Heap) (locs1 : List Loc), post r u' → va_P dd vwCl (w2 ++ wf u') H1 → va_D A (w2 ++ wf u') → va_S A s.heap H1 locs1 → W p l e R s m args below meth c H1 locs1 cells slots Q (F0 m (pc + 3) ls (.int r :: rest))) : W p l e R s m args below meth c H locs cells slots Q (F0 m pc ls st) := by
  have hFc := va_free (wc := wf u) hD hS hA isC hC
  have hPc := lj_pl hP
  have hDc := lj_dl hD
  subst hst
  subst hqC
  refine va_calli (va_runV (As := As) (rest := rest) S (hM H.size) (cwV n S.2.2.2.2 hG rfl rfl rfl hd hR) ⟨z_blind, va_recv hK hPc (ci := ci) (q0 := 0) hc he, fun U hU hW => ⟨rfl, by rw [hU], by rw [hU]; exact hPc, va_K.moved hW.alike hK, hDc.weaken (fun _ _ _ _ => trivial)⟩⟩ rfl hn hsz rfl (lv_room hW) hdg hcs) hS (fun q _ h => hFc q h) hFc (fun r u' t H1 locs1 ht hvm hpo hB hz1 hk1 hS1 => ?_)
  obtain ⟨hP1, hK1, hD1⟩ := hB
  rw [ht] at hP1
  obtain ⟨hP2, hD2⟩ := va_join hP hD isC isR hC hRr hnd hdis hk1 hFc hP1 hD1
  exact kk r u' H1 locs1 hpo hP2 hD2 hS1
end LJINIT
def XS0 : XS := (0, fun _ => 0, fun _ => 0, fun _ => 0, 0, fun _ => 0, 0, 0, 0)
def MS0 : MS := (fun _ => 0, fun _ => 0, fun _ => 0, fun _ => 0, fun _ => 0)
abbrev xf0 : List Value := [.int 0, .null, .null, .null, .int 0, .null, .int 0, .int 0, .int 0]
abbrev mf0 : List Value := [.null, .null, .null, .null, .null]
set_option maxHeartbeats 4000000 in
set_option maxRecDepth 100000 in
theorem metX_init (l : Launch) (dd : va_G) (a sz : Nat) : Met l yX0_init (ws_ yX0_init cX0_init 1 none) ({ frames := 1, cells := 4, slots := 44, locals := 12 } : Room) (va_Pc [.ref a] (fun U => U.heap.size = sz ∧ va_P dd vwCl [(a, .inr (0, xf0))] U.heap ∧ va_K dd vwCl [] U ∧ va_D (fun _ => True) [(a, .inr (0, xf0))])) (va_Qv (fun g : XG => g.1 = a) (fun g t => va_P dd vwCl (wX g XS0) t.heap ∧ va_K dd vwCl (tyX g) t ∧ va_D (va_A [(a, .inr (0, xf0))] sz) (wX g XS0)) (va_A [(a, .inr (0, xf0))] sz)) 4 44 (va_A [(a, .inr (0, xf0))] sz) := by
  refine Met.ofW (cc := cX0_init) (maxL := 1) (ret := none) (by decide) rfl ?_
  intro p e s m args below meth c s₁ B hml hv
  obtain ⟨rfl, hsz, hP, hK, hD0⟩ := hv
  have hx := B.exec
  have hb := B.bytes
  have hr := B.returns
  have hts := atoms_spec (ws := ws_ yX0_init cX0_init 1 none) B.pre
  have hts : ∀ w ∈ lw_all, w.before _ s = true := fun w h => hts w (List.mem_cons_of_mem _ h)
  have hown : s.vm.findClass RX0 = some m.cls := findClass_of_methodNamed B.named
  have hlocks := B.notSynchronized
  have hin : meth.name = "<init>" := (name_of_methodNamed B.named B.method).1
  subst hsz
  have hD := hD0.self (sz := s.heap.size)
  generalize hAe : va_A [(a, .inr (0, xf0))] s.heap.size = A at hD ⊢
  have hA : ∀ q : Nat, s.heap.size ≤ q → A q := fun q h => by rw [← hAe]; exact Or.inr h
  have hS : va_S A s.heap s.heap [] := va_S.rf
  have hP : va_P dd vwCl [(a, .inr (0, xf0))] s.heap := hP
  have hl := lv_entry ([.ref a]) (n := 1) (Nat.le_of_ble_eq_true rfl)
  rw [lg_entry_eq]
  generalize (lg_sl ([.ref a]) ++ List.replicate (1 - (lg_sl ([.ref a])).length) Slot.unset).toArray = ls at hl ⊢
  have hl : lv_has ls 1 [(0, .ref a)] := hl
  refine lv_aload_n hx hb dX0_init_0 rfl (lv_at hl 0 rfl) ?_
  refine W.objInit hx hb hown (hts _ q25) (hts _ q26) (hts _ q27) rfl (by rw [hml]; exact hl.1) rfl dX0_init_1 (Nat.le_of_ble_eq_true rfl) (Nat.le_of_ble_eq_true rfl) ?_
  refine W.eq (g2 := F0 m 4 ls []) rfl ?_
  refine lv_aload_n hx hb dX0_init_4 rfl (lv_at hl 0 rfl) ?_
  refine lv_bipush (v := nI 11) hx hb dX0_init_5 (by decide) ?_
  refine va_newa (atype := .byte) (ty := .byte) (N' := 11) (a0 := (11, .inl (fun _ => 0))) hx hb (hts _ q56) rfl hK hP hD hS hA (fun _ => rfl) (nI_pos (by decide)) (nI_clamp (by decide)) (by decide) (Nat.le_of_ble_eq_true rfl) (Nat.le_of_ble_eq_true rfl) dX0_init_7 (fun q_0 c_0 H hK hP hD hS => ?_)
  have hK : va_K dd vwCl [(c_0, .byte)] s := hK
  have hP : va_P dd vwCl [(a, .inr (0, [.int 0, .null, .null, .null, .int 0, .null, .int 0, .int 0, .int 0])), (q_0, .inl (c_0, 11, .inl (fun _ => 0)))] H := hP
  have hD : va_D A [(a, .inr (0, [.int 0, .null, .null, .null, .int 0, .null, .int 0, .int 0, .int 0])), (q_0, .inl (c_0, 11, .inl (fun _ => 0)))] := hD
  refine va_putF (D := dd) (ci := 0) (v := .ref q_0) (ty := .array .byte) (C := RX0) (T := TX0) (N := 9) hx hb hts in_X0 tyX0 tyX0_ok nmX0 hown hK hP hD hS 0 rfl rfl 1 (by decide) (hts _ q29) (fun _ h9 => h9) rfl hin rfl (by decide +kernel) rfl rfl (Nat.le_of_ble_eq_true rfl) dX0_init_9 (fun H locs hP hD hS => ?_)
  have hP : va_P dd vwCl [(a, .inr (0, [.int 0, .ref q_0, .null, .null, .int 0, .null, .int 0, .int 0, .int 0])), (q_0, .inl (c_0, 11, .inl (fun _ => 0)))] H := hP
  have hD : va_D A [(a, .inr (0, [.int 0, .ref q_0, .null, .null, .int 0, .null, .int 0, .int 0, .int 0])), (q_0, .inl (c_0, 11, .inl (fun _ => 0)))] := hD
  refine lv_aload_n hx hb dX0_init_12 rfl (lv_at hl 0 rfl) ?_
  refine lv_bipush (v := nI 11) hx hb dX0_init_13 (by decide) ?_
  refine va_newa (atype := .short) (ty := .short) (N' := 11) (a0 := (11, .inl (fun _ => 0))) hx hb (hts _ q57) rfl hK hP hD hS hA (fun _ => rfl) (nI_pos (by decide)) (nI_clamp (by decide)) (by decide) (Nat.le_of_ble_eq_true rfl) (Nat.le_of_ble_eq_true rfl) dX0_init_15 (fun q_1 c_1 H hK hP hD hS => ?_)
  have hK : va_K dd vwCl [(c_0, .byte), (c_1, .short)] s := hK
  have hP : va_P dd vwCl [(a, .inr (0, [.int 0, .ref q_0, .null, .null, .int 0, .null, .int 0, .int 0, .int 0])), (q_0, .inl (c_0, 11, .inl (fun _ => 0))), (q_1, .inl (c_1, 11, .inl (fun _ => 0)))] H := hP
  have hD : va_D A [(a, .inr (0, [.int 0, .ref q_0, .null, .null, .int 0, .null, .int 0, .int 0, .int 0])), (q_0, .inl (c_0, 11, .inl (fun _ => 0))), (q_1, .inl (c_1, 11, .inl (fun _ => 0)))] := hD
  refine va_putF (D := dd) (ci := 0) (v := .ref q_1) (ty := .array .short) (C := RX0) (T := TX0) (N := 9) hx hb hts in_X0 tyX0 tyX0_ok nmX0 hown hK hP hD hS 0 rfl rfl 2 (by decide) (hts _ q30) (fun _ h9 => h9) rfl hin rfl (by decide +kernel) rfl rfl (Nat.le_of_ble_eq_true rfl) dX0_init_17 (fun H locs hP hD hS => ?_)
  have hP : va_P dd vwCl [(a, .inr (0, [.int 0, .ref q_0, .ref q_1, .null, .int 0, .null, .int 0, .int 0, .int 0])), (q_0, .inl (c_0, 11, .inl (fun _ => 0))), (q_1, .inl (c_1, 11, .inl (fun _ => 0)))] H := hP
  have hD : va_D A [(a, .inr (0, [.int 0, .ref q_0, .ref q_1, .null, .int 0, .null, .int 0, .int 0, .int 0])), (q_0, .inl (c_0, 11, .inl (fun _ => 0))), (q_1, .inl (c_1, 11, .inl (fun _ => 0)))] := hD
  refine lv_aload_n hx hb dX0_init_20 rfl (lv_at hl 0 rfl) ?_
  refine lv_bipush (v := nI 11) hx hb dX0_init_21 (by decide) ?_
  refine va_newa (atype := .boolean) (ty := .boolean) (N' := 11) (a0 := (11, .inl (fun _ => 0))) hx hb (hts _ q58) rfl hK hP hD hS hA (fun _ => rfl) (nI_pos (by decide)) (nI_clamp (by decide)) (by decide) (Nat.le_of_ble_eq_true rfl) (Nat.le_of_ble_eq_true rfl) dX0_init_23 (fun q_2 c_2 H hK hP hD hS => ?_)
  have hK : va_K dd vwCl [(c_0, .byte), (c_1, .short), (c_2, .boolean)] s := hK
  have hP : va_P dd vwCl [(a, .inr (0, [.int 0, .ref q_0, .ref q_1, .null, .int 0, .null, .int 0, .int 0, .int 0])), (q_0, .inl (c_0, 11, .inl (fun _ => 0))), (q_1, .inl (c_1, 11, .inl (fun _ => 0))), (q_2, .inl (c_2, 11, .inl (fun _ => 0)))] H := hP
  have hD : va_D A [(a, .inr (0, [.int 0, .ref q_0, .ref q_1, .null, .int 0, .null, .int 0, .int 0, .int 0])), (q_0, .inl (c_0, 11, .inl (fun _ => 0))), (q_1, .inl (c_1, 11, .inl (fun _ => 0))), (q_2, .inl (c_2, 11, .inl (fun _ => 0)))] := hD
  refine va_putF (D := dd) (ci := 0) (v := .ref q_2) (ty := .array .boolean) (C := RX0) (T := TX0) (N := 9) hx hb hts in_X0 tyX0 tyX0_ok nmX0 hown hK hP hD hS 0 rfl rfl 3 (by decide) (hts _ q31) (fun _ h9 => h9) rfl hin rfl (by decide +kernel) rfl rfl (Nat.le_of_ble_eq_true rfl) dX0_init_25 (fun H locs hP hD hS => ?_)
  have hP : va_P dd vwCl [(a, .inr (0, [.int 0, .ref q_0, .ref q_1, .ref q_2, .int 0, .null, .int 0, .int 0, .int 0])), (q_0, .inl (c_0, 11, .inl (fun _ => 0))), (q_1, .inl (c_1, 11, .inl (fun _ => 0))), (q_2, .inl (c_2, 11, .inl (fun _ => 0)))] H := hP
  have hD : va_D A [(a, .inr (0, [.int 0, .ref q_0, .ref q_1, .ref q_2, .int 0, .null, .int 0, .int 0, .int 0])), (q_0, .inl (c_0, 11, .inl (fun _ => 0))), (q_1, .inl (c_1, 11, .inl (fun _ => 0))), (q_2, .inl (c_2, 11, .inl (fun _ => 0)))] := hD
  refine lv_aload_n hx hb dX0_init_28 rfl (lv_at hl 0 rfl) ?_
  refine lv_bipush (v := nI 11) hx hb dX0_init_29 (by decide) ?_
  refine va_newa (atype := .byte) (ty := .byte) (N' := 11) (a0 := (11, .inl (fun _ => 0))) hx hb (hts _ q56) rfl hK hP hD hS hA (fun _ => rfl) (nI_pos (by decide)) (nI_clamp (by decide)) (by decide) (Nat.le_of_ble_eq_true rfl) (Nat.le_of_ble_eq_true rfl) dX0_init_31 (fun q_3 c_3 H hK hP hD hS => ?_)
  have hK : va_K dd vwCl [(c_0, .byte), (c_1, .short), (c_2, .boolean), (c_3, .byte)] s := hK
  have hP : va_P dd vwCl [(a, .inr (0, [.int 0, .ref q_0, .ref q_1, .ref q_2, .int 0, .null, .int 0, .int 0, .int 0])), (q_0, .inl (c_0, 11, .inl (fun _ => 0))), (q_1, .inl (c_1, 11, .inl (fun _ => 0))), (q_2, .inl (c_2, 11, .inl (fun _ => 0))), (q_3, .inl (c_3, 11, .inl (fun _ => 0)))] H := hP
  have hD : va_D A [(a, .inr (0, [.int 0, .ref q_0, .ref q_1, .ref q_2, .int 0, .null, .int 0, .int 0, .int 0])), (q_0, .inl (c_0, 11, .inl (fun _ => 0))), (q_1, .inl (c_1, 11, .inl (fun _ => 0))), (q_2, .inl (c_2, 11, .inl (fun _ => 0))), (q_3, .inl (c_3, 11, .inl (fun _ => 0)))] := hD
  refine va_putF (D := dd) (ci := 0) (v := .ref q_3) (ty := .array .byte) (C := RX0) (T := TX0) (N := 9) hx hb hts in_X0 tyX0 tyX0_ok nmX0 hown hK hP hD hS 0 rfl rfl 5 (by decide) (hts _ q33) (fun _ h9 => h9) rfl hin rfl (by decide +kernel) rfl rfl (Nat.le_of_ble_eq_true rfl) dX0_init_33 (fun H locs hP hD hS => ?_)
  have hP : va_P dd vwCl [(a, .inr (0, [.int 0, .ref q_0, .ref q_1, .ref q_2, .int 0, .ref q_3, .int 0, .int 0, .int 0])), (q_0, .inl (c_0, 11, .inl (fun _ => 0))), (q_1, .inl (c_1, 11, .inl (fun _ => 0))), (q_2, .inl (c_2, 11, .inl (fun _ => 0))), (q_3, .inl (c_3, 11, .inl (fun _ => 0)))] H := hP
  have hD : va_D A [(a, .inr (0, [.int 0, .ref q_0, .ref q_1, .ref q_2, .int 0, .ref q_3, .int 0, .int 0, .int 0])), (q_0, .inl (c_0, 11, .inl (fun _ => 0))), (q_1, .inl (c_1, 11, .inl (fun _ => 0))), (q_2, .inl (c_2, 11, .inl (fun _ => 0))), (q_3, .inl (c_3, 11, .inl (fun _ => 0)))] := hD
  refine W.widen (k := 4) (n := 44) (Nat.le_of_ble_eq_true rfl) (Nat.le_of_ble_eq_true rfl) ?_
  exact W.vret hx hb hr (fun t ht hW => ⟨⟨(a, q_0, q_1, q_2, q_3, c_0, c_1, c_2, c_3), rfl, rfl, by rw [ht]; exact hP, va_K.moved hW.alike hK, hD⟩, hS.F ht⟩) hS.2.2 dX0_init_36
set_option maxHeartbeats 4000000 in
set_option maxRecDepth 100000 in
theorem metM_init (l : Launch) (dd : va_G) (a sz : Nat) : Met l yX1_init (ws_ yX1_init cX1_init 1 none) ({ frames := 1, cells := 5, slots := 2078, locals := 12 } : Room) (va_Pc [.ref a] (fun U => U.heap.size = sz ∧ va_P dd vwCl [(a, .inr (1, mf0))] U.heap ∧ va_K dd vwCl [] U ∧ va_D (fun _ => True) [(a, .inr (1, mf0))])) (va_Qv (fun g : MG => g.1 = a) (fun g t => va_P dd vwCl (wM g MS0) t.heap ∧ va_K dd vwCl (tyM g) t ∧ va_D (va_A [(a, .inr (1, mf0))] sz) (wM g MS0)) (va_A [(a, .inr (1, mf0))] sz)) 5 2078 (va_A [(a, .inr (1, mf0))] sz) := by
  refine Met.ofW (cc := cX1_init) (maxL := 1) (ret := none) (by decide) rfl ?_
  intro p e s m args below meth c s₁ B hml hv
  obtain ⟨rfl, hsz, hP, hK, hD0⟩ := hv
  have hx := B.exec
  have hb := B.bytes
  have hr := B.returns
  have hts := atoms_spec (ws := ws_ yX1_init cX1_init 1 none) B.pre
  have hts : ∀ w ∈ lw_all, w.before _ s = true := fun w h => hts w (List.mem_cons_of_mem _ h)
  have hown : s.vm.findClass RX1 = some m.cls := findClass_of_methodNamed B.named
  have hlocks := B.notSynchronized
  have hin : meth.name = "<init>" := (name_of_methodNamed B.named B.method).1
  subst hsz
  have hD := hD0.self (sz := s.heap.size)
  generalize hAe : va_A [(a, .inr (1, mf0))] s.heap.size = A at hD ⊢
  have hA : ∀ q : Nat, s.heap.size ≤ q → A q := fun q h => by rw [← hAe]; exact Or.inr h
  have hS : va_S A s.heap s.heap [] := va_S.rf
  have hP : va_P dd vwCl [(a, .inr (1, mf0))] s.heap := hP
  have hl := lv_entry ([.ref a]) (n := 1) (Nat.le_of_ble_eq_true rfl)
  rw [lg_entry_eq]
  generalize (lg_sl ([.ref a]) ++ List.replicate (1 - (lg_sl ([.ref a])).length) Slot.unset).toArray = ls at hl ⊢
  have hl : lv_has ls 1 [(0, .ref a)] := hl
  refine lv_aload_n hx hb dX1_init_0 rfl (lv_at hl 0 rfl) ?_
  refine W.objInit hx hb hown (hts _ q133) (hts _ q26) (hts _ q27) rfl (by rw [hml]; exact hl.1) rfl dX1_init_1 (Nat.le_of_ble_eq_true rfl) (Nat.le_of_ble_eq_true rfl) ?_
  refine W.eq (g2 := F0 m 4 ls []) rfl ?_
  refine lv_aload_n hx hb dX1_init_4 rfl (lv_at hl 0 rfl) ?_
  refine lv_bipush (v := nI 10) hx hb dX1_init_5 (by decide) ?_
  refine va_newa (atype := .int) (ty := .int) (N' := 10) (a0 := (10, .inl (fun _ => 0))) hx hb (hts _ q150) rfl hK hP hD hS hA (fun _ => rfl) (nI_pos (by decide)) (nI_clamp (by decide)) (by decide) (Nat.le_of_ble_eq_true rfl) (Nat.le_of_ble_eq_true rfl) dX1_init_7 (fun q_0 c_0 H hK hP hD hS => ?_)
  have hK : va_K dd vwCl [(c_0, .int)] s := hK
  have hP : va_P dd vwCl [(a, .inr (1, [.null, .null, .null, .null, .null])), (q_0, .inl (c_0, 10, .inl (fun _ => 0)))] H := hP
  have hD : va_D A [(a, .inr (1, [.null, .null, .null, .null, .null])), (q_0, .inl (c_0, 10, .inl (fun _ => 0)))] := hD
  refine va_put (D := dd) (ci := 1) (v := .ref q_0) (ty := .array .int) (C := RX1) (T := TX1) (N := 5) hx hb hts in_X1 tyX1 tyX1_ok nmX1 hown hK hP hD hS 0 rfl rfl 0 (by decide) (hts _ q134) (fun _ h9 => h9) rfl (by decide +kernel) rfl rfl (Nat.le_of_ble_eq_true rfl) dX1_init_9 (fun H locs hP hD hS => ?_)
  have hP : va_P dd vwCl [(a, .inr (1, [.ref q_0, .null, .null, .null, .null])), (q_0, .inl (c_0, 10, .inl (fun _ => 0)))] H := hP
  have hD : va_D A [(a, .inr (1, [.ref q_0, .null, .null, .null, .null])), (q_0, .inl (c_0, 10, .inl (fun _ => 0)))] := hD
  refine lv_aload_n hx hb dX1_init_12 rfl (lv_at hl 0 rfl) ?_
  refine lv_bipush (v := nI 10) hx hb dX1_init_13 (by decide) ?_
  refine va_newa (atype := .int) (ty := .int) (N' := 10) (a0 := (10, .inl (fun _ => 0))) hx hb (hts _ q150) rfl hK hP hD hS hA (fun _ => rfl) (nI_pos (by decide)) (nI_clamp (by decide)) (by decide) (Nat.le_of_ble_eq_true rfl) (Nat.le_of_ble_eq_true rfl) dX1_init_15 (fun q_1 c_1 H hK hP hD hS => ?_)
  have hK : va_K dd vwCl [(c_0, .int), (c_1, .int)] s := hK
  have hP : va_P dd vwCl [(a, .inr (1, [.ref q_0, .null, .null, .null, .null])), (q_0, .inl (c_0, 10, .inl (fun _ => 0))), (q_1, .inl (c_1, 10, .inl (fun _ => 0)))] H := hP
  have hD : va_D A [(a, .inr (1, [.ref q_0, .null, .null, .null, .null])), (q_0, .inl (c_0, 10, .inl (fun _ => 0))), (q_1, .inl (c_1, 10, .inl (fun _ => 0)))] := hD
  refine va_put (D := dd) (ci := 1) (v := .ref q_1) (ty := .array .int) (C := RX1) (T := TX1) (N := 5) hx hb hts in_X1 tyX1 tyX1_ok nmX1 hown hK hP hD hS 0 rfl rfl 1 (by decide) (hts _ q135) (fun _ h9 => h9) rfl (by decide +kernel) rfl rfl (Nat.le_of_ble_eq_true rfl) dX1_init_17 (fun H locs hP hD hS => ?_)
  have hP : va_P dd vwCl [(a, .inr (1, [.ref q_0, .ref q_1, .null, .null, .null])), (q_0, .inl (c_0, 10, .inl (fun _ => 0))), (q_1, .inl (c_1, 10, .inl (fun _ => 0)))] H := hP
  have hD : va_D A [(a, .inr (1, [.ref q_0, .ref q_1, .null, .null, .null])), (q_0, .inl (c_0, 10, .inl (fun _ => 0))), (q_1, .inl (c_1, 10, .inl (fun _ => 0)))] := hD
  refine lv_aload_n hx hb dX1_init_20 rfl (lv_at hl 0 rfl) ?_
  refine lv_bipush (v := nI 10) hx hb dX1_init_21 (by decide) ?_
  refine va_newa (atype := .boolean) (ty := .boolean) (N' := 10) (a0 := (10, .inl (fun _ => 0))) hx hb (hts _ q58) rfl hK hP hD hS hA (fun _ => rfl) (nI_pos (by decide)) (nI_clamp (by decide)) (by decide) (Nat.le_of_ble_eq_true rfl) (Nat.le_of_ble_eq_true rfl) dX1_init_23 (fun q_2 c_2 H hK hP hD hS => ?_)
  have hK : va_K dd vwCl [(c_0, .int), (c_1, .int), (c_2, .boolean)] s := hK
  have hP : va_P dd vwCl [(a, .inr (1, [.ref q_0, .ref q_1, .null, .null, .null])), (q_0, .inl (c_0, 10, .inl (fun _ => 0))), (q_1, .inl (c_1, 10, .inl (fun _ => 0))), (q_2, .inl (c_2, 10, .inl (fun _ => 0)))] H := hP
  have hD : va_D A [(a, .inr (1, [.ref q_0, .ref q_1, .null, .null, .null])), (q_0, .inl (c_0, 10, .inl (fun _ => 0))), (q_1, .inl (c_1, 10, .inl (fun _ => 0))), (q_2, .inl (c_2, 10, .inl (fun _ => 0)))] := hD
  refine va_put (D := dd) (ci := 1) (v := .ref q_2) (ty := .array .boolean) (C := RX1) (T := TX1) (N := 5) hx hb hts in_X1 tyX1 tyX1_ok nmX1 hown hK hP hD hS 0 rfl rfl 2 (by decide) (hts _ q136) (fun _ h9 => h9) rfl (by decide +kernel) rfl rfl (Nat.le_of_ble_eq_true rfl) dX1_init_25 (fun H locs hP hD hS => ?_)
  have hP : va_P dd vwCl [(a, .inr (1, [.ref q_0, .ref q_1, .ref q_2, .null, .null])), (q_0, .inl (c_0, 10, .inl (fun _ => 0))), (q_1, .inl (c_1, 10, .inl (fun _ => 0))), (q_2, .inl (c_2, 10, .inl (fun _ => 0)))] H := hP
  have hD : va_D A [(a, .inr (1, [.ref q_0, .ref q_1, .ref q_2, .null, .null])), (q_0, .inl (c_0, 10, .inl (fun _ => 0))), (q_1, .inl (c_1, 10, .inl (fun _ => 0))), (q_2, .inl (c_2, 10, .inl (fun _ => 0)))] := hD
  refine lv_aload_n hx hb dX1_init_28 rfl (lv_at hl 0 rfl) ?_
  refine lv_sipush (v := nI 1024) hx hb dX1_init_29 (by decide) ?_
  refine va_newa (atype := .boolean) (ty := .boolean) (N' := 1024) (a0 := (1024, .inl (fun _ => 0))) hx hb (hts _ q58) rfl hK hP hD hS hA (fun _ => rfl) (nI_pos (by decide)) (nI_clamp (by decide)) (by decide) (Nat.le_of_ble_eq_true rfl) (Nat.le_of_ble_eq_true rfl) dX1_init_32 (fun q_3 c_3 H hK hP hD hS => ?_)
  have hK : va_K dd vwCl [(c_0, .int), (c_1, .int), (c_2, .boolean), (c_3, .boolean)] s := hK
  have hP : va_P dd vwCl [(a, .inr (1, [.ref q_0, .ref q_1, .ref q_2, .null, .null])), (q_0, .inl (c_0, 10, .inl (fun _ => 0))), (q_1, .inl (c_1, 10, .inl (fun _ => 0))), (q_2, .inl (c_2, 10, .inl (fun _ => 0))), (q_3, .inl (c_3, 1024, .inl (fun _ => 0)))] H := hP
  have hD : va_D A [(a, .inr (1, [.ref q_0, .ref q_1, .ref q_2, .null, .null])), (q_0, .inl (c_0, 10, .inl (fun _ => 0))), (q_1, .inl (c_1, 10, .inl (fun _ => 0))), (q_2, .inl (c_2, 10, .inl (fun _ => 0))), (q_3, .inl (c_3, 1024, .inl (fun _ => 0)))] := hD
  refine va_put (D := dd) (ci := 1) (v := .ref q_3) (ty := .array .boolean) (C := RX1) (T := TX1) (N := 5) hx hb hts in_X1 tyX1 tyX1_ok nmX1 hown hK hP hD hS 0 rfl rfl 3 (by decide) (hts _ q137) (fun _ h9 => h9) rfl (by decide +kernel) rfl rfl (Nat.le_of_ble_eq_true rfl) dX1_init_34 (fun H locs hP hD hS => ?_)
  have hP : va_P dd vwCl [(a, .inr (1, [.ref q_0, .ref q_1, .ref q_2, .ref q_3, .null])), (q_0, .inl (c_0, 10, .inl (fun _ => 0))), (q_1, .inl (c_1, 10, .inl (fun _ => 0))), (q_2, .inl (c_2, 10, .inl (fun _ => 0))), (q_3, .inl (c_3, 1024, .inl (fun _ => 0)))] H := hP
  have hD : va_D A [(a, .inr (1, [.ref q_0, .ref q_1, .ref q_2, .ref q_3, .null])), (q_0, .inl (c_0, 10, .inl (fun _ => 0))), (q_1, .inl (c_1, 10, .inl (fun _ => 0))), (q_2, .inl (c_2, 10, .inl (fun _ => 0))), (q_3, .inl (c_3, 1024, .inl (fun _ => 0)))] := hD
  refine lv_aload_n hx hb dX1_init_37 rfl (lv_at hl 0 rfl) ?_
  refine lv_sipush (v := nI 1024) hx hb dX1_init_38 (by decide) ?_
  refine va_newa (atype := .boolean) (ty := .boolean) (N' := 1024) (a0 := (1024, .inl (fun _ => 0))) hx hb (hts _ q58) rfl hK hP hD hS hA (fun _ => rfl) (nI_pos (by decide)) (nI_clamp (by decide)) (by decide) (Nat.le_of_ble_eq_true rfl) (Nat.le_of_ble_eq_true rfl) dX1_init_41 (fun q_4 c_4 H hK hP hD hS => ?_)
  have hK : va_K dd vwCl [(c_0, .int), (c_1, .int), (c_2, .boolean), (c_3, .boolean), (c_4, .boolean)] s := hK
  have hP : va_P dd vwCl [(a, .inr (1, [.ref q_0, .ref q_1, .ref q_2, .ref q_3, .null])), (q_0, .inl (c_0, 10, .inl (fun _ => 0))), (q_1, .inl (c_1, 10, .inl (fun _ => 0))), (q_2, .inl (c_2, 10, .inl (fun _ => 0))), (q_3, .inl (c_3, 1024, .inl (fun _ => 0))), (q_4, .inl (c_4, 1024, .inl (fun _ => 0)))] H := hP
  have hD : va_D A [(a, .inr (1, [.ref q_0, .ref q_1, .ref q_2, .ref q_3, .null])), (q_0, .inl (c_0, 10, .inl (fun _ => 0))), (q_1, .inl (c_1, 10, .inl (fun _ => 0))), (q_2, .inl (c_2, 10, .inl (fun _ => 0))), (q_3, .inl (c_3, 1024, .inl (fun _ => 0))), (q_4, .inl (c_4, 1024, .inl (fun _ => 0)))] := hD
  refine va_put (D := dd) (ci := 1) (v := .ref q_4) (ty := .array .boolean) (C := RX1) (T := TX1) (N := 5) hx hb hts in_X1 tyX1 tyX1_ok nmX1 hown hK hP hD hS 0 rfl rfl 4 (by decide) (hts _ q138) (fun _ h9 => h9) rfl (by decide +kernel) rfl rfl (Nat.le_of_ble_eq_true rfl) dX1_init_43 (fun H locs hP hD hS => ?_)
  have hP : va_P dd vwCl [(a, .inr (1, [.ref q_0, .ref q_1, .ref q_2, .ref q_3, .ref q_4])), (q_0, .inl (c_0, 10, .inl (fun _ => 0))), (q_1, .inl (c_1, 10, .inl (fun _ => 0))), (q_2, .inl (c_2, 10, .inl (fun _ => 0))), (q_3, .inl (c_3, 1024, .inl (fun _ => 0))), (q_4, .inl (c_4, 1024, .inl (fun _ => 0)))] H := hP
  have hD : va_D A [(a, .inr (1, [.ref q_0, .ref q_1, .ref q_2, .ref q_3, .ref q_4])), (q_0, .inl (c_0, 10, .inl (fun _ => 0))), (q_1, .inl (c_1, 10, .inl (fun _ => 0))), (q_2, .inl (c_2, 10, .inl (fun _ => 0))), (q_3, .inl (c_3, 1024, .inl (fun _ => 0))), (q_4, .inl (c_4, 1024, .inl (fun _ => 0)))] := hD
  refine W.widen (k := 5) (n := 2078) (Nat.le_of_ble_eq_true rfl) (Nat.le_of_ble_eq_true rfl) ?_
  exact W.vret hx hb hr (fun t ht hW => ⟨⟨(a, q_0, q_1, q_2, q_3, q_4, c_0, c_1, c_2, c_3, c_4), rfl, rfl, by rw [ht]; exact hP, va_K.moved hW.alike hK, hD⟩, hS.F ht⟩) hS.2.2 dX1_init_46
theorem lj_XV_0 : lj_XV (fun _ => 0) (fun _ => 0) (fun _ => false) (fun _ => 0) 0 XS0 := by
  refine ⟨fun _ => 0, fun _ => 0, fun _ => 0, fun _ => 0, 0, 0, 0, by rw [nI_0]; rfl, fun i hi => nI_0.symm, fun i hi h => absurd h (Nat.lt_irrefl 0), fun i hi => ?_, fun j hj => absurd hj (by omega), fun i => Nat.zero_le 50, fun i hi => rfl, fun i h => absurd h (Nat.lt_irrefl 0), rfl, ?_⟩
  · rw [lj_f (fun h => Bool.false_ne_true h), nI_0]
  · exact ⟨fun j hj => absurd hj (by omega), fun a b ha => absurd ha (by omega), fun i hi h => absurd h (Nat.lt_irrefl 0), fun a b hab hb => absurd hb (by omega)⟩
theorem lj_MV_0 : lj_MV (fun _ => 0) (fun _ => 0) (fun _ => false) MS0 := by
  refine ⟨fun _ => 0, fun _ => 0, fun _ => 0, fun _ => 0, fun _ => 0, rfl, fun i hi => nI_0.symm, fun i hi h => absurd h (Nat.lt_irrefl 0), fun i hi => ?_, fun i => Nat.zero_le 50, fun i hi => rfl, fun i h => absurd h (Nat.lt_irrefl 0)⟩
  rw [lj_f (fun h => Bool.false_ne_true h), nI_0]
end
section
/-! THE CLAIM OUT OF ONE WALK OF THE LAW'S BODY. Your part is whole_start (and what it stands on); all else here is the same for every law, but numbers. -/
def R_law : String := "LateJobAdmitLaw"
def lw_P (b : Addr) (xs : List Int32) (args : Array Value) (s : State) : Prop := args = #[.ref b] ∧ s.IntsAt b xs ∧ xs.length ≤ 256 ∧ (Jvm.Cond.and given_1 narrow_1).before args s = true
def lw_Q (_ : Array Value) (s : State) (o : Outcome) (t : State) : Prop := o = .returned (some (.int 1)) ∧ Framed s o t [] 600000 7290000
def lw_Z (below : List Frame) (a : Array Value) (s : State) : State → Prop := fun t => ∃ o, t.status = .running ∧ Ended t below o ∧ lw_Q a s o t
/-- the law's own end, with 1 on the stack, nothing written that was there before, its room as the claim has it -/
theorem lw_ret {p : Program} {l : Launch} {e : Env} {s : State} {m : MethodId} {below : List Frame} {meth : Method} {c : Code} {b : Nat} (hx : p.tables.exec = Jvm.exec) (hb : c.code = code) (hr : meth.sig.returnType = ret) (hlocks : meth.locks = false) {pc : Nat} {H : Heap} {ls : Array Slot} (hdg : decode code pc = .ok (.ireturn, 1)) : W p l e room_1 s m #[Value.ref b] below meth c H [] 600000 7290000 (lw_Z below #[Value.ref b] s) (F0 m pc ls [.int 1]) := by
  intro T hT X
  obtain ⟨fs, hret, hrun, hended, hW, hframe⟩ := X.leave (v := some (.int 1)) (hlocks := hlocks) (fun h => by rw [hr] at h; cases h)
  have hmeth' : T.vm.method? m = some meth := X.method'
  refine ⟨T.setFrames fs, ?_, .returned (some (.int 1)), hrun, hended, rfl, ⟨_, rfl⟩, hW, hframe⟩
  jvm_step X.here [X.here.top, hx, hb, hdg, hmeth', hr, ret, narrow_b1]
  (try refine ⟨rfl, ?_⟩); (try refine ⟨rfl, ?_⟩)
  first | (intro acts; rw [hret _ acts rfl rfl rfl]) | rw [hret _ _ rfl rfl rfl]
  exact Steps.refl _
/-- what holds at the law's entry: the machine, the code, the tables' words (any of lw_tbl by 'hts w (by decide +kernel)'), the script of L ints xs at the cell b, what the Statement gives of the start (any of its parts by flat_of_before) -/
def lw_At (p : Program) (s : State) (m : MethodId) (meth : Method) (c : Code) (b L : Nat) (xs : Nat → Int32) : Prop :=
  p.tables.exec = Jvm.exec ∧ c.code = code ∧ meth.sig.returnType = ret ∧ c.maxLocals = 4 ∧ s.vm.findClass R_law = some m.cls ∧ (∀ w ∈ lw_tbl, w.before #[Value.ref b] s = true) ∧ va_X b L xs s s.heap ∧ b < s.heap.size ∧ meth.locks = false ∧ (Jvm.Cond.and given_1 narrow_1).before #[Value.ref b] s = true
end
section
/-! the law, case by case -/
/-- both hold the same jobs -/
def lj_IV (u : XS) (v : MS) : Prop := ∃ (len dl : Nat → Nat) (fm : Nat → Bool) (r : Nat → Nat) (k : Nat), lj_XV len dl fm r k u ∧ lj_MV len dl fm v
theorem lj_IV_0 : lj_IV XS0 MS0 := ⟨_, _, _, _, _, lj_XV_0, lj_MV_0⟩
theorem lj_drop_X {len dl : Nat → Nat} {fm : Nat → Bool} {r : Nat → Nat} {k : Nat} {L D F R : Nat → Int32} {ad ac am p0 rr : Int32} {v : XS} (hX : lj_XR len dl fm r k L D F R) (h : (∃ (j q : Nat) (R2 : Nat → Int32), j < 10 ∧ p0 = nI j ∧ 0 < len j ∧ q < k ∧ r q = j ∧ (∀ i, i < k - 1 → R2 i = nI (lj_outr r q i)) ∧ rr = nI (k - 1) ∧ v = (nI (k - 1), upd L j (nI 0), D, F, nI (k - 1), R2, ad, ac, am)) ∨ (¬ lj_place len p0 ∧ rr = (-1) ∧ v = (nI k, L, D, F, nI k, R, ad, ac, am))) : ∃ (len2 r2 : Nat → Nat) (k2 : Nat), lj_pdrop len p0 rr len2 ∧ lj_XV len2 dl fm r2 k2 v := by
  rcases h with ⟨j, q, R2, h1, h2, h3, h4, h5, h6, h7, h8⟩ | ⟨h1, h2, h3⟩
  · have hk := hX.2.2.2.2.2.2.2.1
    have hc := lj_ct_del h1 h3
    exact ⟨va_up len j 0, lj_outr r q, k - 1, Or.inl ⟨j, h1, h2, h3, rfl, by rw [h7]; congr 1; omega⟩, _, D, F, R2, ad, ac, am, h8, lj_XR_drop hX h1 h3 h4 h5 h6⟩
  · exact ⟨len, r, k, Or.inr ⟨h1, h2, rfl⟩, L, D, F, R, ad, ac, am, h3, hX⟩
section LJSCR
variable {p : Program} {l : Launch} {e : Env} {R : Room} {s : State} {m : MethodId} {args : Array Value} {below : List Frame} {meth : Method} {c : Code} {H : Heap} {locs : List Loc} {cells slots : Nat} {Q : State → Prop}
theorem y_sld {cc : ByteArray} {pc : Nat} {ls : Array Slot} {rest : List Value} {A : Nat → Prop} {H0 : Heap} (hexec : p.tables.exec = Jvm.exec) (hb : c.code = cc) {b L : Nat} {xs : Nat → Int32} (hX : va_X b L xs s H0) (hbl : b < H0.size) (hbA : ¬ A b) (hS : va_S A H0 H locs) {j : Nat} (hj : j < L) (hL : L < 2 ^ 31) (hdg : decode cc pc = .ok (.iaload, 1))
    (kk : W p l e R s m args below meth c H locs cells slots Q (F0 m (pc + 1) ls (.int (xs j) :: rest))) : W p l e R s m args below meth c H locs cells slots Q (F0 m pc ls (.int (nI j) :: .ref b :: rest)) :=
  va_sld hexec hb hX hbl hbA hS (vp_in_nI hj hL) hdg (by rw [nI_clamp (Nat.lt_trans hj hL)]; exact kk)
end LJSCR

set_option maxHeartbeats 4000000 in
set_option maxRecDepth 100000 in
theorem law_c0 {p : Program} {l : Launch} {e : Env} {s : State} {m : MethodId} {b : Nat} {below : List Frame} {meth : Method} {c : Code} {Q : State → Prop} {dd : va_G} {A : Nat → Prop} {g : XG} {h : MG} {L0 : Nat} {xs : Nat → Int32} (hx : p.tables.exec = Jvm.exec) (hb : c.code = cL_law) (hts : ∀ w ∈ lw_all, w.before #[Value.ref b] s = true) (hown : s.vm.findClass R_law = some m.cls) (hml : c.maxLocals = 4) (hA : ∀ q : Nat, s.heap.size ≤ q → A q) (hscr : va_X b L0 xs s s.heap) (hbl : b < s.heap.size) (hbA : ¬ A b) (hL0 : L0 ≤ 256) (hKX : va_K dd vwCl (tyX g) s) (hKM : va_K dd vwCl (tyM h) s) {i : Nat} (hi : i + 4 ≤ L0) {ls : Array Slot} (hl : lv_has ls 4 [(0, .ref b), (1, .ref g.1), (2, .ref h.1), (3, .int (nI i))]) (kx : ∀ (u : XS) (v : MS) (H : Heap) (locs : List Loc), lj_IV u v → va_P dd vwCl (wX g u ++ wM h v) H → va_D A (wX g u ++ wM h v) → va_S A s.heap H locs → W p l e room_1 s m #[Value.ref b] below meth c H locs 600000 7290000 Q (F0 m 360 ls [])) :
    ∀ (u : XS) (v : MS) (H : Heap) (locs : List Loc), lj_IV u v → va_P dd vwCl (wX g u ++ wM h v) H → va_D A (wX g u ++ wM h v) → va_S A s.heap H locs → W p l e room_1 s m #[Value.ref b] below meth c H locs 600000 7290000 Q (F0 m 88 ls []) := by
  intro u v H locs hIV hP hD hS
  obtain ⟨len, dl, fm, r, k, ⟨L, D, F, R, ad, ac, am, rfl, hX⟩, ⟨L2, D2, F2, G, J, rfl, hM⟩⟩ := hIV
  refine lv_aload_n hx hb dL_law_88 rfl (lv_at hl 1 rfl) ?_
  refine lv_aload_n hx hb dL_law_89 rfl (lv_at hl 0 rfl) ?_
  refine lv_iload_n hx hb dL_law_90 rfl (lv_at hl 3 rfl) ?_
  refine lv_iconst (v := nI 1) hx hb dL_law_91 (by decide) ?_
  refine lv_iadd hx hb dL_law_92 ?_
  refine lj_top (y := nI (i + 1)) (nI_add _ _) ?_
  refine y_sld hx hb hscr hbl hbA hS (j := i + 1) (by omega) (by omega) dL_law_93 ?_
  refine lv_aload_n hx hb dL_law_94 rfl (lv_at hl 0 rfl) ?_
  refine lv_iload_n hx hb dL_law_95 rfl (lv_at hl 3 rfl) ?_
  refine lv_iconst (v := nI 2) hx hb dL_law_96 (by decide) ?_
  refine lv_iadd hx hb dL_law_97 ?_
  refine lj_top (y := nI (i + 2)) (nI_add _ _) ?_
  refine y_sld hx hb hscr hbl hbA hS (j := i + 2) (by omega) (by omega) dL_law_98 ?_
  refine lv_aload_n hx hb dL_law_99 rfl (lv_at hl 0 rfl) ?_
  refine lv_iload_n hx hb dL_law_100 rfl (lv_at hl 3 rfl) ?_
  refine lv_iconst (v := nI 3) hx hb dL_law_101 (by decide) ?_
  refine lv_iadd hx hb dL_law_102 ?_
  refine lj_top (y := nI (i + 3)) (nI_add _ _) ?_
  refine y_sld hx hb hscr hbl hbA hS (j := i + 3) (by omega) (by omega) dL_law_103 ?_
  refine lv_if_eq (tgt := 111) hx hb dL_law_104 (by decide) (fun c104 => ?_) (fun c104 => ?_)
  · refine lv_iconst (v := nI 0) hx hb dL_law_111 (by decide) ?_
    refine lj_top (y := lj_pI (false = true)) (lj_f (by decide)).symm ?_
    refine z_callF (wf := wX g) (w2 := wM h (L2, D2, F2, G, J)) (n := 3) (As := [.int (xs (i + 1)), .int (xs (i + 2)), .int (lj_pI (false = true))]) (rest := []) ⟨hx, hb, hml, hown, hts⟩ hKX hP hD hS hA [0, 1, 2, 3, 4] [5, 6, 7, 8, 9, 10] rfl rfl (by decide) (by decide) (metX_put l dd g L D F R ad ac am len dl fm r k hX (xs (i + 1)) (xs (i + 2)) false) (lw_V q59 q60 q61 q18 q62) (by decide +kernel) ⟨Nat.le_of_ble_eq_true rfl, Nat.le_of_ble_eq_true rfl⟩ (ci := 0) rfl rfl rfl rfl hl.1 rfl (Nat.le_of_ble_eq_true rfl) dL_law_112 ⟨Nat.le_refl _, Nat.le_refl _⟩ (fun r112 u112 H locs hpo112 hP hD hS => ?_)
    refine lv_aload_n hx hb dL_law_115 rfl (lv_at hl 2 rfl) ?_
    refine lv_aload_n hx hb dL_law_116 rfl (lv_at hl 0 rfl) ?_
    refine lv_iload_n hx hb dL_law_117 rfl (lv_at hl 3 rfl) ?_
    refine lv_iconst (v := nI 1) hx hb dL_law_118 (by decide) ?_
    refine lv_iadd hx hb dL_law_119 ?_
    refine lj_top (y := nI (i + 1)) (nI_add _ _) ?_
    refine y_sld hx hb hscr hbl hbA hS (j := i + 1) (by omega) (by omega) dL_law_120 ?_
    refine lv_aload_n hx hb dL_law_121 rfl (lv_at hl 0 rfl) ?_
    refine lv_iload_n hx hb dL_law_122 rfl (lv_at hl 3 rfl) ?_
    refine lv_iconst (v := nI 2) hx hb dL_law_123 (by decide) ?_
    refine lv_iadd hx hb dL_law_124 ?_
    refine lj_top (y := nI (i + 2)) (nI_add _ _) ?_
    refine y_sld hx hb hscr hbl hbA hS (j := i + 2) (by omega) (by omega) dL_law_125 ?_
    refine lv_aload_n hx hb dL_law_126 rfl (lv_at hl 0 rfl) ?_
    refine lv_iload_n hx hb dL_law_127 rfl (lv_at hl 3 rfl) ?_
    refine lv_iconst (v := nI 3) hx hb dL_law_128 (by decide) ?_
    refine lv_iadd hx hb dL_law_129 ?_
    refine lj_top (y := nI (i + 3)) (nI_add _ _) ?_
    refine y_sld hx hb hscr hbl hbA hS (j := i + 3) (by omega) (by omega) dL_law_130 ?_
    refine lv_if_eq (tgt := 138) hx hb dL_law_131 (by decide) (fun c131 => ?_) (fun c131 => ?_)
    · refine lv_iconst (v := nI 0) hx hb dL_law_138 (by decide) ?_
      refine lj_top (y := lj_pI (false = true)) (lj_f (by decide)).symm ?_
      refine z_callF (wf := wM h) (w2 := wX g u112) (n := 3) (As := [.int (xs (i + 1)), .int (xs (i + 2)), .int (lj_pI (false = true))]) (rest := [.int r112]) ⟨hx, hb, hml, hown, hts⟩ hKM hP hD hS hA [0, 1, 2, 3, 4, 5] [6, 7, 8, 9, 10] rfl rfl (by decide) (by decide) (metM_put l dd h L2 D2 F2 G J len dl fm hM (xs (i + 1)) (xs (i + 2)) false) (lw_V q151 q152 q153 q19 q154) (by decide +kernel) ⟨Nat.le_of_ble_eq_true rfl, Nat.le_of_ble_eq_true rfl⟩ (ci := 1) rfl rfl rfl rfl hl.1 rfl (Nat.le_of_ble_eq_true rfl) dL_law_139 ⟨Nat.le_refl _, Nat.le_refl _⟩ (fun r139 u139 H locs hpo139 hP hD hS => ?_)
      obtain ⟨len2, dl2, fm2, r2, k2, hp1, hv1⟩ := hpo112
      obtain ⟨len3, dl3, fm3, hp2, hv2⟩ := hpo139
      obtain ⟨hEq, rfl, rfl, rfl⟩ := lj_pput_uniq hp1 hp2
      refine lv_icmp_eq (tgt := 360) hx hb dL_law_142 (by decide) (fun c142 => ?_) (fun c142 => ?_)
      · exact kx _ _ H locs (⟨_, _, _, _, _, hv1, hv2⟩) hP hD hS
      · exact absurd hEq c142
    · exact absurd c104 c131
  · refine lv_iconst (v := nI 1) hx hb dL_law_107 (by decide) ?_
    refine lv_goto (tgt := 112) hx hb dL_law_108 (by decide) ?_
    refine lj_top (y := lj_pI (true = true)) (lj_t rfl).symm ?_
    refine z_callF (wf := wX g) (w2 := wM h (L2, D2, F2, G, J)) (n := 3) (As := [.int (xs (i + 1)), .int (xs (i + 2)), .int (lj_pI (true = true))]) (rest := []) ⟨hx, hb, hml, hown, hts⟩ hKX hP hD hS hA [0, 1, 2, 3, 4] [5, 6, 7, 8, 9, 10] rfl rfl (by decide) (by decide) (metX_put l dd g L D F R ad ac am len dl fm r k hX (xs (i + 1)) (xs (i + 2)) true) (lw_V q59 q60 q61 q18 q62) (by decide +kernel) ⟨Nat.le_of_ble_eq_true rfl, Nat.le_of_ble_eq_true rfl⟩ (ci := 0) rfl rfl rfl rfl hl.1 rfl (Nat.le_of_ble_eq_true rfl) dL_law_112 ⟨Nat.le_refl _, Nat.le_refl _⟩ (fun r112 u112 H locs hpo112 hP hD hS => ?_)
    refine lv_aload_n hx hb dL_law_115 rfl (lv_at hl 2 rfl) ?_
    refine lv_aload_n hx hb dL_law_116 rfl (lv_at hl 0 rfl) ?_
    refine lv_iload_n hx hb dL_law_117 rfl (lv_at hl 3 rfl) ?_
    refine lv_iconst (v := nI 1) hx hb dL_law_118 (by decide) ?_
    refine lv_iadd hx hb dL_law_119 ?_
    refine lj_top (y := nI (i + 1)) (nI_add _ _) ?_
    refine y_sld hx hb hscr hbl hbA hS (j := i + 1) (by omega) (by omega) dL_law_120 ?_
    refine lv_aload_n hx hb dL_law_121 rfl (lv_at hl 0 rfl) ?_
    refine lv_iload_n hx hb dL_law_122 rfl (lv_at hl 3 rfl) ?_
    refine lv_iconst (v := nI 2) hx hb dL_law_123 (by decide) ?_
    refine lv_iadd hx hb dL_law_124 ?_
    refine lj_top (y := nI (i + 2)) (nI_add _ _) ?_
    refine y_sld hx hb hscr hbl hbA hS (j := i + 2) (by omega) (by omega) dL_law_125 ?_
    refine lv_aload_n hx hb dL_law_126 rfl (lv_at hl 0 rfl) ?_
    refine lv_iload_n hx hb dL_law_127 rfl (lv_at hl 3 rfl) ?_
    refine lv_iconst (v := nI 3) hx hb dL_law_128 (by decide) ?_
    refine lv_iadd hx hb dL_law_129 ?_
    refine lj_top (y := nI (i + 3)) (nI_add _ _) ?_
    refine y_sld hx hb hscr hbl hbA hS (j := i + 3) (by omega) (by omega) dL_law_130 ?_
    refine lv_if_eq (tgt := 138) hx hb dL_law_131 (by decide) (fun c131 => ?_) (fun c131 => ?_)
    · exact absurd c131 c104
    · refine lv_iconst (v := nI 1) hx hb dL_law_134 (by decide) ?_
      refine lv_goto (tgt := 139) hx hb dL_law_135 (by decide) ?_
      refine lj_top (y := lj_pI (true = true)) (lj_t rfl).symm ?_
      refine z_callF (wf := wM h) (w2 := wX g u112) (n := 3) (As := [.int (xs (i + 1)), .int (xs (i + 2)), .int (lj_pI (true = true))]) (rest := [.int r112]) ⟨hx, hb, hml, hown, hts⟩ hKM hP hD hS hA [0, 1, 2, 3, 4, 5] [6, 7, 8, 9, 10] rfl rfl (by decide) (by decide) (metM_put l dd h L2 D2 F2 G J len dl fm hM (xs (i + 1)) (xs (i + 2)) true) (lw_V q151 q152 q153 q19 q154) (by decide +kernel) ⟨Nat.le_of_ble_eq_true rfl, Nat.le_of_ble_eq_true rfl⟩ (ci := 1) rfl rfl rfl rfl hl.1 rfl (Nat.le_of_ble_eq_true rfl) dL_law_139 ⟨Nat.le_refl _, Nat.le_refl _⟩ (fun r139 u139 H locs hpo139 hP hD hS => ?_)
      obtain ⟨len2, dl2, fm2, r2, k2, hp1, hv1⟩ := hpo112
      obtain ⟨len3, dl3, fm3, hp2, hv2⟩ := hpo139
      obtain ⟨hEq, rfl, rfl, rfl⟩ := lj_pput_uniq hp1 hp2
      refine lv_icmp_eq (tgt := 360) hx hb dL_law_142 (by decide) (fun c142 => ?_) (fun c142 => ?_)
      · exact kx _ _ H locs (⟨_, _, _, _, _, hv1, hv2⟩) hP hD hS
      · exact absurd hEq c142

set_option maxHeartbeats 4000000 in
set_option maxRecDepth 100000 in
theorem law_c1 {p : Program} {l : Launch} {e : Env} {s : State} {m : MethodId} {b : Nat} {below : List Frame} {meth : Method} {c : Code} {Q : State → Prop} {dd : va_G} {A : Nat → Prop} {g : XG} {h : MG} {L0 : Nat} {xs : Nat → Int32} (hx : p.tables.exec = Jvm.exec) (hb : c.code = cL_law) (hts : ∀ w ∈ lw_all, w.before #[Value.ref b] s = true) (hown : s.vm.findClass R_law = some m.cls) (hml : c.maxLocals = 4) (hA : ∀ q : Nat, s.heap.size ≤ q → A q) (hscr : va_X b L0 xs s s.heap) (hbl : b < s.heap.size) (hbA : ¬ A b) (hL0 : L0 ≤ 256) (hKX : va_K dd vwCl (tyX g) s) (hKM : va_K dd vwCl (tyM h) s) {i : Nat} (hi : i + 4 ≤ L0) {ls : Array Slot} (hl : lv_has ls 4 [(0, .ref b), (1, .ref g.1), (2, .ref h.1), (3, .int (nI i))]) (kx : ∀ (u : XS) (v : MS) (H : Heap) (locs : List Loc), lj_IV u v → va_P dd vwCl (wX g u ++ wM h v) H → va_D A (wX g u ++ wM h v) → va_S A s.heap H locs → W p l e room_1 s m #[Value.ref b] below meth c H locs 600000 7290000 Q (F0 m 360 ls [])) :
    ∀ (u : XS) (v : MS) (H : Heap) (locs : List Loc), lj_IV u v → va_P dd vwCl (wX g u ++ wM h v) H → va_D A (wX g u ++ wM h v) → va_S A s.heap H locs → W p l e room_1 s m #[Value.ref b] below meth c H locs 600000 7290000 Q (F0 m 147 ls []) := by
  intro u v H locs hIV hP hD hS
  obtain ⟨len, dl, fm, r, k, ⟨L, D, F, R, ad, ac, am, rfl, hX⟩, ⟨L2, D2, F2, G, J, rfl, hM⟩⟩ := hIV
  refine lv_aload_n hx hb dL_law_147 rfl (lv_at hl 1 rfl) ?_
  refine lv_aload_n hx hb dL_law_148 rfl (lv_at hl 0 rfl) ?_
  refine lv_iload_n hx hb dL_law_149 rfl (lv_at hl 3 rfl) ?_
  refine lv_iconst (v := nI 1) hx hb dL_law_150 (by decide) ?_
  refine lv_iadd hx hb dL_law_151 ?_
  refine lj_top (y := nI (i + 1)) (nI_add _ _) ?_
  refine y_sld hx hb hscr hbl hbA hS (j := i + 1) (by omega) (by omega) dL_law_152 ?_
  refine z_callF (wf := wX g) (w2 := wM h (L2, D2, F2, G, J)) (n := 1) (As := [.int (xs (i + 1))]) (rest := []) ⟨hx, hb, hml, hown, hts⟩ hKX hP hD hS hA [0, 1, 2, 3, 4] [5, 6, 7, 8, 9, 10] rfl rfl (by decide) (by decide) (metX_drop l dd g L D F R ad ac am len dl r k hX.1 hX.2.2.2.2.1 (by rw [hX.2.2.2.2.2.2.2.1]; exact lj_ct_le len) hX.2.2.2.1 hX.2.2.2.2.2.2.2.2 (xs (i + 1))) (lw_V q71 q72 q73 q18 q74) (by decide +kernel) ⟨Nat.le_of_ble_eq_true rfl, Nat.le_of_ble_eq_true rfl⟩ (ci := 0) rfl rfl rfl rfl hl.1 rfl (Nat.le_of_ble_eq_true rfl) dL_law_153 ⟨Nat.le_refl _, Nat.le_refl _⟩ (fun r153 u153 H locs hpo153 hP hD hS => ?_)
  refine lv_aload_n hx hb dL_law_156 rfl (lv_at hl 2 rfl) ?_
  refine lv_aload_n hx hb dL_law_157 rfl (lv_at hl 0 rfl) ?_
  refine lv_iload_n hx hb dL_law_158 rfl (lv_at hl 3 rfl) ?_
  refine lv_iconst (v := nI 1) hx hb dL_law_159 (by decide) ?_
  refine lv_iadd hx hb dL_law_160 ?_
  refine lj_top (y := nI (i + 1)) (nI_add _ _) ?_
  refine y_sld hx hb hscr hbl hbA hS (j := i + 1) (by omega) (by omega) dL_law_161 ?_
  refine z_callF (wf := wM h) (w2 := wX g u153) (n := 1) (As := [.int (xs (i + 1))]) (rest := [.int r153]) ⟨hx, hb, hml, hown, hts⟩ hKM hP hD hS hA [0, 1, 2, 3, 4, 5] [6, 7, 8, 9, 10] rfl rfl (by decide) (by decide) (metM_drop l dd h L2 D2 F2 G J len dl fm hM (xs (i + 1))) (lw_V q159 q160 q161 q19 q162) (by decide +kernel) ⟨Nat.le_of_ble_eq_true rfl, Nat.le_of_ble_eq_true rfl⟩ (ci := 1) rfl rfl rfl rfl hl.1 rfl (Nat.le_of_ble_eq_true rfl) dL_law_162 ⟨Nat.le_refl _, Nat.le_refl _⟩ (fun r162 u162 H locs hpo162 hP hD hS => ?_)
  obtain ⟨len2, r2, k2, hp1, hv1⟩ := lj_drop_X hX hpo153
  obtain ⟨len3, hp2, hv2⟩ := hpo162
  obtain ⟨hEq, rfl⟩ := lj_pdrop_uniq hp1 hp2
  refine lv_icmp_eq (tgt := 360) hx hb dL_law_165 (by decide) (fun c165 => ?_) (fun c165 => ?_)
  · exact kx _ _ H locs (⟨_, _, _, _, _, hv1, hv2⟩) hP hD hS
  · exact absurd hEq c165

set_option maxHeartbeats 4000000 in
set_option maxRecDepth 100000 in
theorem law_c2 {p : Program} {l : Launch} {e : Env} {s : State} {m : MethodId} {b : Nat} {below : List Frame} {meth : Method} {c : Code} {Q : State → Prop} {dd : va_G} {A : Nat → Prop} {g : XG} {h : MG} {L0 : Nat} {xs : Nat → Int32} (hx : p.tables.exec = Jvm.exec) (hb : c.code = cL_law) (hts : ∀ w ∈ lw_all, w.before #[Value.ref b] s = true) (hown : s.vm.findClass R_law = some m.cls) (hml : c.maxLocals = 4) (hA : ∀ q : Nat, s.heap.size ≤ q → A q) (hscr : va_X b L0 xs s s.heap) (hbl : b < s.heap.size) (hbA : ¬ A b) (hL0 : L0 ≤ 256) (hKX : va_K dd vwCl (tyX g) s) (hKM : va_K dd vwCl (tyM h) s) {i : Nat} (hi : i + 4 ≤ L0) {ls : Array Slot} (hl : lv_has ls 4 [(0, .ref b), (1, .ref g.1), (2, .ref h.1), (3, .int (nI i))]) (kx : ∀ (u : XS) (v : MS) (H : Heap) (locs : List Loc), lj_IV u v → va_P dd vwCl (wX g u ++ wM h v) H → va_D A (wX g u ++ wM h v) → va_S A s.heap H locs → W p l e room_1 s m #[Value.ref b] below meth c H locs 600000 7290000 Q (F0 m 360 ls [])) :
    ∀ (u : XS) (v : MS) (H : Heap) (locs : List Loc), lj_IV u v → va_P dd vwCl (wX g u ++ wM h v) H → va_D A (wX g u ++ wM h v) → va_S A s.heap H locs → W p l e room_1 s m #[Value.ref b] below meth c H locs 600000 7290000 Q (F0 m 170 ls []) := by
  intro u v H locs hIV hP hD hS
  obtain ⟨len, dl, fm, r, k, ⟨L, D, F, R, ad, ac, am, rfl, hX⟩, ⟨L2, D2, F2, G, J, rfl, hM⟩⟩ := hIV
  refine lv_aload_n hx hb dL_law_170 rfl (lv_at hl 1 rfl) ?_
  refine lv_aload_n hx hb dL_law_171 rfl (lv_at hl 0 rfl) ?_
  refine lv_iload_n hx hb dL_law_172 rfl (lv_at hl 3 rfl) ?_
  refine lv_iconst (v := nI 1) hx hb dL_law_173 (by decide) ?_
  refine lv_iadd hx hb dL_law_174 ?_
  refine lj_top (y := nI (i + 1)) (nI_add _ _) ?_
  refine y_sld hx hb hscr hbl hbA hS (j := i + 1) (by omega) (by omega) dL_law_175 ?_
  refine lv_aload_n hx hb dL_law_176 rfl (lv_at hl 0 rfl) ?_
  refine lv_iload_n hx hb dL_law_177 rfl (lv_at hl 3 rfl) ?_
  refine lv_iconst (v := nI 2) hx hb dL_law_178 (by decide) ?_
  refine lv_iadd hx hb dL_law_179 ?_
  refine lj_top (y := nI (i + 2)) (nI_add _ _) ?_
  refine y_sld hx hb hscr hbl hbA hS (j := i + 2) (by omega) (by omega) dL_law_180 ?_
  refine lv_if_eq (tgt := 188) hx hb dL_law_181 (by decide) (fun c181 => ?_) (fun c181 => ?_)
  · refine lv_iconst (v := nI 0) hx hb dL_law_188 (by decide) ?_
    refine lj_top (y := lj_pI (false = true)) (lj_f (by decide)).symm ?_
    refine z_callF (wf := wX g) (w2 := wM h (L2, D2, F2, G, J)) (n := 2) (As := [.int (xs (i + 1)), .int (lj_pI (false = true))]) (rest := []) ⟨hx, hb, hml, hown, hts⟩ hKX hP hD hS hA [0, 1, 2, 3, 4] [5, 6, 7, 8, 9, 10] rfl rfl (by decide) (by decide) (metX_makeFirm l dd g L D F R ad ac am len dl fm r k hX (xs (i + 1)) false) (lw_V q83 q84 q85 q18 q86) (by decide +kernel) ⟨Nat.le_of_ble_eq_true rfl, Nat.le_of_ble_eq_true rfl⟩ (ci := 0) rfl rfl rfl rfl hl.1 rfl (Nat.le_of_ble_eq_true rfl) dL_law_189 ⟨Nat.le_refl _, Nat.le_refl _⟩ (fun r189 u189 H locs hpo189 hP hD hS => ?_)
    refine lv_aload_n hx hb dL_law_192 rfl (lv_at hl 2 rfl) ?_
    refine lv_aload_n hx hb dL_law_193 rfl (lv_at hl 0 rfl) ?_
    refine lv_iload_n hx hb dL_law_194 rfl (lv_at hl 3 rfl) ?_
    refine lv_iconst (v := nI 1) hx hb dL_law_195 (by decide) ?_
    refine lv_iadd hx hb dL_law_196 ?_
    refine lj_top (y := nI (i + 1)) (nI_add _ _) ?_
    refine y_sld hx hb hscr hbl hbA hS (j := i + 1) (by omega) (by omega) dL_law_197 ?_
    refine lv_aload_n hx hb dL_law_198 rfl (lv_at hl 0 rfl) ?_
    refine lv_iload_n hx hb dL_law_199 rfl (lv_at hl 3 rfl) ?_
    refine lv_iconst (v := nI 2) hx hb dL_law_200 (by decide) ?_
    refine lv_iadd hx hb dL_law_201 ?_
    refine lj_top (y := nI (i + 2)) (nI_add _ _) ?_
    refine y_sld hx hb hscr hbl hbA hS (j := i + 2) (by omega) (by omega) dL_law_202 ?_
    refine lv_if_eq (tgt := 210) hx hb dL_law_203 (by decide) (fun c203 => ?_) (fun c203 => ?_)
    · refine lv_iconst (v := nI 0) hx hb dL_law_210 (by decide) ?_
      refine lj_top (y := lj_pI (false = true)) (lj_f (by decide)).symm ?_
      refine z_callF (wf := wM h) (w2 := wX g u189) (n := 2) (As := [.int (xs (i + 1)), .int (lj_pI (false = true))]) (rest := [.int r189]) ⟨hx, hb, hml, hown, hts⟩ hKM hP hD hS hA [0, 1, 2, 3, 4, 5] [6, 7, 8, 9, 10] rfl rfl (by decide) (by decide) (metM_makeFirm l dd h L2 D2 F2 G J len dl fm hM (xs (i + 1)) false) (lw_V q171 q172 q173 q19 q174) (by decide +kernel) ⟨Nat.le_of_ble_eq_true rfl, Nat.le_of_ble_eq_true rfl⟩ (ci := 1) rfl rfl rfl rfl hl.1 rfl (Nat.le_of_ble_eq_true rfl) dL_law_211 ⟨Nat.le_refl _, Nat.le_refl _⟩ (fun r211 u211 H locs hpo211 hP hD hS => ?_)
      obtain ⟨fm2, hp1, hv1⟩ := hpo189
      obtain ⟨fm3, hp2, hv2⟩ := hpo211
      obtain ⟨hEq, rfl⟩ := lj_pfirm_uniq hp1 hp2
      refine lv_icmp_eq (tgt := 360) hx hb dL_law_214 (by decide) (fun c214 => ?_) (fun c214 => ?_)
      · exact kx _ _ H locs (⟨_, _, _, _, _, hv1, hv2⟩) hP hD hS
      · exact absurd hEq c214
    · exact absurd c181 c203
  · refine lv_iconst (v := nI 1) hx hb dL_law_184 (by decide) ?_
    refine lv_goto (tgt := 189) hx hb dL_law_185 (by decide) ?_
    refine lj_top (y := lj_pI (true = true)) (lj_t rfl).symm ?_
    refine z_callF (wf := wX g) (w2 := wM h (L2, D2, F2, G, J)) (n := 2) (As := [.int (xs (i + 1)), .int (lj_pI (true = true))]) (rest := []) ⟨hx, hb, hml, hown, hts⟩ hKX hP hD hS hA [0, 1, 2, 3, 4] [5, 6, 7, 8, 9, 10] rfl rfl (by decide) (by decide) (metX_makeFirm l dd g L D F R ad ac am len dl fm r k hX (xs (i + 1)) true) (lw_V q83 q84 q85 q18 q86) (by decide +kernel) ⟨Nat.le_of_ble_eq_true rfl, Nat.le_of_ble_eq_true rfl⟩ (ci := 0) rfl rfl rfl rfl hl.1 rfl (Nat.le_of_ble_eq_true rfl) dL_law_189 ⟨Nat.le_refl _, Nat.le_refl _⟩ (fun r189 u189 H locs hpo189 hP hD hS => ?_)
    refine lv_aload_n hx hb dL_law_192 rfl (lv_at hl 2 rfl) ?_
    refine lv_aload_n hx hb dL_law_193 rfl (lv_at hl 0 rfl) ?_
    refine lv_iload_n hx hb dL_law_194 rfl (lv_at hl 3 rfl) ?_
    refine lv_iconst (v := nI 1) hx hb dL_law_195 (by decide) ?_
    refine lv_iadd hx hb dL_law_196 ?_
    refine lj_top (y := nI (i + 1)) (nI_add _ _) ?_
    refine y_sld hx hb hscr hbl hbA hS (j := i + 1) (by omega) (by omega) dL_law_197 ?_
    refine lv_aload_n hx hb dL_law_198 rfl (lv_at hl 0 rfl) ?_
    refine lv_iload_n hx hb dL_law_199 rfl (lv_at hl 3 rfl) ?_
    refine lv_iconst (v := nI 2) hx hb dL_law_200 (by decide) ?_
    refine lv_iadd hx hb dL_law_201 ?_
    refine lj_top (y := nI (i + 2)) (nI_add _ _) ?_
    refine y_sld hx hb hscr hbl hbA hS (j := i + 2) (by omega) (by omega) dL_law_202 ?_
    refine lv_if_eq (tgt := 210) hx hb dL_law_203 (by decide) (fun c203 => ?_) (fun c203 => ?_)
    · exact absurd c203 c181
    · refine lv_iconst (v := nI 1) hx hb dL_law_206 (by decide) ?_
      refine lv_goto (tgt := 211) hx hb dL_law_207 (by decide) ?_
      refine lj_top (y := lj_pI (true = true)) (lj_t rfl).symm ?_
      refine z_callF (wf := wM h) (w2 := wX g u189) (n := 2) (As := [.int (xs (i + 1)), .int (lj_pI (true = true))]) (rest := [.int r189]) ⟨hx, hb, hml, hown, hts⟩ hKM hP hD hS hA [0, 1, 2, 3, 4, 5] [6, 7, 8, 9, 10] rfl rfl (by decide) (by decide) (metM_makeFirm l dd h L2 D2 F2 G J len dl fm hM (xs (i + 1)) true) (lw_V q171 q172 q173 q19 q174) (by decide +kernel) ⟨Nat.le_of_ble_eq_true rfl, Nat.le_of_ble_eq_true rfl⟩ (ci := 1) rfl rfl rfl rfl hl.1 rfl (Nat.le_of_ble_eq_true rfl) dL_law_211 ⟨Nat.le_refl _, Nat.le_refl _⟩ (fun r211 u211 H locs hpo211 hP hD hS => ?_)
      obtain ⟨fm2, hp1, hv1⟩ := hpo189
      obtain ⟨fm3, hp2, hv2⟩ := hpo211
      obtain ⟨hEq, rfl⟩ := lj_pfirm_uniq hp1 hp2
      refine lv_icmp_eq (tgt := 360) hx hb dL_law_214 (by decide) (fun c214 => ?_) (fun c214 => ?_)
      · exact kx _ _ H locs (⟨_, _, _, _, _, hv1, hv2⟩) hP hD hS
      · exact absurd hEq c214

set_option maxHeartbeats 4000000 in
set_option maxRecDepth 100000 in
theorem law_c3 {p : Program} {l : Launch} {e : Env} {s : State} {m : MethodId} {b : Nat} {below : List Frame} {meth : Method} {c : Code} {Q : State → Prop} {dd : va_G} {A : Nat → Prop} {g : XG} {h : MG} {L0 : Nat} {xs : Nat → Int32} (hx : p.tables.exec = Jvm.exec) (hb : c.code = cL_law) (hts : ∀ w ∈ lw_all, w.before #[Value.ref b] s = true) (hown : s.vm.findClass R_law = some m.cls) (hml : c.maxLocals = 4) (hA : ∀ q : Nat, s.heap.size ≤ q → A q) (hscr : va_X b L0 xs s s.heap) (hbl : b < s.heap.size) (hbA : ¬ A b) (hL0 : L0 ≤ 256) (hKX : va_K dd vwCl (tyX g) s) (hKM : va_K dd vwCl (tyM h) s) {i : Nat} (hi : i + 4 ≤ L0) {ls : Array Slot} (hl : lv_has ls 4 [(0, .ref b), (1, .ref g.1), (2, .ref h.1), (3, .int (nI i))]) (kx : ∀ (u : XS) (v : MS) (H : Heap) (locs : List Loc), lj_IV u v → va_P dd vwCl (wX g u ++ wM h v) H → va_D A (wX g u ++ wM h v) → va_S A s.heap H locs → W p l e room_1 s m #[Value.ref b] below meth c H locs 600000 7290000 Q (F0 m 360 ls [])) :
    ∀ (u : XS) (v : MS) (H : Heap) (locs : List Loc), lj_IV u v → va_P dd vwCl (wX g u ++ wM h v) H → va_D A (wX g u ++ wM h v) → va_S A s.heap H locs → W p l e room_1 s m #[Value.ref b] below meth c H locs 600000 7290000 Q (F0 m 219 ls []) := by
  intro u v H locs hIV hP hD hS
  obtain ⟨len, dl, fm, r, k, ⟨L, D, F, R, ad, ac, am, rfl, hX⟩, ⟨L2, D2, F2, G, J, rfl, hM⟩⟩ := hIV
  refine lv_aload_n hx hb dL_law_219 rfl (lv_at hl 1 rfl) ?_
  refine z_callF (wf := wX g) (w2 := wM h (L2, D2, F2, G, J)) (n := 0) (As := []) (rest := []) ⟨hx, hb, hml, hown, hts⟩ hKX hP hD hS hA [0, 1, 2, 3, 4] [5, 6, 7, 8, 9, 10] rfl rfl (by decide) (by decide) (metX_jobs l dd g (nI k) L D F (nI k) R ad ac am) (lw_V q87 q88 q89 q18 q90) (by decide +kernel) ⟨Nat.le_of_ble_eq_true rfl, Nat.le_of_ble_eq_true rfl⟩ (ci := 0) rfl rfl rfl rfl hl.1 rfl (Nat.le_of_ble_eq_true rfl) dL_law_220 ⟨Nat.le_refl _, Nat.le_refl _⟩ (fun r220 u220 H locs hpo220 hP hD hS => ?_)
  refine lv_aload_n hx hb dL_law_223 rfl (lv_at hl 2 rfl) ?_
  refine z_callF (wf := wM h) (w2 := wX g u220) (n := 0) (As := []) (rest := [.int r220]) ⟨hx, hb, hml, hown, hts⟩ hKM hP hD hS hA [0, 1, 2, 3, 4, 5] [6, 7, 8, 9, 10] rfl rfl (by decide) (by decide) (metM_jobs l dd h L2 D2 F2 G J len hM.1 hM.2.2.2.1) (lw_V q175 q168 q169 q19 q170) (by decide +kernel) ⟨Nat.le_of_ble_eq_true rfl, Nat.le_of_ble_eq_true rfl⟩ (ci := 1) rfl rfl rfl rfl hl.1 rfl (Nat.le_of_ble_eq_true rfl) dL_law_224 ⟨Nat.le_refl _, Nat.le_refl _⟩ (fun r224 u224 H locs hpo224 hP hD hS => ?_)
  obtain ⟨hp1, rfl⟩ := hpo220
  obtain ⟨hp2, rfl⟩ := hpo224
  have hEq : r220 = r224 := by rw [hp1, hp2, hX.2.2.2.2.2.2.2.1]
  refine lv_icmp_eq (tgt := 360) hx hb dL_law_227 (by decide) (fun c227 => ?_) (fun c227 => ?_)
  · exact kx _ _ H locs (⟨len, dl, fm, r, k, ⟨L, D, F, R, ad, ac, am, rfl, hX⟩, ⟨L2, D2, F2, G, J, rfl, hM⟩⟩) hP hD hS
  · exact absurd hEq c227

set_option maxHeartbeats 4000000 in
set_option maxRecDepth 100000 in
theorem law_c4 {p : Program} {l : Launch} {e : Env} {s : State} {m : MethodId} {b : Nat} {below : List Frame} {meth : Method} {c : Code} {Q : State → Prop} {dd : va_G} {A : Nat → Prop} {g : XG} {h : MG} {L0 : Nat} {xs : Nat → Int32} (hx : p.tables.exec = Jvm.exec) (hb : c.code = cL_law) (hts : ∀ w ∈ lw_all, w.before #[Value.ref b] s = true) (hown : s.vm.findClass R_law = some m.cls) (hml : c.maxLocals = 4) (hA : ∀ q : Nat, s.heap.size ≤ q → A q) (hscr : va_X b L0 xs s s.heap) (hbl : b < s.heap.size) (hbA : ¬ A b) (hL0 : L0 ≤ 256) (hKX : va_K dd vwCl (tyX g) s) (hKM : va_K dd vwCl (tyM h) s) {i : Nat} (hi : i + 4 ≤ L0) {ls : Array Slot} (hl : lv_has ls 4 [(0, .ref b), (1, .ref g.1), (2, .ref h.1), (3, .int (nI i))]) (kx : ∀ (u : XS) (v : MS) (H : Heap) (locs : List Loc), lj_IV u v → va_P dd vwCl (wX g u ++ wM h v) H → va_D A (wX g u ++ wM h v) → va_S A s.heap H locs → W p l e room_1 s m #[Value.ref b] below meth c H locs 600000 7290000 Q (F0 m 360 ls [])) :
    ∀ (u : XS) (v : MS) (H : Heap) (locs : List Loc), lj_IV u v → va_P dd vwCl (wX g u ++ wM h v) H → va_D A (wX g u ++ wM h v) → va_S A s.heap H locs → W p l e room_1 s m #[Value.ref b] below meth c H locs 600000 7290000 Q (F0 m 232 ls []) := by
  intro u v H locs hIV hP hD hS
  obtain ⟨len, dl, fm, r, k, ⟨L, D, F, R, ad, ac, am, rfl, hX⟩, ⟨L2, D2, F2, G, J, rfl, hM⟩⟩ := hIV
  refine lv_aload_n hx hb dL_law_232 rfl (lv_at hl 1 rfl) ?_
  refine lv_aload_n hx hb dL_law_233 rfl (lv_at hl 0 rfl) ?_
  refine lv_iload_n hx hb dL_law_234 rfl (lv_at hl 3 rfl) ?_
  refine lv_iconst (v := nI 1) hx hb dL_law_235 (by decide) ?_
  refine lv_iadd hx hb dL_law_236 ?_
  refine lj_top (y := nI (i + 1)) (nI_add _ _) ?_
  refine y_sld hx hb hscr hbl hbA hS (j := i + 1) (by omega) (by omega) dL_law_237 ?_
  refine z_callF (wf := wX g) (w2 := wM h (L2, D2, F2, G, J)) (n := 1) (As := [.int (xs (i + 1))]) (rest := []) ⟨hx, hb, hml, hown, hts⟩ hKX hP hD hS hA [0, 1, 2, 3, 4] [5, 6, 7, 8, 9, 10] rfl rfl (by decide) (by decide) (metX_feasible l dd g L D F R ad ac am len dl fm r k hX (xs (i + 1))) (lw_V q91 q92 q93 q18 q94) (by decide +kernel) ⟨Nat.le_of_ble_eq_true rfl, Nat.le_of_ble_eq_true rfl⟩ (ci := 0) rfl rfl rfl rfl hl.1 rfl (Nat.le_of_ble_eq_true rfl) dL_law_238 ⟨Nat.le_refl _, Nat.le_refl _⟩ (fun r238 u238 H locs hpo238 hP hD hS => ?_)
  refine lv_aload_n hx hb dL_law_241 rfl (lv_at hl 2 rfl) ?_
  refine lv_aload_n hx hb dL_law_242 rfl (lv_at hl 0 rfl) ?_
  refine lv_iload_n hx hb dL_law_243 rfl (lv_at hl 3 rfl) ?_
  refine lv_iconst (v := nI 1) hx hb dL_law_244 (by decide) ?_
  refine lv_iadd hx hb dL_law_245 ?_
  refine lj_top (y := nI (i + 1)) (nI_add _ _) ?_
  refine y_sld hx hb hscr hbl hbA hS (j := i + 1) (by omega) (by omega) dL_law_246 ?_
  refine z_callF (wf := wM h) (w2 := wX g u238) (n := 1) (As := [.int (xs (i + 1))]) (rest := [.int r238]) ⟨hx, hb, hml, hown, hts⟩ hKM hP hD hS hA [0, 1, 2, 3, 4, 5] [6, 7, 8, 9, 10] rfl rfl (by decide) (by decide) (metM_feasible l dd h L2 D2 F2 G J len dl fm hM (xs (i + 1))) (lw_V q176 q177 q178 q19 q179) (by decide +kernel) ⟨Nat.le_of_ble_eq_true rfl, Nat.le_of_ble_eq_true rfl⟩ (ci := 1) rfl rfl rfl rfl hl.1 rfl (Nat.le_of_ble_eq_true rfl) dL_law_247 ⟨Nat.le_refl _, Nat.le_refl _⟩ (fun r247 u247 H locs hpo247 hP hD hS => ?_)
  obtain ⟨hp1, rfl⟩ := hpo238
  obtain ⟨hp2, hv2⟩ := hpo247
  have hEq : r238 = r247 := hp1.trans hp2.symm
  refine lv_icmp_eq (tgt := 360) hx hb dL_law_250 (by decide) (fun c250 => ?_) (fun c250 => ?_)
  · exact kx _ _ H locs (⟨len, dl, fm, r, k, ⟨L, D, F, R, ad, ac, am, rfl, hX⟩, hv2⟩) hP hD hS
  · exact absurd hEq c250

set_option maxHeartbeats 4000000 in
set_option maxRecDepth 100000 in
theorem law_c5 {p : Program} {l : Launch} {e : Env} {s : State} {m : MethodId} {b : Nat} {below : List Frame} {meth : Method} {c : Code} {Q : State → Prop} {dd : va_G} {A : Nat → Prop} {g : XG} {h : MG} {L0 : Nat} {xs : Nat → Int32} (hx : p.tables.exec = Jvm.exec) (hb : c.code = cL_law) (hts : ∀ w ∈ lw_all, w.before #[Value.ref b] s = true) (hown : s.vm.findClass R_law = some m.cls) (hml : c.maxLocals = 4) (hA : ∀ q : Nat, s.heap.size ≤ q → A q) (hscr : va_X b L0 xs s s.heap) (hbl : b < s.heap.size) (hbA : ¬ A b) (hL0 : L0 ≤ 256) (hKX : va_K dd vwCl (tyX g) s) (hKM : va_K dd vwCl (tyM h) s) {i : Nat} (hi : i + 4 ≤ L0) {ls : Array Slot} (hl : lv_has ls 4 [(0, .ref b), (1, .ref g.1), (2, .ref h.1), (3, .int (nI i))]) (kx : ∀ (u : XS) (v : MS) (H : Heap) (locs : List Loc), lj_IV u v → va_P dd vwCl (wX g u ++ wM h v) H → va_D A (wX g u ++ wM h v) → va_S A s.heap H locs → W p l e room_1 s m #[Value.ref b] below meth c H locs 600000 7290000 Q (F0 m 360 ls [])) :
    ∀ (u : XS) (v : MS) (H : Heap) (locs : List Loc), lj_IV u v → va_P dd vwCl (wX g u ++ wM h v) H → va_D A (wX g u ++ wM h v) → va_S A s.heap H locs → W p l e room_1 s m #[Value.ref b] below meth c H locs 600000 7290000 Q (F0 m 255 ls []) := by
  intro u v H locs hIV hP hD hS
  obtain ⟨len, dl, fm, r, k, ⟨L, D, F, R, ad, ac, am, rfl, hX⟩, ⟨L2, D2, F2, G, J, rfl, hM⟩⟩ := hIV
  refine lv_aload_n hx hb dL_law_255 rfl (lv_at hl 1 rfl) ?_
  refine z_callF (wf := wX g) (w2 := wM h (L2, D2, F2, G, J)) (n := 0) (As := []) (rest := []) ⟨hx, hb, hml, hown, hts⟩ hKX hP hD hS hA [0, 1, 2, 3, 4] [5, 6, 7, 8, 9, 10] rfl rfl (by decide) (by decide) (metX_mostInTime l dd g L D F R ad ac am len dl fm r k hX ) (lw_V q99 q100 q101 q18 q102) (by decide +kernel) ⟨Nat.le_of_ble_eq_true rfl, Nat.le_of_ble_eq_true rfl⟩ (ci := 0) rfl rfl rfl rfl hl.1 rfl (Nat.le_of_ble_eq_true rfl) dL_law_256 ⟨Nat.le_refl _, Nat.le_refl _⟩ (fun r256 u256 H locs hpo256 hP hD hS => ?_)
  refine lv_aload_n hx hb dL_law_259 rfl (lv_at hl 2 rfl) ?_
  refine z_callF (wf := wM h) (w2 := wX g u256) (n := 0) (As := []) (rest := [.int r256]) ⟨hx, hb, hml, hown, hts⟩ hKM hP hD hS hA [0, 1, 2, 3, 4, 5] [6, 7, 8, 9, 10] rfl rfl (by decide) (by decide) (metM_mostInTime l dd h L2 D2 F2 G J len dl fm hM ) (lw_V q196 q197 q198 q19 q199) (by decide +kernel) ⟨Nat.le_of_ble_eq_true rfl, Nat.le_of_ble_eq_true rfl⟩ (ci := 1) rfl rfl rfl rfl hl.1 rfl (Nat.le_of_ble_eq_true rfl) dL_law_260 ⟨Nat.le_refl _, Nat.le_refl _⟩ (fun r260 u260 H locs hpo260 hP hD hS => ?_)
  obtain ⟨hp1, ad2, ac2, am2, rfl⟩ := hpo256
  obtain ⟨hp2, G2, rfl⟩ := hpo260
  have hEq : r256 = r260 := lj_pmost_uniq hp1 hp2
  refine lv_icmp_eq (tgt := 360) hx hb dL_law_263 (by decide) (fun c263 => ?_) (fun c263 => ?_)
  · exact kx _ _ H locs (⟨len, dl, fm, r, k, ⟨L, D, F, R, ad2, ac2, am2, rfl, hX⟩, ⟨L2, D2, F2, G2, J, rfl, hM⟩⟩) hP hD hS
  · exact absurd hEq c263

set_option maxHeartbeats 4000000 in
set_option maxRecDepth 100000 in
theorem law_c6 {p : Program} {l : Launch} {e : Env} {s : State} {m : MethodId} {b : Nat} {below : List Frame} {meth : Method} {c : Code} {Q : State → Prop} {dd : va_G} {A : Nat → Prop} {g : XG} {h : MG} {L0 : Nat} {xs : Nat → Int32} (hx : p.tables.exec = Jvm.exec) (hb : c.code = cL_law) (hts : ∀ w ∈ lw_all, w.before #[Value.ref b] s = true) (hown : s.vm.findClass R_law = some m.cls) (hml : c.maxLocals = 4) (hA : ∀ q : Nat, s.heap.size ≤ q → A q) (hscr : va_X b L0 xs s s.heap) (hbl : b < s.heap.size) (hbA : ¬ A b) (hL0 : L0 ≤ 256) (hKX : va_K dd vwCl (tyX g) s) (hKM : va_K dd vwCl (tyM h) s) {i : Nat} (hi : i + 4 ≤ L0) {ls : Array Slot} (hl : lv_has ls 4 [(0, .ref b), (1, .ref g.1), (2, .ref h.1), (3, .int (nI i))]) (kx : ∀ (u : XS) (v : MS) (H : Heap) (locs : List Loc), lj_IV u v → va_P dd vwCl (wX g u ++ wM h v) H → va_D A (wX g u ++ wM h v) → va_S A s.heap H locs → W p l e room_1 s m #[Value.ref b] below meth c H locs 600000 7290000 Q (F0 m 360 ls [])) :
    ∀ (u : XS) (v : MS) (H : Heap) (locs : List Loc), lj_IV u v → va_P dd vwCl (wX g u ++ wM h v) H → va_D A (wX g u ++ wM h v) → va_S A s.heap H locs → W p l e room_1 s m #[Value.ref b] below meth c H locs 600000 7290000 Q (F0 m 268 ls []) := by
  intro u v H locs hIV hP hD hS
  obtain ⟨len, dl, fm, r, k, ⟨L, D, F, R, ad, ac, am, rfl, hX⟩, ⟨L2, D2, F2, G, J, rfl, hM⟩⟩ := hIV
  refine lv_aload_n hx hb dL_law_268 rfl (lv_at hl 1 rfl) ?_
  refine z_callF (wf := wX g) (w2 := wM h (L2, D2, F2, G, J)) (n := 0) (As := []) (rest := []) ⟨hx, hb, hml, hown, hts⟩ hKX hP hD hS hA [0, 1, 2, 3, 4] [5, 6, 7, 8, 9, 10] rfl rfl (by decide) (by decide) (metX_leastTime l dd g L D F R ad ac am len dl fm r k hX ) (lw_V q111 q112 q113 q18 q114) (by decide +kernel) ⟨Nat.le_of_ble_eq_true rfl, Nat.le_of_ble_eq_true rfl⟩ (ci := 0) rfl rfl rfl rfl hl.1 rfl (Nat.le_of_ble_eq_true rfl) dL_law_269 ⟨Nat.le_refl _, Nat.le_refl _⟩ (fun r269 u269 H locs hpo269 hP hD hS => ?_)
  refine lv_aload_n hx hb dL_law_272 rfl (lv_at hl 2 rfl) ?_
  refine z_callF (wf := wM h) (w2 := wX g u269) (n := 0) (As := []) (rest := [.int r269]) ⟨hx, hb, hml, hown, hts⟩ hKM hP hD hS hA [0, 1, 2, 3, 4, 5] [6, 7, 8, 9, 10] rfl rfl (by decide) (by decide) (metM_leastTime l dd h L2 D2 F2 G J len dl fm hM ) (lw_V q212 q213 q214 q19 q215) (by decide +kernel) ⟨Nat.le_of_ble_eq_true rfl, Nat.le_of_ble_eq_true rfl⟩ (ci := 1) rfl rfl rfl rfl hl.1 rfl (Nat.le_of_ble_eq_true rfl) dL_law_273 ⟨Nat.le_refl _, Nat.le_refl _⟩ (fun r273 u273 H locs hpo273 hP hD hS => ?_)
  obtain ⟨hp1, ad2, ac2, am2, rfl⟩ := hpo269
  obtain ⟨hp2, G2, rfl⟩ := hpo273
  have hEq : r269 = r273 := lj_pleast_uniq hp1 hp2
  refine lv_icmp_eq (tgt := 360) hx hb dL_law_276 (by decide) (fun c276 => ?_) (fun c276 => ?_)
  · exact kx _ _ H locs (⟨len, dl, fm, r, k, ⟨L, D, F, R, ad2, ac2, am2, rfl, hX⟩, ⟨L2, D2, F2, G2, J, rfl, hM⟩⟩) hP hD hS
  · exact absurd hEq c276

set_option maxHeartbeats 4000000 in
set_option maxRecDepth 100000 in
theorem law_c7 {p : Program} {l : Launch} {e : Env} {s : State} {m : MethodId} {b : Nat} {below : List Frame} {meth : Method} {c : Code} {Q : State → Prop} {dd : va_G} {A : Nat → Prop} {g : XG} {h : MG} {L0 : Nat} {xs : Nat → Int32} (hx : p.tables.exec = Jvm.exec) (hb : c.code = cL_law) (hts : ∀ w ∈ lw_all, w.before #[Value.ref b] s = true) (hown : s.vm.findClass R_law = some m.cls) (hml : c.maxLocals = 4) (hA : ∀ q : Nat, s.heap.size ≤ q → A q) (hscr : va_X b L0 xs s s.heap) (hbl : b < s.heap.size) (hbA : ¬ A b) (hL0 : L0 ≤ 256) (hKX : va_K dd vwCl (tyX g) s) (hKM : va_K dd vwCl (tyM h) s) {i : Nat} (hi : i + 4 ≤ L0) {ls : Array Slot} (hl : lv_has ls 4 [(0, .ref b), (1, .ref g.1), (2, .ref h.1), (3, .int (nI i))]) (kx : ∀ (u : XS) (v : MS) (H : Heap) (locs : List Loc), lj_IV u v → va_P dd vwCl (wX g u ++ wM h v) H → va_D A (wX g u ++ wM h v) → va_S A s.heap H locs → W p l e room_1 s m #[Value.ref b] below meth c H locs 600000 7290000 Q (F0 m 360 ls [])) :
    ∀ (u : XS) (v : MS) (H : Heap) (locs : List Loc), lj_IV u v → va_P dd vwCl (wX g u ++ wM h v) H → va_D A (wX g u ++ wM h v) → va_S A s.heap H locs → W p l e room_1 s m #[Value.ref b] below meth c H locs 600000 7290000 Q (F0 m 281 ls []) := by
  intro u v H locs hIV hP hD hS
  obtain ⟨len, dl, fm, r, k, ⟨L, D, F, R, ad, ac, am, rfl, hX⟩, ⟨L2, D2, F2, G, J, rfl, hM⟩⟩ := hIV
  refine lv_aload_n hx hb dL_law_281 rfl (lv_at hl 1 rfl) ?_
  refine lv_aload_n hx hb dL_law_282 rfl (lv_at hl 0 rfl) ?_
  refine lv_iload_n hx hb dL_law_283 rfl (lv_at hl 3 rfl) ?_
  refine lv_iconst (v := nI 1) hx hb dL_law_284 (by decide) ?_
  refine lv_iadd hx hb dL_law_285 ?_
  refine lj_top (y := nI (i + 1)) (nI_add _ _) ?_
  refine y_sld hx hb hscr hbl hbA hS (j := i + 1) (by omega) (by omega) dL_law_286 ?_
  refine z_callF (wf := wX g) (w2 := wM h (L2, D2, F2, G, J)) (n := 1) (As := [.int (xs (i + 1))]) (rest := []) ⟨hx, hb, hml, hown, hts⟩ hKX hP hD hS hA [0, 1, 2, 3, 4] [5, 6, 7, 8, 9, 10] rfl rfl (by decide) (by decide) (metX_affordable l dd g L D F R ad ac am len dl fm r k hX (xs (i + 1))) (lw_V q115 q116 q117 q18 q118) (by decide +kernel) ⟨Nat.le_of_ble_eq_true rfl, Nat.le_of_ble_eq_true rfl⟩ (ci := 0) rfl rfl rfl rfl hl.1 rfl (Nat.le_of_ble_eq_true rfl) dL_law_287 ⟨Nat.le_refl _, Nat.le_refl _⟩ (fun r287 u287 H locs hpo287 hP hD hS => ?_)
  refine lv_aload_n hx hb dL_law_290 rfl (lv_at hl 2 rfl) ?_
  refine lv_aload_n hx hb dL_law_291 rfl (lv_at hl 0 rfl) ?_
  refine lv_iload_n hx hb dL_law_292 rfl (lv_at hl 3 rfl) ?_
  refine lv_iconst (v := nI 1) hx hb dL_law_293 (by decide) ?_
  refine lv_iadd hx hb dL_law_294 ?_
  refine lj_top (y := nI (i + 1)) (nI_add _ _) ?_
  refine y_sld hx hb hscr hbl hbA hS (j := i + 1) (by omega) (by omega) dL_law_295 ?_
  refine z_callF (wf := wM h) (w2 := wX g u287) (n := 1) (As := [.int (xs (i + 1))]) (rest := [.int r287]) ⟨hx, hb, hml, hown, hts⟩ hKM hP hD hS hA [0, 1, 2, 3, 4, 5] [6, 7, 8, 9, 10] rfl rfl (by decide) (by decide) (metM_affordable l dd h L2 D2 F2 G J len dl fm hM (xs (i + 1))) (lw_V q216 q217 q218 q19 q219) (by decide +kernel) ⟨Nat.le_of_ble_eq_true rfl, Nat.le_of_ble_eq_true rfl⟩ (ci := 1) rfl rfl rfl rfl hl.1 rfl (Nat.le_of_ble_eq_true rfl) dL_law_296 ⟨Nat.le_refl _, Nat.le_refl _⟩ (fun r296 u296 H locs hpo296 hP hD hS => ?_)
  obtain ⟨hp1, ad2, ac2, am2, rfl⟩ := hpo287
  obtain ⟨hp2, G2, rfl⟩ := hpo296
  have hEq : r287 = r296 := hp1.trans hp2.symm
  refine lv_icmp_eq (tgt := 360) hx hb dL_law_299 (by decide) (fun c299 => ?_) (fun c299 => ?_)
  · exact kx _ _ H locs (⟨len, dl, fm, r, k, ⟨L, D, F, R, ad2, ac2, am2, rfl, hX⟩, ⟨L2, D2, F2, G2, J, rfl, hM⟩⟩) hP hD hS
  · exact absurd hEq c299

set_option maxHeartbeats 4000000 in
set_option maxRecDepth 100000 in
theorem law_c8 {p : Program} {l : Launch} {e : Env} {s : State} {m : MethodId} {b : Nat} {below : List Frame} {meth : Method} {c : Code} {Q : State → Prop} {dd : va_G} {A : Nat → Prop} {g : XG} {h : MG} {L0 : Nat} {xs : Nat → Int32} (hx : p.tables.exec = Jvm.exec) (hb : c.code = cL_law) (hts : ∀ w ∈ lw_all, w.before #[Value.ref b] s = true) (hown : s.vm.findClass R_law = some m.cls) (hml : c.maxLocals = 4) (hA : ∀ q : Nat, s.heap.size ≤ q → A q) (hscr : va_X b L0 xs s s.heap) (hbl : b < s.heap.size) (hbA : ¬ A b) (hL0 : L0 ≤ 256) (hKX : va_K dd vwCl (tyX g) s) (hKM : va_K dd vwCl (tyM h) s) {i : Nat} (hi : i + 4 ≤ L0) {ls : Array Slot} (hl : lv_has ls 4 [(0, .ref b), (1, .ref g.1), (2, .ref h.1), (3, .int (nI i))]) (kx : ∀ (u : XS) (v : MS) (H : Heap) (locs : List Loc), lj_IV u v → va_P dd vwCl (wX g u ++ wM h v) H → va_D A (wX g u ++ wM h v) → va_S A s.heap H locs → W p l e room_1 s m #[Value.ref b] below meth c H locs 600000 7290000 Q (F0 m 360 ls [])) :
    ∀ (u : XS) (v : MS) (H : Heap) (locs : List Loc), lj_IV u v → va_P dd vwCl (wX g u ++ wM h v) H → va_D A (wX g u ++ wM h v) → va_S A s.heap H locs → W p l e room_1 s m #[Value.ref b] below meth c H locs 600000 7290000 Q (F0 m 304 ls []) := by
  intro u v H locs hIV hP hD hS
  obtain ⟨len, dl, fm, r, k, ⟨L, D, F, R, ad, ac, am, rfl, hX⟩, ⟨L2, D2, F2, G, J, rfl, hM⟩⟩ := hIV
  refine lv_aload_n hx hb dL_law_304 rfl (lv_at hl 1 rfl) ?_
  refine lv_aload_n hx hb dL_law_305 rfl (lv_at hl 0 rfl) ?_
  refine lv_iload_n hx hb dL_law_306 rfl (lv_at hl 3 rfl) ?_
  refine lv_iconst (v := nI 1) hx hb dL_law_307 (by decide) ?_
  refine lv_iadd hx hb dL_law_308 ?_
  refine lj_top (y := nI (i + 1)) (nI_add _ _) ?_
  refine y_sld hx hb hscr hbl hbA hS (j := i + 1) (by omega) (by omega) dL_law_309 ?_
  refine lv_aload_n hx hb dL_law_310 rfl (lv_at hl 0 rfl) ?_
  refine lv_iload_n hx hb dL_law_311 rfl (lv_at hl 3 rfl) ?_
  refine lv_iconst (v := nI 2) hx hb dL_law_312 (by decide) ?_
  refine lv_iadd hx hb dL_law_313 ?_
  refine lj_top (y := nI (i + 2)) (nI_add _ _) ?_
  refine y_sld hx hb hscr hbl hbA hS (j := i + 2) (by omega) (by omega) dL_law_314 ?_
  refine z_callF (wf := wX g) (w2 := wM h (L2, D2, F2, G, J)) (n := 2) (As := [.int (xs (i + 1)), .int (xs (i + 2))]) (rest := []) ⟨hx, hb, hml, hown, hts⟩ hKX hP hD hS hA [0, 1, 2, 3, 4] [5, 6, 7, 8, 9, 10] rfl rfl (by decide) (by decide) (metX_welcome l dd g L D F R ad ac am len dl fm r k hX (xs (i + 1)) (xs (i + 2))) (lw_V q119 q120 q121 q18 q122) (by decide +kernel) ⟨Nat.le_of_ble_eq_true rfl, Nat.le_of_ble_eq_true rfl⟩ (ci := 0) rfl rfl rfl rfl hl.1 rfl (Nat.le_of_ble_eq_true rfl) dL_law_315 ⟨Nat.le_refl _, Nat.le_refl _⟩ (fun r315 u315 H locs hpo315 hP hD hS => ?_)
  refine lv_aload_n hx hb dL_law_318 rfl (lv_at hl 2 rfl) ?_
  refine lv_aload_n hx hb dL_law_319 rfl (lv_at hl 0 rfl) ?_
  refine lv_iload_n hx hb dL_law_320 rfl (lv_at hl 3 rfl) ?_
  refine lv_iconst (v := nI 1) hx hb dL_law_321 (by decide) ?_
  refine lv_iadd hx hb dL_law_322 ?_
  refine lj_top (y := nI (i + 1)) (nI_add _ _) ?_
  refine y_sld hx hb hscr hbl hbA hS (j := i + 1) (by omega) (by omega) dL_law_323 ?_
  refine lv_aload_n hx hb dL_law_324 rfl (lv_at hl 0 rfl) ?_
  refine lv_iload_n hx hb dL_law_325 rfl (lv_at hl 3 rfl) ?_
  refine lv_iconst (v := nI 2) hx hb dL_law_326 (by decide) ?_
  refine lv_iadd hx hb dL_law_327 ?_
  refine lj_top (y := nI (i + 2)) (nI_add _ _) ?_
  refine y_sld hx hb hscr hbl hbA hS (j := i + 2) (by omega) (by omega) dL_law_328 ?_
  refine z_callF (wf := wM h) (w2 := wX g u315) (n := 2) (As := [.int (xs (i + 1)), .int (xs (i + 2))]) (rest := [.int r315]) ⟨hx, hb, hml, hown, hts⟩ hKM hP hD hS hA [0, 1, 2, 3, 4, 5] [6, 7, 8, 9, 10] rfl rfl (by decide) (by decide) (metM_welcome l dd h L2 D2 F2 G J len dl fm hM (xs (i + 1)) (xs (i + 2))) (lw_V q221 q222 q223 q19 q224) (by decide +kernel) ⟨Nat.le_of_ble_eq_true rfl, Nat.le_of_ble_eq_true rfl⟩ (ci := 1) rfl rfl rfl rfl hl.1 rfl (Nat.le_of_ble_eq_true rfl) dL_law_329 ⟨Nat.le_refl _, Nat.le_refl _⟩ (fun r329 u329 H locs hpo329 hP hD hS => ?_)
  obtain ⟨hp1, hv1⟩ := hpo315
  obtain ⟨hp2, hv2⟩ := hpo329
  have hEq : r315 = r329 := hp1.trans hp2.symm
  refine lv_icmp_eq (tgt := 360) hx hb dL_law_332 (by decide) (fun c332 => ?_) (fun c332 => ?_)
  · exact kx _ _ H locs (⟨len, dl, fm, r, k, hv1, hv2⟩) hP hD hS
  · exact absurd hEq c332

set_option maxHeartbeats 4000000 in
set_option maxRecDepth 100000 in
theorem law_c9 {p : Program} {l : Launch} {e : Env} {s : State} {m : MethodId} {b : Nat} {below : List Frame} {meth : Method} {c : Code} {Q : State → Prop} {dd : va_G} {A : Nat → Prop} {g : XG} {h : MG} {L0 : Nat} {xs : Nat → Int32} (hx : p.tables.exec = Jvm.exec) (hb : c.code = cL_law) (hts : ∀ w ∈ lw_all, w.before #[Value.ref b] s = true) (hown : s.vm.findClass R_law = some m.cls) (hml : c.maxLocals = 4) (hA : ∀ q : Nat, s.heap.size ≤ q → A q) (hscr : va_X b L0 xs s s.heap) (hbl : b < s.heap.size) (hbA : ¬ A b) (hL0 : L0 ≤ 256) (hKX : va_K dd vwCl (tyX g) s) (hKM : va_K dd vwCl (tyM h) s) {i : Nat} (hi : i + 4 ≤ L0) {ls : Array Slot} (hl : lv_has ls 4 [(0, .ref b), (1, .ref g.1), (2, .ref h.1), (3, .int (nI i))]) (kx : ∀ (u : XS) (v : MS) (H : Heap) (locs : List Loc), lj_IV u v → va_P dd vwCl (wX g u ++ wM h v) H → va_D A (wX g u ++ wM h v) → va_S A s.heap H locs → W p l e room_1 s m #[Value.ref b] below meth c H locs 600000 7290000 Q (F0 m 360 ls [])) :
    ∀ (u : XS) (v : MS) (H : Heap) (locs : List Loc), lj_IV u v → va_P dd vwCl (wX g u ++ wM h v) H → va_D A (wX g u ++ wM h v) → va_S A s.heap H locs → W p l e room_1 s m #[Value.ref b] below meth c H locs 600000 7290000 Q (F0 m 337 ls []) := by
  intro u v H locs hIV hP hD hS
  obtain ⟨len, dl, fm, r, k, ⟨L, D, F, R, ad, ac, am, rfl, hX⟩, ⟨L2, D2, F2, G, J, rfl, hM⟩⟩ := hIV
  refine lv_aload_n hx hb dL_law_337 rfl (lv_at hl 1 rfl) ?_
  refine lv_aload_n hx hb dL_law_338 rfl (lv_at hl 0 rfl) ?_
  refine lv_iload_n hx hb dL_law_339 rfl (lv_at hl 3 rfl) ?_
  refine lv_iconst (v := nI 1) hx hb dL_law_340 (by decide) ?_
  refine lv_iadd hx hb dL_law_341 ?_
  refine lj_top (y := nI (i + 1)) (nI_add _ _) ?_
  refine y_sld hx hb hscr hbl hbA hS (j := i + 1) (by omega) (by omega) dL_law_342 ?_
  refine z_callF (wf := wX g) (w2 := wM h (L2, D2, F2, G, J)) (n := 1) (As := [.int (xs (i + 1))]) (rest := []) ⟨hx, hb, hml, hown, hts⟩ hKX hP hD hS hA [0, 1, 2, 3, 4] [5, 6, 7, 8, 9, 10] rfl rfl (by decide) (by decide) (metX_elapse l dd g L D F R ad ac am len dl fm r k hX (xs (i + 1))) (lw_V q123 q124 q125 q18 q126) (by decide +kernel) ⟨Nat.le_of_ble_eq_true rfl, Nat.le_of_ble_eq_true rfl⟩ (ci := 0) rfl rfl rfl rfl hl.1 rfl (Nat.le_of_ble_eq_true rfl) dL_law_343 ⟨Nat.le_refl _, Nat.le_refl _⟩ (fun r343 u343 H locs hpo343 hP hD hS => ?_)
  refine lv_aload_n hx hb dL_law_346 rfl (lv_at hl 2 rfl) ?_
  refine lv_aload_n hx hb dL_law_347 rfl (lv_at hl 0 rfl) ?_
  refine lv_iload_n hx hb dL_law_348 rfl (lv_at hl 3 rfl) ?_
  refine lv_iconst (v := nI 1) hx hb dL_law_349 (by decide) ?_
  refine lv_iadd hx hb dL_law_350 ?_
  refine lj_top (y := nI (i + 1)) (nI_add _ _) ?_
  refine y_sld hx hb hscr hbl hbA hS (j := i + 1) (by omega) (by omega) dL_law_351 ?_
  refine z_callF (wf := wM h) (w2 := wX g u343) (n := 1) (As := [.int (xs (i + 1))]) (rest := [.int r343]) ⟨hx, hb, hml, hown, hts⟩ hKM hP hD hS hA [0, 1, 2, 3, 4, 5] [6, 7, 8, 9, 10] rfl rfl (by decide) (by decide) (metM_elapse l dd h L2 D2 F2 G J len dl fm hM (xs (i + 1))) (lw_V q229 q230 q231 q19 q232) (by decide +kernel) ⟨Nat.le_of_ble_eq_true rfl, Nat.le_of_ble_eq_true rfl⟩ (ci := 1) rfl rfl rfl rfl hl.1 rfl (Nat.le_of_ble_eq_true rfl) dL_law_352 ⟨Nat.le_refl _, Nat.le_refl _⟩ (fun r352 u352 H locs hpo352 hP hD hS => ?_)
  obtain ⟨len2, dl2, r2, k2, hp1, hv1⟩ := hpo343
  obtain ⟨len3, dl3, hp2, hv2⟩ := hpo352
  obtain ⟨hEq, rfl, rfl⟩ := lj_pel_uniq hp1 hp2
  refine lv_icmp_eq (tgt := 360) hx hb dL_law_355 (by decide) (fun c355 => ?_) (fun c355 => ?_)
  · exact kx _ _ H locs (⟨_, _, _, _, _, hv1, hv2⟩) hP hD hS
  · exact absurd hEq c355
end
section
/-! the law's loop and its start -/
theorem lj_gt {L i : Nat} (hL : L ≤ 256) (hi : i ≤ 300) (h : ¬ nI L - nI 4 < nI i) : i + 4 ≤ L := by
  rcases Nat.lt_or_ge L 4 with z | z
  · have h1 : nI L - nI 4 < 0 := pk_sneg (by omega) z
    refine absurd ?_ h
    rw [Int32.lt_iff_toInt_lt] at h1 ⊢
    rw [nI_toInt (by omega)]
    have : (0 : Int32).toInt = 0 := by decide
    omega
  · rw [lj_sub z, nI_ltI (by omega) (by omega)] at h
    omega

set_option maxHeartbeats 4000000 in
set_option maxRecDepth 100000 in
theorem law_loop {p : Program} {l : Launch} {e : Env} {s : State} {m : MethodId} {b : Nat} {below : List Frame} {meth : Method} {c : Code} {dd : va_G} {A : Nat → Prop} {g : XG} {h : MG} {L0 : Nat} {xs : Nat → Int32} (hx : p.tables.exec = Jvm.exec) (hb : c.code = cL_law) (hts : ∀ w ∈ lw_all, w.before #[Value.ref b] s = true) (hown : s.vm.findClass R_law = some m.cls) (hml : c.maxLocals = 4) (hA : ∀ q : Nat, s.heap.size ≤ q → A q) (hscr : va_X b L0 xs s s.heap) (hbl : b < s.heap.size) (hbA : ¬ A b) (hL0 : L0 ≤ 256) (hKX : va_K dd vwCl (tyX g) s) (hKM : va_K dd vwCl (tyM h) s) (hr : meth.sig.returnType = ret) (hlocks : meth.locks = false) (hAe : ∀ q : Nat, A q → s.heap.size ≤ q) :
    ∀ (n i : Nat) (u : XS) (v : MS) (H : Heap) (locs : List Loc) (ls : Array Slot), L0 - i < n → i ≤ 300 → lj_IV u v → va_P dd vwCl (wX g u ++ wM h v) H → va_D A (wX g u ++ wM h v) → va_S A s.heap H locs → lv_has ls 4 [(0, .ref b), (1, .ref g.1), (2, .ref h.1), (3, .int (nI i))] → W p l e room_1 s m #[Value.ref b] below meth c H locs 600000 7290000 (lw_Z below #[Value.ref b] s) (F0 m 18 ls []) := by
  intro n
  induction n with
  | zero =>
    intro i u v H locs ls hn
    exact absurd hn (Nat.not_lt_zero _)
  | succ n ih =>
    intro i u v H locs ls hn hi hIV hP hD hS hl
    refine lv_iload_n hx hb dL_law_18 rfl (lv_at hl 3 rfl) ?_
    refine lv_aload_n hx hb dL_law_19 rfl (lv_at hl 0 rfl) ?_
    refine va_slen hx hb hscr hbl hbA hS dL_law_20 ?_
    refine lv_iconst (v := nI 4) hx hb dL_law_21 (by decide) ?_
    refine lv_isub hx hb dL_law_22 ?_
    refine lj_top (y := nI L0 - nI 4) rfl ?_
    refine lv_icmp_gt (tgt := 366) hx hb dL_law_23 (by decide) (fun c23 => ?_) (fun c23 => ?_)
    · refine lv_iconst (v := 1) hx hb dL_law_366 (by decide) ?_
      refine va_forget (fun q hq => hAe _ (hS.2.2 q hq)) ?_
      exact lw_ret hx hb hr hlocks dL_law_367
    · have hi4 := lj_gt hL0 hi c23
      refine lv_aload_n hx hb dL_law_26 rfl (lv_at hl 0 rfl) ?_
      refine lv_iload_n hx hb dL_law_27 rfl (lv_at hl 3 rfl) ?_
      refine y_sld hx hb hscr hbl hbA hS (j := i) (by omega) (by omega) dL_law_28 ?_
      refine lv_bipush (v := nI 15) hx hb dL_law_29 (by decide) ?_
      refine lv_iand hx hb dL_law_31 ?_
      refine lv_topi (fun w ew => ?_)
      have kx : ∀ (u : XS) (v : MS) (H : Heap) (locs : List Loc), lj_IV u v → va_P dd vwCl (wX g u ++ wM h v) H → va_D A (wX g u ++ wM h v) → va_S A s.heap H locs → W p l e room_1 s m #[Value.ref b] below meth c H locs 600000 7290000 (lw_Z below #[Value.ref b] s) (F0 m 360 ls []) := by
        intro u v H locs hIV hP hD hS
        refine lv_iinc (v := nI (i + 4)) (lv' := [(3, .int (nI (i + 4))), (0, .ref b), (1, .ref g.1), (2, .ref h.1)]) hx hb dL_law_360 hl (k := 3) rfl (lj_inc4 _) (by decide) rfl (fun ls hl => ?_)
        refine lv_goto (tgt := 18) hx hb dL_law_363 (by decide) ?_
        exact ih (i + 4) u v H locs ls (by omega) (by omega) hIV hP hD hS (lv_sub hl [1, 2, 3, 0] rfl)
      by_cases hw : w.toInt < 0 ∨ 9 < w.toInt
      · exact lv_tableOut hx hb dL_law_32 hw (tgt := 360) (by decide) (kx u v H locs hIV hP hD hS)
      · have h10 : w.toInt = 0 ∨ w.toInt = 1 ∨ w.toInt = 2 ∨ w.toInt = 3 ∨ w.toInt = 4 ∨ w.toInt = 5 ∨ w.toInt = 6 ∨ w.toInt = 7 ∨ w.toInt = 8 ∨ w.toInt = 9 := by omega
        rcases h10 with e | e | e | e | e | e | e | e | e | e
        · exact lv_tableIn (off := 56) (tgt := 88) hx hb dL_law_32 (by omega) (by omega) (by rw [e]; rfl) (by decide) (law_c0 hx hb hts hown hml hA hscr hbl hbA hL0 hKX hKM hi4 hl kx u v H locs hIV hP hD hS)
        · exact lv_tableIn (off := 115) (tgt := 147) hx hb dL_law_32 (by omega) (by omega) (by rw [e]; rfl) (by decide) (law_c1 hx hb hts hown hml hA hscr hbl hbA hL0 hKX hKM hi4 hl kx u v H locs hIV hP hD hS)
        · exact lv_tableIn (off := 138) (tgt := 170) hx hb dL_law_32 (by omega) (by omega) (by rw [e]; rfl) (by decide) (law_c2 hx hb hts hown hml hA hscr hbl hbA hL0 hKX hKM hi4 hl kx u v H locs hIV hP hD hS)
        · exact lv_tableIn (off := 187) (tgt := 219) hx hb dL_law_32 (by omega) (by omega) (by rw [e]; rfl) (by decide) (law_c3 hx hb hts hown hml hA hscr hbl hbA hL0 hKX hKM hi4 hl kx u v H locs hIV hP hD hS)
        · exact lv_tableIn (off := 200) (tgt := 232) hx hb dL_law_32 (by omega) (by omega) (by rw [e]; rfl) (by decide) (law_c4 hx hb hts hown hml hA hscr hbl hbA hL0 hKX hKM hi4 hl kx u v H locs hIV hP hD hS)
        · exact lv_tableIn (off := 223) (tgt := 255) hx hb dL_law_32 (by omega) (by omega) (by rw [e]; rfl) (by decide) (law_c5 hx hb hts hown hml hA hscr hbl hbA hL0 hKX hKM hi4 hl kx u v H locs hIV hP hD hS)
        · exact lv_tableIn (off := 236) (tgt := 268) hx hb dL_law_32 (by omega) (by omega) (by rw [e]; rfl) (by decide) (law_c6 hx hb hts hown hml hA hscr hbl hbA hL0 hKX hKM hi4 hl kx u v H locs hIV hP hD hS)
        · exact lv_tableIn (off := 249) (tgt := 281) hx hb dL_law_32 (by omega) (by omega) (by rw [e]; rfl) (by decide) (law_c7 hx hb hts hown hml hA hscr hbl hbA hL0 hKX hKM hi4 hl kx u v H locs hIV hP hD hS)
        · exact lv_tableIn (off := 272) (tgt := 304) hx hb dL_law_32 (by omega) (by omega) (by rw [e]; rfl) (by decide) (law_c8 hx hb hts hown hml hA hscr hbl hbA hL0 hKX hKM hi4 hl kx u v H locs hIV hP hD hS)
        · exact lv_tableIn (off := 305) (tgt := 337) hx hb dL_law_32 (by omega) (by omega) (by rw [e]; rfl) (by decide) (law_c9 hx hb hts hown hml hA hscr hbl hbA hL0 hKX hKM hi4 hl kx u v H locs hIV hP hD hS)

set_option maxHeartbeats 4000000 in
set_option maxRecDepth 100000 in
/-- from the entry, for every script of at most 256 ints, the law comes to its end with true -/
theorem whole_start {p : Program} {e : Env} {s : State} {m : MethodId} {below : List Frame} {meth : Method} {c : Code} (l : Launch) {b L : Nat} {xs : Nat → Int32} (hL : L ≤ 256) (C0 : lw_At p s m meth c b L xs) : W p l e room_1 s m #[Value.ref b] below meth c s.heap [] 0 0 (lw_Z below #[Value.ref b] s) (entryFrame m ([Value.ref b] : List Value).toArray 4) := by
  obtain ⟨hx, hb, hr, hml, hown, hts0, hscr, hbl, hlocks, hgv⟩ := C0
  have hts : ∀ w ∈ lw_all, w.before #[Value.ref b] s = true := fun w h => hts0 w (lw_all_tbl h)
  obtain ⟨c0_, iS0, hKn0⟩ := u_known (C := RX0) (T := TX0) (N := 9) (n := 9) hts in_X0 (hts _ q21)
  obtain ⟨c1_, iS1, hKn1⟩ := u_known (C := RX1) (T := TX1) (N := 5) (n := 5) hts in_X1 (hts _ q129)
  obtain ⟨dd, hdd⟩ : ∃ dd : va_G, dd = ((fun k => if k = 0 then c0_ else c1_), (fun k => if k = 0 then iS0 else iS1)) := ⟨_, rfl⟩
  have hK : va_K dd vwCl [] s := by
    refine ⟨?_, fun k q hk => by cases hk⟩
    intro k q hq
    rw [hdd]
    match k, hq with
    | 0, hq => cases hq; exact hKn0
    | 1, hq => cases hq; exact hKn1
    | k + 2, hq => simp [vwCl] at hq
  obtain ⟨A, hAe⟩ : ∃ A : Nat → Prop, A = fun q => s.heap.size ≤ q := ⟨_, rfl⟩
  have hA : ∀ q : Nat, s.heap.size ≤ q → A q := fun q h => by rw [hAe]; exact h
  have hA2 : ∀ q : Nat, A q → s.heap.size ≤ q := fun q h => by rw [hAe] at h; exact h
  have hbA : ¬ A b := fun h => by have := hA2 b h; omega
  have hP : va_P dd vwCl [] s.heap := fun k q h => by cases h
  have hD : va_D A [] := ⟨fun i j p q h => by (cases h), fun k q h => by (cases h)⟩
  have hS : va_S A s.heap s.heap [] := va_S.rf
  have hl := lv_entry ([.ref b]) (n := 4) (Nat.le_of_ble_eq_true rfl)
  rw [lg_entry_eq]
  generalize (lg_sl ([.ref b]) ++ List.replicate (4 - (lg_sl ([.ref b])).length) Slot.unset).toArray = ls at hl ⊢
  have hl : lv_has ls 4 [(0, .ref b)] := hl
  refine va_new (ci := 0) (fs := xf0) (C := RX0) (T := TX0) (N := 9) hx hb hts in_X0 tyX0 tyX0_ok hown (hts _ q20) (hts _ q21) (hts _ q18) hK hP hD hS hA rfl (fun j hj => by rcases (show j = 0 ∨ j = 1 ∨ j = 2 ∨ j = 3 ∨ j = 4 ∨ j = 5 ∨ j = 6 ∨ j = 7 ∨ j = 8 by omega) with rfl | rfl | rfl | rfl | rfl | rfl | rfl | rfl | rfl <;> rfl) (Nat.le_of_ble_eq_true rfl) (Nat.le_of_ble_eq_true rfl) dL_law_0 (fun qX H hP hD hS => ?_)
  have hP : va_P dd vwCl ([] ++ [(qX, .inr (0, xf0))]) H := hP
  have hD : va_D A ([] ++ [(qX, .inr (0, xf0))]) := hD
  refine lv_dup hx hb dL_law_3 rfl ?_
  have hPc := hP.sub (ws' := [(qX, .inr (0, xf0))]) [0] rfl
  have hDc := hD.sub (ws' := [(qX, .inr (0, xf0))]) [0] (by decide) rfl
  have hKc := hK.sub (tys' := []) [] rfl
  have hFc := va_free (wc := [(qX, .inr (0, xf0))]) hD hS hA [0] rfl
  refine va_callv (va_runI (As := []) (rest := [.ref qX]) ⟨hx, hb, hml, hown, hts⟩ (metX_init l dd qX H.size) (cwI 0 hts (lw_meth q24) rfl rfl rfl (hts _ q18) (hts _ q22) (hts _ q23) rfl (by decide +kernel) ⟨Nat.le_of_ble_eq_true rfl, Nat.le_of_ble_eq_true rfl⟩) ⟨fun a U g mk q => by obtain ⟨q0, q1, qP, qK, qD⟩ := q; exact ⟨q0, q1, qP, va_K.moved (u := U) (U := U.calling g mk a) (Vm.Alike.refl U.vm) qK, qD⟩, fun U hU hW => ⟨rfl, by rw [hU], by rw [hU]; exact hPc, va_K.moved hW.alike hKc, hDc.weaken (fun _ _ _ _ => trivial)⟩⟩ rfl rfl hl.1 rfl (lv_room (Nat.le_of_ble_eq_true rfl)) dL_law_4 ⟨Nat.le_of_ble_eq_true rfl, Nat.le_of_ble_eq_true rfl⟩) hS (fun q _ h => hFc q h) hFc (fun g t H1 locs ht hvm hw hB hz1 hk1 hS => ?_)
  have hw : g.1 = qX := hw
  obtain ⟨hP1, hK1, hD1⟩ := hB
  rw [ht] at hP1
  have hKX := va_K.moved hvm.symm hK1
  obtain ⟨hP2, hD2⟩ := va_join (wr := []) (w1 := wX g XS0) hP hD [0] [] rfl rfl (by decide) (by decide) hk1 hFc hP1 hD1
  rw [← hw]
  have hP : va_P dd vwCl (wX g XS0) H1 := hP2
  have hD : va_D A (wX g XS0) := hD2
  refine lv_astore_n (lv' := [(1, .ref g.1), (0, .ref b)]) hx hb dL_law_7 rfl hl (by decide) rfl (fun ls hl => ?_)
  refine va_new (ci := 1) (fs := mf0) (C := RX1) (T := TX1) (N := 5) hx hb hts in_X1 tyX1 tyX1_ok hown (hts _ q128) (hts _ q129) (hts _ q19) hK hP hD hS hA rfl (fun j hj => by rcases (show j = 0 ∨ j = 1 ∨ j = 2 ∨ j = 3 ∨ j = 4 by omega) with rfl | rfl | rfl | rfl | rfl <;> rfl) (Nat.le_of_ble_eq_true rfl) (Nat.le_of_ble_eq_true rfl) dL_law_8 (fun qM H hP hD hS => ?_)
  have hP : va_P dd vwCl (wX g XS0 ++ [(qM, .inr (1, mf0))]) H := hP
  have hD : va_D A (wX g XS0 ++ [(qM, .inr (1, mf0))]) := hD
  refine lv_dup hx hb dL_law_11 rfl ?_
  have hPc := hP.sub (ws' := [(qM, .inr (1, mf0))]) [5] rfl
  have hDc := hD.sub (ws' := [(qM, .inr (1, mf0))]) [5] (by decide) rfl
  have hKc := hK.sub (tys' := []) [] rfl
  have hFc := va_free (wc := [(qM, .inr (1, mf0))]) hD hS hA [5] rfl
  refine va_callv (va_runI (As := []) (rest := [.ref qM]) ⟨hx, hb, hml, hown, hts⟩ (metM_init l dd qM H.size) (cwI 0 hts (lw_meth q132) rfl rfl rfl (hts _ q19) (hts _ q130) (hts _ q131) rfl (by decide +kernel) ⟨Nat.le_of_ble_eq_true rfl, Nat.le_of_ble_eq_true rfl⟩) ⟨fun a U g mk q => by obtain ⟨q0, q1, qP, qK, qD⟩ := q; exact ⟨q0, q1, qP, va_K.moved (u := U) (U := U.calling g mk a) (Vm.Alike.refl U.vm) qK, qD⟩, fun U hU hW => ⟨rfl, by rw [hU], by rw [hU]; exact hPc, va_K.moved hW.alike hKc, hDc.weaken (fun _ _ _ _ => trivial)⟩⟩ rfl rfl hl.1 rfl (lv_room (Nat.le_of_ble_eq_true rfl)) dL_law_12 ⟨Nat.le_of_ble_eq_true rfl, Nat.le_of_ble_eq_true rfl⟩) hS (fun q _ h => hFc q h) hFc (fun h t H1 locs ht hvm hw hB hz1 hk1 hS => ?_)
  have hw : h.1 = qM := hw
  obtain ⟨hP1, hK1, hD1⟩ := hB
  rw [ht] at hP1
  have hKM := va_K.moved hvm.symm hK1
  obtain ⟨hP2, hD2⟩ := va_join (wr := wX g XS0) (w1 := wM h MS0) hP hD [5] [0, 1, 2, 3, 4] rfl rfl (by decide) (by decide) hk1 hFc hP1 hD1
  rw [← hw]
  have hP : va_P dd vwCl (wX g XS0 ++ wM h MS0) H1 := hP2
  have hD : va_D A (wX g XS0 ++ wM h MS0) := hD2
  refine lv_astore_n (lv' := [(2, .ref h.1), (1, .ref g.1), (0, .ref b)]) hx hb dL_law_15 rfl hl (by decide) rfl (fun ls hl => ?_)
  refine lv_iconst (v := nI 0) hx hb dL_law_16 (by decide) ?_
  refine lv_istore_n (lv' := [(3, .int (nI 0)), (2, .ref h.1), (1, .ref g.1), (0, .ref b)]) hx hb dL_law_17 rfl hl (by decide) rfl (fun ls hl => ?_)
  refine W.widen (k := 600000) (n := 7290000) (Nat.le_of_ble_eq_true rfl) (Nat.le_of_ble_eq_true rfl) ?_
  exact law_loop hx hb hts hown hml hA hscr hbl hbA hL hKX hKM hr hlocks hA2 (L + 1) 0 XS0 MS0 _ _ ls (by omega) (by omega) lj_IV_0 hP hD hS (lv_sub hl [3, 2, 1, 0] rfl)
end
section
/-! the claim -/
set_option maxHeartbeats 4000000 in
theorem lw_walk (l : Launch) (b : Addr) (xs : List Int32) : MetFree l x (headSpec (Jvm.Cond.code x code maxLocals ret :: tables_1) room_1) (lw_P b xs) (fun _ _ _ _ _ => True) lw_Q := by
  refine MetFree.of_bodyS (code := code) (maxLocals := maxLocals) (ret := ret) (by decide) ?_ ?_
  · intro args s m h hn
    obtain ⟨meth, c, h1, h2, h3, h4, h5, h6, -, -⟩ := Cond.code_spec hn (atoms_spec (ws := Jvm.Cond.code x code maxLocals ret :: tables_1) h _ List.mem_cons_self)
    exact ⟨meth, c, h1, h2, h3, h4, h5, h6⟩
  · intro p e s m args below meth c s₁ B hml0 hP _
    obtain ⟨rfl, hx, hbd, hgv⟩ := hP
    obtain ⟨scr, harrAt, hlist, hof, hsmall⟩ := hx
    obtain ⟨hcb, hkn, -, -⟩ := State.arrayAt?_spec harrAt
    have hown : s.vm.findClass R_law = some m.cls := findClass_of_methodNamed B.named
    have hts0 : ∀ c ∈ (Jvm.Cond.code x code maxLocals ret :: tables_1), c.before #[Value.ref b] s = true := atoms_spec (ws := Jvm.Cond.code x code maxLocals ret :: tables_1) B.pre
    have hts : ∀ w ∈ lw_tbl, w.before #[Value.ref b] s = true := k2_hts_sels lw_privs (fun w hw => hts0 w (List.mem_cons_of_mem _ hw)) lw_privs_ok
    have hml : c.maxLocals = 4 := B.maxLocals_eq (hts0 _ List.mem_cons_self)
    have X₀ : Stand p l e room_1 s m #[Value.ref b] below meth c s₁ [] 0 0 := Stand.of_body B
    have hh0 : s₁.heap = s.heap := by rw [B.state]; rfl
    have hsz : scr.slots.size = xs.length := by rw [← Array.length_toList, hlist, List.length_map]
    have hval : ∀ j : Nat, j < xs.length → scr.slots[j]? = some (.int (xs.getD j 0)) := fun j hj => by
      rw [← Array.getElem?_toList, hlist]
      simp [hj]
    have hbl : b < s.heap.size := (Array.getElem?_eq_some_iff.mp hcb).1
    have hX : va_X b xs.length (fun j => xs.getD j 0) s s.heap := ⟨scr, hcb, hof, hkn, hsz, hval⟩
    have K : W p l e room_1 s m #[Value.ref b] below meth c s₁.heap [] 0 0 (lw_Z below #[Value.ref b] s) (entryFrame m ([Value.ref b] : List Value).toArray 4) := by
      rw [hh0]
      exact whole_start l hbd ⟨B.exec, B.bytes, B.returns, hml, hown, hts, hX, hbl, B.notSynchronized, hgv⟩
    obtain ⟨t, a1, o, b1, b2, b3⟩ := K s₁ rfl X₀
    exact ⟨t, o, a1, b1, b2, b3⟩
theorem lw_pre_spec {args : Array Value} {s : State} (h : (Jvm.Cond.and given_1 narrow_1).before args s = true) (hr : rest_1_c.before args s = true) : ∃ (b : Addr) (xs : List Int32), lw_P b xs args s := by
  have hs := flat_of_before _ h
  have hq := flat_of_before _ hr
  have hc : (Cond.count 1).before args s = true := hs _ (by decide +kernel)
  have harr : (Cond.arrayOf (.arg 0) .int).before args s = true := hs _ (by decide +kernel)
  have hle : (Cond.le (.length (.arg 0)) (.int 256)).before args s = true := hs _ (by decide +kernel)
  have hlen : (Cond.isInt (.length (.arg 0))).before args s = true := hq _ (by decide +kernel)
  have hall : (Cond.all (.arg 0) (.isInt (.elem (.arg 0) (.index 0)))).before args s = true := hq _ (by decide +kernel)
  obtain ⟨b, xs, hb, hx⟩ := State.ints_of_pre rfl harr hlen hall
  have hsm : xs.length < 2 ^ 31 := hx.choose_spec.2.2.2
  have hev : (Term.length (.arg 0)).eval args s none [] s = some (.int xs.length.toInt32) := hx.length_eval hb
  have hv := Cond.le_ints hev (show (Term.int 256).eval args s none [] s = some (.int 256) from rfl)
  have hd : xs.length.toInt32 ≤ 256 := by
    simpa [Cond.before, Cond.holds, hv] using hle
  have hN : xs.length ≤ 256 := (Int32.ofNat_le_ofNat hsm (by decide)).mp (show Int32.ofNat xs.length ≤ Int32.ofNat 256 from hd)
  exact ⟨b, xs, Cond.one_arg hc (show args[0]? = some (.ref b) from hb), hx, hN, h⟩
theorem lw_comes (l : Launch) : Comes l x (Jvm.Cond.code x code maxLocals ret :: tables_1) room_1 (fun tb e args s => Calls_1 tb e args s ∧ rest_1 tb e args s ∧ Pre_1 tb e args s)
    (fun _ _ args s o t => lw_Q args s o t) := by
  intro p e ha hc hk s m args below hf hfit hheap happ hpre
  obtain ⟨b, xs, hP⟩ := lw_pre_spec hpre.2.2 hpre.2.1
  obtain ⟨k, o, h1, h2, h3, hQ⟩ := lw_walk l b xs p e ha hc hk s m args below hf ((Spec.applies_iff_loose hf).mp happ).1 hP trivial
  exact ⟨k, o, h1, h2, h3, hQ⟩
theorem lw_frame {s t : State} {o : Outcome} {args : Array Value} (h : Framed s o t [] 600000 7290000) :
    Framed s o t (fieldLocs frame_1_writes args s ++ arrayLocs frame_1_arrays args s ++ staticLocs frame_1_statics s) 600000 7290000 := h
theorem lw_limb (L : Cond) (hL : ∀ (args : Array Value) (s t : State), L.after args s (.returned (some (.int 1))) t = true) :
    ArmFor flags0 classFile x code maxLocals ret World_1 tables_1 room_1 Calls_1 rest_1 Pre_1
      (fun tb e a s o t => postC L tb e a s o t ∧ Framed s o t (fieldLocs frame_1_writes a s ++ arrayLocs frame_1_arrays a s ++ staticLocs frame_1_statics s) 600000 7290000) := by
  intro l _ _ _ p e ha hc hk s m args below hf hfit hheap happ hpre
  obtain ⟨k, o, h1, h2, h3, rfl, hF⟩ := lw_comes l p e ha hc hk s m args below hf hfit hheap happ hpre
  exact ⟨k, _, h1, h2, h3, hL args s _, lw_frame hF⟩
theorem i_vc : Claimed_1_1 ∧ Claimed_1_2 := ⟨lw_limb limb_1_1 (fun args s t => by simp [limb_1_1, Cond.after, Cond.holds, Cond.value]), lw_limb limb_1_2 (fun args s t => Cond.after_iff.mpr (by
  first | (rw [show limb_1_2 = Cond.eq .result (.int 1) from rfl, Cond.eq_ints (x := 1) (y := 1) rfl rfl]; simp; done) | (simp [limb_1_2, Cond.value, Term.eval]; done)))⟩
end
